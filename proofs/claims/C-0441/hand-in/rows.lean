section
/-! pure rows to paste: stores, nI and lN arithmetic, masks, shifts, narrowing, branches by naturals (pk_le, pk_lt, pk_eq), loops (lp1 .. lp16: the measure of the state; rp1 ..: recursion), negatives. Take what you need -/
theorem pk_us {f : Nat → Int32} {k : Nat} {x : Int32} : upd f k x k = x := if_pos rfl
theorem pk_un {f : Nat → Int32} {k j : Nat} {x : Int32} (h : j ≠ k) : upd f k x j = f j := if_neg h
theorem pk_uLs {f : Nat → Int64} {k : Nat} {x : Int64} : vp_updL f k x k = x := if_pos rfl
theorem pk_uLn {f : Nat → Int64} {k j : Nat} {x : Int64} (h : j ≠ k) : vp_updL f k x j = f j := if_neg h
theorem pk_sub {a b : Nat} (h : b ≤ a) : nI a - nI b = nI (a - b) := by
  obtain ⟨c, rfl⟩ : ∃ c, a = c + b := ⟨a - b, by omega⟩
  rw [← nI_add, Int32.add_sub_cancel, Nat.add_sub_cancel]
theorem pk_m1 (n : Nat) : nI (n + 1) + (-1) = nI n := by
  rw [← nI_1, Int32.add_assoc, show (1 : Int32) + (-1) = 0 from rfl, Int32.add_zero]
theorem pk_mul (a b : Nat) : nI a * nI b = nI (a * b) := (Int32.ofNat_mul a b).symm
theorem pk_div {a d : Nat} (ha : a < 2 ^ 31) (h0 : 0 < d) (hd : d < 2 ^ 31) : nI a / nI d = nI (a / d) := by
  apply Int32.toInt_inj.mp
  rw [lg_idiv_nonneg (by rw [nI_toInt ha]; omega) (by rw [nI_toInt hd]; omega), nI_toInt ha, nI_toInt hd, nI_toInt (Nat.lt_of_le_of_lt (Nat.div_le_self a d) ha)]
  first | rfl | exact (Int.natCast_ediv _ _).symm
theorem pk_rem {a d : Nat} (ha : a < 2 ^ 31) (h0 : 0 < d) (hd : d < 2 ^ 31) : nI a - nI a / nI d * nI d = nI (a % d) := by
  rw [pk_div ha h0 hd, pk_mul, pk_sub (Nat.div_mul_le_self a d)]
  exact congrArg nI (by have := Nat.div_add_mod' a d; omega)
theorem pk_sub_toInt {a b : Nat} (ha : a < 2 ^ 30) (hb : b < 2 ^ 30) : (nI a - nI b).toInt = (a : Int) - b := by
  rw [Int32.toInt_sub, nI_toInt (by omega), nI_toInt (by omega)]
  exact Int.bmod_eq_of_le (by omega) (by omega)
theorem pk_sneg {a b : Nat} (hb : b < 2 ^ 30) (h : a < b) : nI a - nI b < 0 := by
  rw [Int32.lt_iff_toInt_lt, pk_sub_toInt (by omega) hb, show (0 : Int32).toInt = 0 from by decide]
  omega
theorem pk_ix (x : Int32) {n : Nat} (hn : n < 2 ^ 31) : x < 0 ∨ nI n ≤ x ∨ ∃ j : Nat, j < n ∧ x = nI j := by
  by_cases h : x < 0
  · exact Or.inl h
  · obtain ⟨j, hj, rfl⟩ := nI_of h
    by_cases h2 : j < n
    · exact Or.inr (Or.inr ⟨j, h2, rfl⟩)
    · exact Or.inr (Or.inl (nI_le (by omega) hj))
theorem pk_le {x y : Int32} {A B : Prop} (a b : Nat) (f : a ≤ b → A) (g : b < a → B) (hx : x = nI a := by rfl) (hy : y = nI b := by rfl) (ha : a < 2 ^ 31 := by omega) (hb : b < 2 ^ 31 := by omega) : (x ≤ y → A) ∧ (¬ x ≤ y → B) := by
  subst hx hy
  rw [nI_leI ha hb]
  exact ⟨f, fun z => g (by omega)⟩
theorem pk_lt {x y : Int32} {A B : Prop} (a b : Nat) (f : a < b → A) (g : b ≤ a → B) (hx : x = nI a := by rfl) (hy : y = nI b := by rfl) (ha : a < 2 ^ 31 := by omega) (hb : b < 2 ^ 31 := by omega) : (x < y → A) ∧ (¬ x < y → B) := by
  subst hx hy
  rw [nI_ltI ha hb]
  exact ⟨f, fun z => g (by omega)⟩
theorem pk_eq {x y : Int32} {A B : Prop} (a b : Nat) (f : a = b → A) (g : a ≠ b → B) (hx : x = nI a := by rfl) (hy : y = nI b := by rfl) (ha : a < 2 ^ 31 := by omega) (hb : b < 2 ^ 31 := by omega) : (x = y → A) ∧ (¬ x = y → B) := by
  subst hx hy
  rw [nI_eq ha hb]
  exact ⟨f, g⟩
theorem pk_in {x : Int32} (n N : Nat) (h : n < N) (hx : x = nI n := by rfl) (hN : N < 2 ^ 31 := by omega) : vp_in x N := by
  subst hx
  exact vp_in_nI h hN
theorem pk_cl {x : Int32} (n : Nat) (hx : x = nI n := by rfl) (h : n < 2 ^ 31 := by omega) : x.toNatClampNeg = n := by
  subst hx
  exact nI_clamp h
theorem pk_tn {n : Nat} (h : n < 2 ^ 32) : (nI n).toBitVec.toNat = n := Nat.mod_eq_of_lt h
theorem pk_and (x : Int32) {m : Int32} (k : Nat) (hm : m.toBitVec.toNat = 2 ^ k - 1) : x &&& m = nI (x.toBitVec.toNat % 2 ^ k) := by
  apply Int32.toBitVec_inj.mp
  apply BitVec.eq_of_toNat_eq
  rw [Int32.toBitVec_and, BitVec.toNat_and, hm, Nat.and_two_pow_sub_one_eq_mod]
  show _ = (BitVec.ofNat 32 _).toNat
  rw [BitVec.toNat_ofNat]
  exact (Nat.mod_eq_of_lt (Nat.lt_of_le_of_lt (Nat.mod_le _ _) x.toBitVec.isLt)).symm
theorem pk_andN {n : Nat} (h : n < 2 ^ 32) {m : Int32} (k : Nat) (hm : m.toBitVec.toNat = 2 ^ k - 1) : nI n &&& m = nI (n % 2 ^ k) := by
  rw [pk_and _ k hm, pk_tn h]
theorem pk_andE (x : Int32) {m : Int32} (k : Nat) (hm : m.toBitVec.toNat = 2 ^ k - 1) : ∃ j : Nat, j < 2 ^ k ∧ x &&& m = nI j := ⟨_, Nat.mod_lt _ (Nat.two_pow_pos k), pk_and x k hm⟩
theorem pk_andIn (x : Int32) {m : Int32} (k : Nat) (hm : m.toBitVec.toNat = 2 ^ k - 1) (hk : k ≤ 30) : vp_in (x &&& m) (2 ^ k) := by
  obtain ⟨j, hj, e⟩ := pk_andE x k hm
  rw [e]
  exact vp_in_nI hj (Nat.lt_of_le_of_lt (Nat.pow_le_pow_right (by decide) hk) (by decide))
theorem pk_shl (a s : Int32) (k : Nat) (hs : (s.toBitVec.smod 32).toNat = k) : (a <<< s).toBitVec.toNat = a.toBitVec.toNat * 2 ^ k % 2 ^ 32 := by
  show (a.toBitVec <<< (s.toBitVec.smod 32).toNat).toNat = _
  rw [hs, BitVec.toNat_shiftLeft, Nat.shiftLeft_eq]
theorem pk_shlN {n : Nat} (s : Int32) (k : Nat) (hs : (s.toBitVec.smod 32).toNat = k) (h : n * 2 ^ k < 2 ^ 32) : nI n <<< s = nI (n * 2 ^ k) := by
  apply Int32.toBitVec_inj.mp
  apply BitVec.eq_of_toNat_eq
  have hn : n < 2 ^ 32 := Nat.lt_of_le_of_lt (Nat.le_mul_of_pos_right n (Nat.two_pow_pos k)) h
  rw [pk_shl _ _ k hs, pk_tn hn, pk_tn h, Nat.mod_eq_of_lt h]
theorem pk_shr (a s : Int32) (k : Nat) (hs : (s.toBitVec.smod 32).toNat = k) : (a >>> s).toInt = a.toInt >>> k := by
  show (a.toBitVec.sshiftRight (s.toBitVec.smod 32).toNat).toInt = _
  rw [hs, BitVec.toInt_sshiftRight]
  rfl
theorem pk_shrN {n : Nat} (h : n < 2 ^ 31) (s : Int32) (k : Nat) (hs : (s.toBitVec.smod 32).toNat = k) : nI n >>> s = nI (n / 2 ^ k) := by
  apply Int32.toInt_inj.mp
  have h2 : n / 2 ^ k ≤ n := Nat.div_le_self _ _
  rw [pk_shr _ _ k hs, nI_toInt h, nI_toInt (by omega), Int.shiftRight_eq_div_pow]
  rfl
theorem pk_ushr (x s : Int32) (k : Nat) (hs : ((s.toUInt32 &&& Int32.toUInt32 31).toBitVec % 32).toNat = k) : (x.toUInt32 >>> (s.toUInt32 &&& Int32.toUInt32 31)).toInt32.toBitVec.toNat = x.toBitVec.toNat / 2 ^ k := by
  have e : (x.toUInt32 >>> (s.toUInt32 &&& Int32.toUInt32 31)).toInt32.toBitVec = x.toBitVec >>> k := by
    rw [← hs]
    exact UInt32.toBitVec_shiftRight _ _
  rw [e, BitVec.toNat_ushiftRight, Nat.shiftRight_eq_div_pow]
theorem pk_ushrN {n : Nat} (hn : n < 2 ^ 32) (s : Int32) (k : Nat) (hs : ((s.toUInt32 &&& Int32.toUInt32 31).toBitVec % 32).toNat = k) : ((nI n).toUInt32 >>> (s.toUInt32 &&& Int32.toUInt32 31)).toInt32 = nI (n / 2 ^ k) := by
  apply Int32.toBitVec_inj.mp
  apply BitVec.eq_of_toNat_eq
  rw [pk_ushr _ s k hs, pk_tn hn, pk_tn (Nat.lt_of_le_of_lt (Nat.div_le_self _ _) hn)]
theorem pk_nb (z : Int32) : narrow .byte (.int z.toInt8.toInt32) = .int z.toInt8.toInt32 := congrArg Value.int (by simp)
theorem pk_ns (z : Int32) : narrow .short (.int z.toInt16.toInt32) = .int z.toInt16.toInt32 := congrArg Value.int (by simp)
theorem pk_fb (r : Int32) : fits .byte (.int r.toInt8.toInt32) = true := by
  have ⟨a, b⟩ := lg_i2b_range r
  have h1 : (-128 : Int32).toInt = -128 := by decide
  have h2 : (127 : Int32).toInt = 127 := by decide
  simp only [fits, Bool.and_eq_true, decide_eq_true_eq, Int32.le_iff_toInt_le, h1, h2]
  omega
theorem pk_fs (r : Int32) : fits .short (.int r.toInt16.toInt32) = true := by
  have ⟨a, b⟩ := lg_i2s_range r
  have h1 : (-32768 : Int32).toInt = -32768 := by decide
  have h2 : (32767 : Int32).toInt = 32767 := by decide
  simp only [fits, Bool.and_eq_true, decide_eq_true_eq, Int32.le_iff_toInt_le, h1, h2]
  omega
theorem pk_charN {q : Nat} (hq : q < 65536) : narrow .char (.int (nI q)) = .int (nI q) ∧ fits .char (.int (nI q)) = true := by
  constructor
  · have e : (nI q).toUInt32.toUInt16.toUInt32.toInt32 = nI q := by
      apply Int32.toBitVec_inj.mp
      apply BitVec.eq_of_toNat_eq
      show (nI q).toUInt32.toUInt16.toUInt32.toNat = q % 2 ^ 32
      rw [UInt16.toNat_toUInt32, UInt32.toNat_toUInt16, show (nI q).toUInt32.toNat = q % 2 ^ 32 from rfl]
      omega
    exact congrArg Value.int e
  · have a : (0 : Int32) ≤ nI q := nI_pos' (by omega)
    have b : nI q ≤ 65535 := nI_le (b := 65535) (by omega) (by decide)
    show (decide ((0 : Int32) ≤ nI q) && decide (nI q ≤ 65535)) = true
    rw [decide_eq_true a, decide_eq_true b]
    rfl
theorem pk_char (x : Int32) : (x.toUInt32 % 65536).toInt32 = nI (x.toBitVec.toNat % 65536) := by
  apply Int32.toBitVec_inj.mp
  apply BitVec.eq_of_toNat_eq
  rw [pk_tn (by omega)]
  show (x.toUInt32 % 65536).toNat = _
  rw [UInt32.toNat_mod]
  rfl
theorem pk_nc (x : Int32) : narrow .char (.int (x.toUInt32 % 65536).toInt32) = .int (x.toUInt32 % 65536).toInt32 := by
  rw [pk_char]
  exact (pk_charN (Nat.mod_lt _ (by decide))).1
theorem pk_fc (x : Int32) : fits .char (.int (x.toUInt32 % 65536).toInt32) = true := by
  rw [pk_char]
  exact (pk_charN (Nat.mod_lt _ (by decide))).2
theorem pk_vb (z : Int32) : vp_nar .byte z.toInt8.toInt32 = z.toInt8.toInt32 := by rw [vp_nar_byte]; simp
theorem pk_vs (z : Int32) : vp_nar .short z.toInt16.toInt32 = z.toInt16.toInt32 := by rw [vp_nar_short]; simp
theorem pk_vc (z : Int32) : vp_nar .char (z.toUInt32 % 65536).toInt32 = (z.toUInt32 % 65536).toInt32 := Value.int.inj (pk_nc z)
/-! rows on bits, shifts and unsigned numbers, to paste: each family out of a closed proof of our own, whole with what it rests on; each by itself clean at Lean in its own claim (generation 39, form 5). Take a family whole -/
/-! ===== Int32 by its bits: bt x i ===== -/
def bt (x : Int32) (i : Nat) : Bool := x.toBitVec.getLsbD i
theorem b_ext {x y : Int32} (h : ∀ i, i < 32 → bt x i = bt y i) : x = y := Int32.toBitVec_inj.mp (BitVec.eq_of_getLsbD_eq (fun i hi => h i hi))
theorem b_or (x y : Int32) (i : Nat) : bt (x ||| y) i = (bt x i || bt y i) := by unfold bt; rw [Int32.toBitVec_or, BitVec.getLsbD_or]
theorem b_and (x y : Int32) (i : Nat) : bt (x &&& y) i = (bt x i && bt y i) := by unfold bt; rw [Int32.toBitVec_and, BitVec.getLsbD_and]
theorem b_xor (x y : Int32) (i : Nat) : bt (x ^^^ y) i = (bt x i ^^ bt y i) := by unfold bt; rw [Int32.toBitVec_xor, BitVec.getLsbD_xor]
theorem b_big {x : Int32} {i : Nat} (h : 32 ≤ i) : bt x i = false := BitVec.getLsbD_of_ge _ _ h
theorem b_255 (i : Nat) : bt 255 i = decide (i < 8) := by
  rcases Nat.lt_or_ge i 32 with h | h
  · exact (by decide +kernel : ∀ i, i < 32 → bt 255 i = decide (i < 8)) i h
  · rw [b_big h, decide_eq_false (by omega)]
theorem b_65535 (i : Nat) : bt 65535 i = decide (i < 16) := by
  rcases Nat.lt_or_ge i 32 with h | h
  · exact (by decide +kernel : ∀ i, i < 32 → bt 65535 i = decide (i < 16)) i h
  · rw [b_big h, decide_eq_false (by omega)]
theorem b_m1 : ∀ i, i < 32 → bt (-1) i = true := by decide +kernel
theorem b_0 (i : Nat) : bt 0 i = false := BitVec.getLsbD_zero
theorem s_l : ∀ n, n < 32 → ((nI n &&& 31).toBitVec.smod 32).toNat = n := by decide +kernel
theorem s_u : ∀ n, n < 32 → (((nI n).toUInt32 &&& Int32.toUInt32 31).toBitVec % 32).toNat = n := by decide +kernel
theorem b_shl (n : Nat) (hn : n < 32) (x : Int32) {i : Nat} (hi : i < 32) : bt (x <<< (nI n &&& 31)) i = (decide (n ≤ i) && bt x (i - n)) := by
  unfold bt
  rw [Int32.toBitVec_shiftLeft]
  show (x.toBitVec <<< ((nI n &&& 31).toBitVec.smod 32).toNat).getLsbD i = _
  rw [s_l n hn, BitVec.getLsbD_shiftLeft]
  rcases Nat.lt_or_ge i n with h | h
  · simp [h, Nat.not_le.mpr h]
  · simp [hi, h, Nat.not_lt.mpr h]
theorem b_ushr (n : Nat) (hn : n < 32) (x : Int32) (i : Nat) : bt ((x.toUInt32 >>> ((nI n).toUInt32 &&& Int32.toUInt32 31)).toInt32) i = bt x (n + i) := by
  show (x.toUInt32 >>> ((nI n).toUInt32 &&& Int32.toUInt32 31)).toBitVec.getLsbD i = x.toUInt32.toBitVec.getLsbD (n + i)
  rw [UInt32.toBitVec_shiftRight]
  show (x.toUInt32.toBitVec >>> (((nI n).toUInt32 &&& Int32.toUInt32 31).toBitVec % 32).toNat).getLsbD i = _
  rw [s_u n hn, BitVec.getLsbD_ushiftRight]
theorem b_sshr (n : Nat) (hn : n < 32) (x : Int32) {i : Nat} (hi : i < 32) : bt (x >>> (nI n &&& 31)) i = if n + i < 32 then bt x (n + i) else bt x 31 := by
  unfold bt
  rw [Int32.toBitVec_shiftRight]
  show (x.toBitVec.sshiftRight ((nI n &&& 31).toBitVec.smod 32).toNat).getLsbD i = _
  rw [s_l n hn, BitVec.getLsbD_sshiftRight, BitVec.msb_eq_getLsbD_last]
  simp [hi]
theorem b_shl8 (x : Int32) {i : Nat} (hi : i < 32) : bt (x <<< ((8 : Int32) &&& 31)) i = (decide (8 ≤ i) && bt x (i - 8)) := b_shl 8 (by omega) x hi
theorem b_shl16 (x : Int32) {i : Nat} (hi : i < 32) : bt (x <<< ((16 : Int32) &&& 31)) i = (decide (16 ≤ i) && bt x (i - 16)) := b_shl 16 (by omega) x hi
theorem b_shl24 (x : Int32) {i : Nat} (hi : i < 32) : bt (x <<< ((24 : Int32) &&& 31)) i = (decide (24 ≤ i) && bt x (i - 24)) := b_shl 24 (by omega) x hi
theorem b_sshr8 (x : Int32) {i : Nat} (hi : i < 32) : bt (x >>> ((8 : Int32) &&& 31)) i = if 8 + i < 32 then bt x (8 + i) else bt x 31 := b_sshr 8 (by omega) x hi
/-! ===== nI under and, xor, >>>, one bit, 65535 ===== -/
theorem nx_and (a b : Nat) : nI a &&& nI b = nI (a &&& b) := by
  apply Int32.toBitVec_inj.1
  show BitVec.ofNat 32 a &&& BitVec.ofNat 32 b = BitVec.ofNat 32 (a &&& b)
  apply BitVec.eq_of_getLsbD_eq
  intro i hi
  simp [hi]
theorem nx_xor (a b : Nat) : nI a ^^^ nI b = nI (a ^^^ b) := by
  apply Int32.toBitVec_inj.1
  show BitVec.ofNat 32 a ^^^ BitVec.ofNat 32 b = BitVec.ofNat 32 (a ^^^ b)
  apply BitVec.eq_of_getLsbD_eq
  intro i hi
  simp [hi]
theorem nx_cnt : ∀ j : Fin 32, (UInt32.ofNat j.val &&& Int32.toUInt32 31).toNat % 32 = j.val := by decide +kernel
theorem nx_ush {k j : Nat} (hk : k < 65536) (hj : j < 32) : ((nI k).toUInt32 >>> ((nI j).toUInt32 &&& Int32.toUInt32 31)).toInt32 = nI (k >>> j) := by
  have hs : k >>> j ≤ k := by
    rw [Nat.shiftRight_eq_div_pow]
    exact Nat.div_le_self _ _
  have e2 : UInt32.ofNat k >>> (UInt32.ofNat j &&& Int32.toUInt32 31) = UInt32.ofNat (k >>> j) := by
    apply UInt32.toNat_inj.1
    have h1 : (UInt32.ofNat k).toNat = k := Nat.mod_eq_of_lt (by omega)
    have h2 : (UInt32.ofNat (k >>> j)).toNat = k >>> j := Nat.mod_eq_of_lt (by omega)
    rw [UInt32.toNat_shiftRight, nx_cnt ⟨j, hj⟩, h1, h2]
  show (UInt32.ofNat k >>> (UInt32.ofNat j &&& Int32.toUInt32 31)).toInt32 = _
  rw [e2]
  rfl
theorem nx_bit {k j : Nat} (hk : k < 65536) (hj : j < 16) : (((nI k).toUInt32 >>> ((nI j).toUInt32 &&& Int32.toUInt32 31)).toInt32 &&& 1) = 0 ↔ k.testBit j = false := by
  rw [nx_ush hk (by omega)]
  show nI (k >>> j) &&& nI 1 = 0 ↔ _
  rw [nx_and, Nat.and_one_is_mod, ← nI_0, nI_eq (by omega) (by omega), Nat.testBit_eq_decide_div_mod_eq, Nat.shiftRight_eq_div_pow, decide_eq_false_iff_not]
  generalize k / 2 ^ j = z
  omega
theorem nx_mod (k : Nat) : nI k &&& 65535 = nI (k % 65536) := by
  show nI k &&& nI 65535 = _
  rw [nx_and, show (65535 : Nat) = 2 ^ 16 - 1 from rfl, Nat.and_two_pow_sub_one_eq_mod]
theorem nx_m16 {k : Nat} (h : k < 65536) : nI k &&& 65535 = nI k := by rw [nx_mod, Nat.mod_eq_of_lt h]
theorem nx_mask (x : Int32) : ∃ k, k < 65536 ∧ x &&& 65535 = nI k := by
  have e : x = nI x.toBitVec.toNat := by
    apply Int32.toBitVec_inj.1
    show x.toBitVec = BitVec.ofNat 32 x.toBitVec.toNat
    simp
  refine ⟨x.toBitVec.toNat % 65536, Nat.mod_lt _ (by omega), ?_⟩
  rw [← nx_mod, ← e]
end
section
/-! ===== xor, sum and count of the first n values ===== -/
def mc_xs (f : Nat → Bool) : Nat → Bool
  | 0 => false
  | n + 1 => mc_xs f n ^^ f n
def mc_ns (f : Nat → Nat) : Nat → Nat
  | 0 => 0
  | n + 1 => mc_ns f n + f n
def mc_cnt (f : Nat → Bool) (n : Nat) : Nat := mc_ns (fun i => (f i).toNat) n

theorem mc_xs_congr {f g : Nat → Bool} : ∀ {n : Nat}, (∀ i, i < n → f i = g i) → mc_xs f n = mc_xs g n
  | 0, _ => rfl
  | n + 1, h => by
    show (mc_xs f n ^^ f n) = (mc_xs g n ^^ g n)
    rw [mc_xs_congr (fun i hi => h i (Nat.lt_succ_of_lt hi)), h n (Nat.lt_succ_self n)]
theorem mc_xs_xor (f g : Nat → Bool) : ∀ n : Nat, mc_xs (fun i => f i ^^ g i) n = (mc_xs f n ^^ mc_xs g n)
  | 0 => rfl
  | n + 1 => by
    show (mc_xs (fun i => f i ^^ g i) n ^^ (f n ^^ g n)) = ((mc_xs f n ^^ f n) ^^ (mc_xs g n ^^ g n))
    rw [mc_xs_xor f g n]
    cases mc_xs f n <;> cases mc_xs g n <;> cases f n <;> cases g n <;> rfl
theorem mc_xs_zero {f : Nat → Bool} : ∀ {n : Nat}, (∀ i, i < n → f i = false) → mc_xs f n = false
  | 0, _ => rfl
  | n + 1, h => by
    show (mc_xs f n ^^ f n) = false
    rw [mc_xs_zero (fun i hi => h i (Nat.lt_succ_of_lt hi)), h n (Nat.lt_succ_self n)]
    rfl
theorem mc_nt {b : Bool} (h : ¬ b = true) : b = false := by
  cases b
  · rfl
  · exact absurd rfl h
theorem mc_nf {b : Bool} (h : ¬ b = false) : b = true := by
  cases b
  · exact absurd rfl h
  · rfl
theorem mc_xs_ex {f : Nat → Bool} : ∀ {n : Nat}, mc_xs f n = true → ∃ i, i < n ∧ f i = true
  | 0, h => by cases h
  | n + 1, h => by
    by_cases hn : f n = true
    · exact ⟨n, Nat.lt_succ_self n, hn⟩
    · have h' : (mc_xs f n ^^ f n) = true := h
      rw [mc_nt hn, Bool.xor_false] at h'
      obtain ⟨i, hi, e⟩ := mc_xs_ex h'
      exact ⟨i, Nat.lt_succ_of_lt hi, e⟩
theorem mc_xs_pt {f : Nat → Bool} {k : Nat} : ∀ {n : Nat}, k < n → (∀ i, i < n → i ≠ k → f i = false) → mc_xs f n = f k
  | 0, h, _ => absurd h (Nat.not_lt_zero k)
  | n + 1, h, hz => by
    show (mc_xs f n ^^ f n) = f k
    by_cases e : k = n
    · subst e
      rw [mc_xs_zero (fun i hi => hz i (Nat.lt_succ_of_lt hi) (Nat.ne_of_lt hi)), Bool.false_xor]
    · rw [mc_xs_pt (n := n) (k := k) (by omega) (fun i hi hne => hz i (Nat.lt_succ_of_lt hi) hne), hz n (Nat.lt_succ_self n) (fun z => e z.symm), Bool.xor_false]
theorem mc_xs_swap (k : Nat → Nat → Bool) (a : Nat) : ∀ b : Nat, mc_xs (fun v => mc_xs (fun e => k v e) b) a = mc_xs (fun e => mc_xs (fun v => k v e) a) b
  | 0 => mc_xs_zero (fun _ _ => rfl)
  | b + 1 => by
    show mc_xs (fun v => mc_xs (fun e => k v e) b ^^ k v b) a = (mc_xs (fun e => mc_xs (fun v => k v e) a) b ^^ mc_xs (fun v => k v b) a)
    rw [mc_xs_xor (fun v => mc_xs (fun e => k v e) b) (fun v => k v b) a, mc_xs_swap k a b]

theorem mc_ns_congr {f g : Nat → Nat} : ∀ {n : Nat}, (∀ i, i < n → f i = g i) → mc_ns f n = mc_ns g n
  | 0, _ => rfl
  | n + 1, h => by
    show mc_ns f n + f n = mc_ns g n + g n
    rw [mc_ns_congr (fun i hi => h i (Nat.lt_succ_of_lt hi)), h n (Nat.lt_succ_self n)]
theorem mc_ns_le {f g : Nat → Nat} : ∀ {n : Nat}, (∀ i, i < n → f i ≤ g i) → mc_ns f n ≤ mc_ns g n
  | 0, _ => Nat.le_refl _
  | n + 1, h => Nat.add_le_add (mc_ns_le (fun i hi => h i (Nat.lt_succ_of_lt hi))) (h n (Nat.lt_succ_self n))
theorem mc_ns_add (f g : Nat → Nat) : ∀ n : Nat, mc_ns (fun i => f i + g i) n = mc_ns f n + mc_ns g n
  | 0 => rfl
  | n + 1 => by
    show mc_ns (fun i => f i + g i) n + (f n + g n) = mc_ns f n + f n + (mc_ns g n + g n)
    rw [mc_ns_add f g n]
    omega
theorem mc_ns_bd {f : Nat → Nat} {b : Nat} : ∀ {n : Nat}, (∀ i, i < n → f i ≤ b) → mc_ns f n ≤ n * b
  | 0, _ => by rw [Nat.zero_mul]; exact Nat.le_refl _
  | n + 1, h => by
    rw [Nat.succ_mul]
    exact Nat.add_le_add (mc_ns_bd (fun i hi => h i (Nat.lt_succ_of_lt hi))) (h n (Nat.lt_succ_self n))
theorem mc_ns_upd {f g : Nat → Nat} {k : Nat} : ∀ {n : Nat}, k < n → (∀ i, i < n → i ≠ k → f i = g i) → mc_ns f n + g k = mc_ns g n + f k
  | 0, h, _ => absurd h (Nat.not_lt_zero k)
  | n + 1, h, hz => by
    show mc_ns f n + f n + g k = mc_ns g n + g n + f k
    by_cases e : k = n
    · subst e
      rw [mc_ns_congr (f := f) (g := g) (n := k) (fun i hi => hz i (Nat.lt_succ_of_lt hi) (Nat.ne_of_lt hi))]
      omega
    · have h1 := mc_ns_upd (f := f) (g := g) (k := k) (n := n) (by omega) (fun i hi hne => hz i (Nat.lt_succ_of_lt hi) hne)
      have h2 := hz n (Nat.lt_succ_self n) (fun z => e z.symm)
      omega
theorem mc_ns_split (f : Nat → Nat) (a : Nat) : ∀ b : Nat, mc_ns f (a + b) = mc_ns f a + mc_ns (fun i => f (a + i)) b
  | 0 => rfl
  | b + 1 => by
    show mc_ns f (a + b) + f (a + b) = mc_ns f a + (mc_ns (fun i => f (a + i)) b + f (a + b))
    rw [mc_ns_split f a b, Nat.add_assoc]

/-! ===== xor of masks ===== -/
theorem mc_x1 (a b c : Nat) : (a ^^^ c) ^^^ b = (a ^^^ b) ^^^ c := by
  rw [Nat.xor_assoc, Nat.xor_comm c b, ← Nat.xor_assoc]
theorem mc_x3 (a b : Nat) : (a ^^^ b) ^^^ b = a := by
  rw [Nat.xor_assoc, Nat.xor_self, Nat.xor_zero]
theorem mc_x2 (a b c : Nat) : (a ^^^ c) ^^^ (b ^^^ c) = a ^^^ b := by
  rw [← Nat.xor_assoc, mc_x1 a b c, mc_x3]
theorem mc_x4 (a b : Nat) : a ^^^ (a ^^^ b) = b := by
  rw [← Nat.xor_assoc, Nat.xor_self, Nat.zero_xor]
theorem mc_pw {n m a : Nat} (hm : m < 2 ^ n) (ha : a < 2 ^ n) : (2 ^ n + m) ^^^ a = 2 ^ n + (m ^^^ a) := by
  apply Nat.eq_of_testBit_eq
  intro j
  have e1 : 2 ^ n + m = 2 ^ n * 1 + m := by rw [Nat.mul_one]
  have e2 : 2 ^ n + (m ^^^ a) = 2 ^ n * 1 + (m ^^^ a) := by rw [Nat.mul_one]
  rw [Nat.testBit_xor, e1, e2, Nat.testBit_two_pow_mul_add _ hm, Nat.testBit_two_pow_mul_add _ (Nat.xor_lt_two_pow hm ha)]
  by_cases h : j < n
  · rw [if_pos h, if_pos h, Nat.testBit_xor]
  · rw [if_neg h, if_neg h, Nat.testBit_lt_two_pow (Nat.lt_of_lt_of_le ha (Nat.pow_le_pow_right (by decide) (Nat.le_of_not_lt h))), Bool.xor_false]
theorem mc_ns_xor : ∀ (n : Nat) (f : Nat → Nat) (a : Nat), a < 2 ^ n → mc_ns (fun m => f (m ^^^ a)) (2 ^ n) = mc_ns f (2 ^ n)
  | 0, f, a, h => by
    have ha : a = 0 := by
      rw [Nat.pow_zero] at h
      omega
    subst ha
    exact mc_ns_congr (fun i _ => by rw [Nat.xor_zero])
  | n + 1, f, a, h => by
    have e2 : 2 ^ (n + 1) = 2 ^ n + 2 ^ n := by rw [Nat.pow_succ]; omega
    rw [e2] at h ⊢
    rw [mc_ns_split, mc_ns_split]
    by_cases ha : a < 2 ^ n
    · rw [mc_ns_xor n f a ha]
      have e : mc_ns (fun i => f ((2 ^ n + i) ^^^ a)) (2 ^ n) = mc_ns (fun i => f (2 ^ n + (i ^^^ a))) (2 ^ n) :=
        mc_ns_congr (fun i hi => by rw [mc_pw hi ha])
      rw [e, mc_ns_xor n (fun j => f (2 ^ n + j)) a ha]
    · obtain ⟨b, rfl⟩ : ∃ b, a = 2 ^ n + b := ⟨a - 2 ^ n, by omega⟩
      have hb : b < 2 ^ n := by omega
      have e1 : mc_ns (fun i => f (i ^^^ (2 ^ n + b))) (2 ^ n) = mc_ns (fun i => f (2 ^ n + (i ^^^ b))) (2 ^ n) :=
        mc_ns_congr (fun i hi => by rw [Nat.xor_comm i (2 ^ n + b), mc_pw hb hi, Nat.xor_comm b i])
      have e3 : mc_ns (fun i => f ((2 ^ n + i) ^^^ (2 ^ n + b))) (2 ^ n) = mc_ns (fun i => f (i ^^^ b)) (2 ^ n) :=
        mc_ns_congr (fun i hi => by
          have h1 : 2 ^ n + i = 2 ^ n ^^^ i := by
            have := mc_pw (n := n) (m := 0) (a := i) (Nat.two_pow_pos n) hi
            rw [Nat.add_zero, Nat.zero_xor] at this
            exact this.symm
          have h2 : 2 ^ n + b = 2 ^ n ^^^ b := by
            have := mc_pw (n := n) (m := 0) (a := b) (Nat.two_pow_pos n) hb
            rw [Nat.add_zero, Nat.zero_xor] at this
            exact this.symm
          rw [h1, h2, Nat.xor_comm (2 ^ n) i, Nat.xor_comm (2 ^ n) b, mc_x2])
      rw [e1, e3, mc_ns_xor n f b hb, mc_ns_xor n (fun j => f (2 ^ n + j)) b hb, Nat.add_comm]

/-! ===== counts ===== -/
theorem mc_cnt_sub {f g : Nat → Bool} {n : Nat} (h : ∀ i, i < n → f i = true → g i = true) : mc_cnt f n ≤ mc_cnt g n :=
  mc_ns_le (fun i hi => by
    cases hf : f i
    · exact Nat.zero_le _
    · rw [h i hi hf]
      exact Nat.le_refl _)
theorem mc_cnt_congr {f g : Nat → Bool} {n : Nat} (h : ∀ i, i < n → f i = g i) : mc_cnt f n = mc_cnt g n :=
  mc_ns_congr (fun i hi => by rw [h i hi])
theorem mc_cnt_zero : ∀ n : Nat, mc_cnt (fun i => decide (i = 0)) (n + 1) = 1
  | 0 => rfl
  | n + 1 => by
    show mc_cnt (fun i => decide (i = 0)) (n + 1) + (decide (n + 1 = 0)).toNat = 1
    rw [mc_cnt_zero n, decide_eq_false (Nat.succ_ne_zero n)]
    rfl
theorem mc_cnt_le (f : Nat → Bool) (n : Nat) : mc_cnt f n ≤ n := by
  have h := mc_ns_bd (f := fun i => (f i).toNat) (b := 1) (n := n) (fun i _ => Bool.toNat_le (f i))
  rw [Nat.mul_one] at h
  exact h
theorem mc_cnt_full {f : Nat → Bool} : ∀ {n : Nat}, n ≤ mc_cnt f n → ∀ i, i < n → f i = true
  | 0, _, i, hi => absurd hi (Nat.not_lt_zero i)
  | n + 1, h, i, hi => by
    have h0 : n + 1 ≤ mc_cnt f n + (f n).toNat := h
    have h1 := mc_cnt_le f n
    have h2 := Bool.toNat_le (f n)
    by_cases e : i = n
    · subst e
      cases hf : f i
      · rw [hf] at h0
        have : (false).toNat = 0 := rfl
        omega
      · rfl
    · exact mc_cnt_full (f := f) (n := n) (by omega) i (by omega)

/-! ===== spans: sums of those of the first n sets that pass a filter ===== -/
def mc_st (C : Nat → Nat) (t : Nat → Bool) : Nat → Nat → Bool
  | 0 => fun m => decide (m = 0)
  | n + 1 => fun m => mc_st C t n m || (t (C n) && mc_st C t n (m ^^^ C n))
def mc_tt : Nat → Bool := fun _ => true
theorem mc_st_s (C : Nat → Nat) (t : Nat → Bool) (n m : Nat) : mc_st C t (n + 1) m = (mc_st C t n m || (t (C n) && mc_st C t n (m ^^^ C n))) := rfl
theorem mc_st_t (C : Nat → Nat) (n m : Nat) : mc_st C mc_tt (n + 1) m = (mc_st C mc_tt n m || mc_st C mc_tt n (m ^^^ C n)) := rfl
theorem mc_st_l {C : Nat → Nat} {t : Nat → Bool} {n m : Nat} (h : mc_st C t n m = true) : mc_st C t (n + 1) m = true := by
  rw [mc_st_s, h]; rfl
theorem mc_st_r {C : Nat → Nat} {t : Nat → Bool} {n m : Nat} (ht : t (C n) = true) (h : mc_st C t n (m ^^^ C n) = true) : mc_st C t (n + 1) m = true := by
  rw [mc_st_s, h, ht]; cases mc_st C t n m <;> rfl
theorem mc_st_or {C : Nat → Nat} {t : Nat → Bool} {n m : Nat} (h : mc_st C t (n + 1) m = true) : mc_st C t n m = true ∨ (t (C n) = true ∧ mc_st C t n (m ^^^ C n) = true) := by
  rw [mc_st_s, Bool.or_eq_true, Bool.and_eq_true] at h
  exact h
theorem mc_st_zero (C : Nat → Nat) (t : Nat → Bool) : ∀ n : Nat, mc_st C t n 0 = true
  | 0 => rfl
  | n + 1 => mc_st_l (mc_st_zero C t n)
theorem mc_st_xor {C : Nat → Nat} {t : Nat → Bool} : ∀ {n a b : Nat}, mc_st C t n a = true → mc_st C t n b = true → mc_st C t n (a ^^^ b) = true
  | 0, a, b, ha, hb => by
    have ea : a = 0 := of_decide_eq_true ha
    have eb : b = 0 := of_decide_eq_true hb
    subst ea eb
    rfl
  | n + 1, a, b, ha, hb => by
    rcases mc_st_or ha with ha | ⟨h1, ha⟩
    · rcases mc_st_or hb with hb | ⟨h2, hb⟩
      · exact mc_st_l (mc_st_xor ha hb)
      · refine mc_st_r h2 ?_
        rw [Nat.xor_assoc]
        exact mc_st_xor ha hb
    · rcases mc_st_or hb with hb | ⟨h2, hb⟩
      · refine mc_st_r h1 ?_
        have := mc_st_xor ha hb
        rw [mc_x1 a b (C n)] at this
        exact this
      · refine mc_st_l ?_
        have := mc_st_xor ha hb
        rw [mc_x2] at this
        exact this
theorem mc_st_mono {C : Nat → Nat} {t : Nat → Bool} {k n m : Nat} (hk : k ≤ n) (h : mc_st C t k m = true) : mc_st C t n m = true := by
  induction hk with
  | refl => exact h
  | step _ ih => exact mc_st_l ih
theorem mc_st_mem {C : Nat → Nat} {t : Nat → Bool} {k n : Nat} (hk : k < n) (ht : t (C k) = true) : mc_st C t n (C k) = true := by
  refine mc_st_mono (k := k + 1) hk (mc_st_r ht ?_)
  rw [Nat.xor_self]
  exact mc_st_zero C t k
theorem mc_st_sub {C : Nat → Nat} {t : Nat → Bool} {V : Nat → Prop} (h0 : V 0) (hx : ∀ a b, V a → V b → V (a ^^^ b)) : ∀ {n : Nat}, (∀ j, j < n → t (C j) = true → V (C j)) → ∀ {m : Nat}, mc_st C t n m = true → V m
  | 0, _, m, h => by
    have e : m = 0 := of_decide_eq_true h
    rw [e]
    exact h0
  | n + 1, hC, m, h => by
    rcases mc_st_or h with h | ⟨h1, h⟩
    · exact mc_st_sub h0 hx (fun j hj => hC j (Nat.lt_succ_of_lt hj)) h
    · have h2 := mc_st_sub h0 hx (fun j hj => hC j (Nat.lt_succ_of_lt hj)) h
      have h3 := hx _ _ h2 (hC n (Nat.lt_succ_self n) h1)
      rw [mc_x3] at h3
      exact h3
theorem mc_st_congr {C C' : Nat → Nat} {t : Nat → Bool} : ∀ {n : Nat}, (∀ j, j < n → C j = C' j) → ∀ m : Nat, mc_st C t n m = mc_st C' t n m
  | 0, _, _ => rfl
  | n + 1, h, m => by
    rw [mc_st_s, mc_st_s, h n (Nat.lt_succ_self n), mc_st_congr (fun j hj => h j (Nat.lt_succ_of_lt hj)) m, mc_st_congr (fun j hj => h j (Nat.lt_succ_of_lt hj)) (m ^^^ C' n)]
theorem mc_st_tt {C : Nat → Nat} {t : Nat → Bool} {n m : Nat} (h : mc_st C t n m = true) : mc_st C mc_tt n m = true :=
  mc_st_sub (V := fun m => mc_st C mc_tt n m = true) (mc_st_zero C mc_tt n) (fun _ _ => mc_st_xor) (fun _ hj _ => mc_st_mem hj rfl) h
/-- the first q hold all that passes the filter -/
theorem mc_st_pre {C : Nat → Nat} {t : Nat → Bool} {q m : Nat} : ∀ {r : Nat}, q ≤ r → (∀ k, q ≤ k → k < r → t (C k) = false) → mc_st C t r m = true → mc_st C mc_tt q m = true
  | 0, hq, _, h => by
    have e : q = 0 := by omega
    subst e
    exact h
  | r + 1, hq, hf, h => by
    by_cases e : q = r + 1
    · subst e
      exact mc_st_tt h
    · rcases mc_st_or h with h | ⟨h1, _⟩
      · exact mc_st_pre (r := r) (by omega) (fun k h1 h2 => hf k h1 (by omega)) h
      · rw [hf r (by omega) (by omega)] at h1
        cases h1
def mc_ins (C : Nat → Nat) (p a : Nat) : Nat → Nat := fun j => if j < p then C j else if j = p then a else C (j - 1)
theorem mc_ins_lo {C : Nat → Nat} {p a j : Nat} (h : j < p) : mc_ins C p a j = C j := if_pos h
theorem mc_ins_at {C : Nat → Nat} {p a : Nat} : mc_ins C p a p = a := by
  unfold mc_ins
  rw [if_neg (Nat.lt_irrefl p), if_pos rfl]
theorem mc_ins_hi {C : Nat → Nat} {p a j : Nat} (h : p ≤ j) : mc_ins C p a (j + 1) = C j := by
  unfold mc_ins
  rw [if_neg (by omega), if_neg (by omega), Nat.add_sub_cancel]
theorem mc_st_ins (C : Nat → Nat) (t : Nat → Bool) (p a : Nat) : ∀ d m : Nat, mc_st (mc_ins C p a) t (p + d + 1) m = (mc_st C t (p + d) m || (t a && mc_st C t (p + d) (m ^^^ a)))
  | 0, m => by
    have e : ∀ m, mc_st (mc_ins C p a) t p m = mc_st C t p m := mc_st_congr (fun j hj => mc_ins_lo hj)
    rw [Nat.add_zero, mc_st_s, mc_ins_at, e, e]
    rfl
  | d + 1, m => by
    show mc_st (mc_ins C p a) t (p + d + 1 + 1) m = (mc_st C t (p + d + 1) m || (t a && mc_st C t (p + d + 1) (m ^^^ a)))
    rw [mc_st_s (mc_ins C p a), mc_ins_hi (j := p + d) (by omega), mc_st_ins C t p a d m, mc_st_ins C t p a d (m ^^^ C (p + d)), mc_st_s C, mc_st_s C, mc_x1 m a (C (p + d))]
    generalize mc_st C t (p + d) m = b1
    generalize mc_st C t (p + d) (m ^^^ C (p + d)) = b2
    generalize mc_st C t (p + d) (m ^^^ a) = b3
    generalize mc_st C t (p + d) (m ^^^ a ^^^ C (p + d)) = b4
    generalize t a = b5
    generalize t (C (p + d)) = b6
    cases b1 <;> cases b2 <;> cases b3 <;> cases b4 <;> cases b5 <;> cases b6 <;> rfl

/-! ===== spans counted over 4096 ===== -/
theorem mc_cnt_two {C : Nat → Nat} {t : Nat → Bool} {n : Nat} (h : C n < 4096) : mc_cnt (mc_st C t (n + 1)) 4096 ≤ 2 * mc_cnt (mc_st C t n) 4096 := by
  have h1 : mc_cnt (mc_st C t (n + 1)) 4096 ≤ mc_ns (fun m => (mc_st C t n m).toNat + (mc_st C t n (m ^^^ C n)).toNat) 4096 :=
    mc_ns_le (fun m _ => by
      show (mc_st C t (n + 1) m).toNat ≤ (mc_st C t n m).toNat + (mc_st C t n (m ^^^ C n)).toNat
      rw [mc_st_s]
      generalize mc_st C t n m = b1
      generalize mc_st C t n (m ^^^ C n) = b2
      generalize t (C n) = b3
      cases b1 <;> cases b2 <;> cases b3 <;> decide)
  rw [mc_ns_add (fun m => (mc_st C t n m).toNat) (fun m => (mc_st C t n (m ^^^ C n)).toNat) 4096] at h1
  have h2 := mc_ns_xor 12 (fun m => (mc_st C t n m).toNat) (C n) h
  have h3 : mc_ns (fun m => (mc_st C t n (m ^^^ C n)).toNat) 4096 = mc_cnt (mc_st C t n) 4096 := h2
  rw [h3] at h1
  have h4 : mc_ns (fun m => (mc_st C t n m).toNat) 4096 = mc_cnt (mc_st C t n) 4096 := rfl
  omega
theorem mc_cnt_dbl {C : Nat → Nat} {n : Nat} (h : C n < 4096) (hn : mc_st C mc_tt n (C n) = false) : mc_cnt (mc_st C mc_tt (n + 1)) 4096 = 2 * mc_cnt (mc_st C mc_tt n) 4096 := by
  have h1 : mc_cnt (mc_st C mc_tt (n + 1)) 4096 = mc_ns (fun m => (mc_st C mc_tt n m).toNat + (mc_st C mc_tt n (m ^^^ C n)).toNat) 4096 :=
    mc_ns_congr (fun m _ => by
      show (mc_st C mc_tt (n + 1) m).toNat = (mc_st C mc_tt n m).toNat + (mc_st C mc_tt n (m ^^^ C n)).toNat
      rw [mc_st_t]
      cases b1 : mc_st C mc_tt n m
      · cases mc_st C mc_tt n (m ^^^ C n) <;> rfl
      · cases b2 : mc_st C mc_tt n (m ^^^ C n)
        · rfl
        · have := mc_st_xor b1 b2
          rw [mc_x4, hn] at this
          cases this)
  rw [mc_ns_add (fun m => (mc_st C mc_tt n m).toNat) (fun m => (mc_st C mc_tt n (m ^^^ C n)).toNat) 4096] at h1
  have h2 := mc_ns_xor 12 (fun m => (mc_st C mc_tt n m).toNat) (C n) h
  have h3 : mc_ns (fun m => (mc_st C mc_tt n (m ^^^ C n)).toNat) 4096 = mc_cnt (mc_st C mc_tt n) 4096 := h2
  rw [h3] at h1
  have h4 : mc_ns (fun m => (mc_st C mc_tt n m).toNat) 4096 = mc_cnt (mc_st C mc_tt n) 4096 := rfl
  omega
theorem mc_cnt_st0 (C : Nat → Nat) (t : Nat → Bool) : mc_cnt (mc_st C t 0) 4096 = 1 := mc_cnt_zero 4095
theorem mc_cnt_up {C : Nat → Nat} : ∀ {n : Nat}, (∀ k, k < n → C k < 4096) → mc_cnt (mc_st C mc_tt n) 4096 ≤ 2 ^ n
  | 0, _ => Nat.le_of_eq (mc_cnt_st0 C mc_tt)
  | n + 1, h => by
    have h1 := mc_cnt_two (t := mc_tt) (h n (Nat.lt_succ_self n))
    have h2 := mc_cnt_up (n := n) (fun k hk => h k (Nat.lt_succ_of_lt hk))
    rw [Nat.pow_succ]
    omega
theorem mc_cnt_pow {C : Nat → Nat} : ∀ {n : Nat}, (∀ k, k < n → C k < 4096) → (∀ k, k < n → mc_st C mc_tt k (C k) = false) → mc_cnt (mc_st C mc_tt n) 4096 = 2 ^ n
  | 0, _, _ => mc_cnt_st0 C mc_tt
  | n + 1, h, hn => by
    rw [mc_cnt_dbl (h n (Nat.lt_succ_self n)) (hn n (Nat.lt_succ_self n)), mc_cnt_pow (n := n) (fun k hk => h k (Nat.lt_succ_of_lt hk)) (fun k hk => hn k (Nat.lt_succ_of_lt hk)), Nat.pow_succ]
    omega
theorem mc_cnt_dn {C : Nat → Nat} {n : Nat} (hC : ∀ j, j < n + 1 → C j < 4096) (h : mc_cnt (mc_st C mc_tt (n + 1)) 4096 = 2 ^ (n + 1)) : mc_cnt (mc_st C mc_tt n) 4096 = 2 ^ n := by
  have h1 := mc_cnt_two (t := mc_tt) (hC n (Nat.lt_succ_self n))
  have h2 := mc_cnt_up (C := C) (n := n) (fun j hj => hC j (Nat.lt_succ_of_lt hj))
  rw [h, Nat.pow_succ] at h1
  omega
theorem mc_cnt_all {C : Nat → Nat} {k n : Nat} (hC : ∀ j, j < n → C j < 4096) (h : mc_cnt (mc_st C mc_tt n) 4096 = 2 ^ n) (hk : k ≤ n) : mc_cnt (mc_st C mc_tt k) 4096 = 2 ^ k := by
  induction hk with
  | refl => exact h
  | step hk ih => exact ih (fun j hj => hC j (Nat.lt_succ_of_lt hj)) (mc_cnt_dn hC h)
/-- so many independent sets do not lie in the span of fewer -/
theorem mc_stz {C G : Nat → Nat} {k n : Nat} (hC : ∀ j, j < k → C j < 4096) (hc : mc_cnt (mc_st G mc_tt n) 4096 = 2 ^ n) (h : ∀ j, j < n → mc_st C mc_tt k (G j) = true) : n ≤ k := by
  have h1 : mc_cnt (mc_st G mc_tt n) 4096 ≤ mc_cnt (mc_st C mc_tt k) 4096 :=
    mc_cnt_sub (fun m _ hm => mc_st_sub (V := fun m => mc_st C mc_tt k m = true) (mc_st_zero C mc_tt k) (fun _ _ => mc_st_xor) (fun j hj _ => h j hj) hm)
  have h2 := mc_cnt_up hC
  rw [hc] at h1
  exact (Nat.pow_le_pow_iff_right (by decide : 1 < 2)).mp (Nat.le_trans h1 h2)
end
section
/-! ===== the graph: c edges from F to T of weight W; sets of edges are masks ===== -/
def mc_G (c : Nat) (F T W : Nat → Nat) : Prop := c ≤ 12 ∧ (∀ e, F e < 7 ∧ T e < 7 ∧ W e ≤ 100) ∧ (∀ e, e < c → F e ≠ T e ∧ 1 ≤ W e)
def mc_dl (u v x : Nat) : Bool := decide (x = u) ^^ decide (x = v)
def mc_bd (F T : Nat → Nat) (c s v : Nat) : Bool := mc_xs (fun e => s.testBit e && mc_dl (F e) (T e) v) c
def mc_ip (s x : Nat) : Bool := mc_xs (fun e => s.testBit e && x.testBit e) 12
def mc_wt (W : Nat → Nat) (c s : Nat) : Nat := mc_ns (fun e => if s.testBit e = true then W e else 0) c
def mc_cl (F T : Nat → Nat) (c s : Nat) : Prop := s < 2 ^ c ∧ ∀ v, v < 7 → mc_bd F T c s v = false

theorem mc_dl_self (u x : Nat) : mc_dl u u x = false := by unfold mc_dl; cases decide (x = u) <;> rfl
theorem mc_dl_comm (u v x : Nat) : mc_dl u v x = mc_dl v u x := by unfold mc_dl; cases decide (x = u) <;> cases decide (x = v) <;> rfl
theorem mc_dl_x (u v w x : Nat) : (mc_dl u v x ^^ mc_dl v w x) = mc_dl u w x := by
  unfold mc_dl; cases decide (x = u) <;> cases decide (x = v) <;> cases decide (x = w) <;> rfl
theorem mc_dl_r {u v : Nat} (h : u ≠ v) : mc_dl u v v = true := by
  unfold mc_dl
  rw [decide_eq_false (fun z => h z.symm), decide_eq_true rfl]
  rfl
theorem mc_dl_or {u v x : Nat} (h : mc_dl u v x = true) (hx : x ≠ u) : x = v := by
  unfold mc_dl at h
  rw [decide_eq_false hx, Bool.false_xor] at h
  exact of_decide_eq_true h

theorem mc_xs_bit (h : Nat → Bool) {e n : Nat} (he : e < n) : mc_xs (fun i => (2 ^ e).testBit i && h i) n = h e := by
  rw [mc_xs_pt (k := e) he (fun i _ hne => by rw [Nat.testBit_two_pow_of_ne (fun z => hne z.symm), Bool.false_and]), Nat.testBit_two_pow_self, Bool.true_and]
theorem mc_bd_xor (F T : Nat → Nat) (c a b v : Nat) : mc_bd F T c (a ^^^ b) v = (mc_bd F T c a v ^^ mc_bd F T c b v) := by
  unfold mc_bd
  rw [← mc_xs_xor]
  refine mc_xs_congr (fun e _ => ?_)
  rw [Nat.testBit_xor]
  cases a.testBit e <;> cases b.testBit e <;> cases mc_dl (F e) (T e) v <;> rfl
theorem mc_bd_one {F T : Nat → Nat} {c e : Nat} (he : e < c) (v : Nat) : mc_bd F T c (2 ^ e) v = mc_dl (F e) (T e) v :=
  mc_xs_bit (fun i => mc_dl (F i) (T i) v) he
theorem mc_bd_zero (F T : Nat → Nat) (c v : Nat) : mc_bd F T c 0 v = false :=
  mc_xs_zero (fun i _ => by rw [Nat.zero_testBit, Bool.false_and])
theorem mc_ip_comm (a b : Nat) : mc_ip a b = mc_ip b a := mc_xs_congr (fun i _ => Bool.and_comm _ _)
theorem mc_ip_xl (a b s : Nat) : mc_ip (a ^^^ b) s = (mc_ip a s ^^ mc_ip b s) := by
  unfold mc_ip
  rw [← mc_xs_xor]
  refine mc_xs_congr (fun e _ => ?_)
  rw [Nat.testBit_xor]
  cases a.testBit e <;> cases b.testBit e <;> cases s.testBit e <;> rfl
theorem mc_ip_xr (s a b : Nat) : mc_ip s (a ^^^ b) = (mc_ip s a ^^ mc_ip s b) := by
  rw [mc_ip_comm s (a ^^^ b), mc_ip_xl, mc_ip_comm a s, mc_ip_comm b s]
theorem mc_ip_1l {e : Nat} (he : e < 12) (s : Nat) : mc_ip (2 ^ e) s = s.testBit e := mc_xs_bit (fun i => s.testBit i) he
theorem mc_ip_1r {e : Nat} (he : e < 12) (s : Nat) : mc_ip s (2 ^ e) = s.testBit e := by rw [mc_ip_comm, mc_ip_1l he]
theorem mc_ip_0l (s : Nat) : mc_ip 0 s = false := mc_xs_zero (fun i _ => by rw [Nat.zero_testBit, Bool.false_and])
theorem mc_ip_0r (s : Nat) : mc_ip s 0 = false := by rw [mc_ip_comm, mc_ip_0l]

theorem mc_wt_swap (W : Nat → Nat) {c e : Nat} (he : e < c) (s : Nat) : mc_wt W c s + (if (s ^^^ 2 ^ e).testBit e = true then W e else 0) = mc_wt W c (s ^^^ 2 ^ e) + (if s.testBit e = true then W e else 0) :=
  mc_ns_upd (f := fun e => if s.testBit e = true then W e else 0) (g := fun i => if (s ^^^ 2 ^ e).testBit i = true then W i else 0) he
    (fun i _ hne => by rw [Nat.testBit_xor, Nat.testBit_two_pow_of_ne (fun z => hne z.symm), Bool.xor_false])
theorem mc_wt_off {W : Nat → Nat} {c e s : Nat} (he : e < c) (h : s.testBit e = true) : mc_wt W c s = mc_wt W c (s ^^^ 2 ^ e) + W e := by
  have h1 := mc_wt_swap W he s
  have h2 : (s ^^^ 2 ^ e).testBit e = false := by rw [Nat.testBit_xor, h, Nat.testBit_two_pow_self]; rfl
  rw [h2, h, if_neg (by decide), if_pos rfl] at h1
  exact h1
theorem mc_wt_on {W : Nat → Nat} {c e s : Nat} (he : e < c) (h : s.testBit e = false) : mc_wt W c (s ^^^ 2 ^ e) = mc_wt W c s + W e := by
  have h1 := mc_wt_swap W he s
  have h2 : (s ^^^ 2 ^ e).testBit e = true := by rw [Nat.testBit_xor, h, Nat.testBit_two_pow_self]; rfl
  rw [h2, h, if_pos rfl, if_neg (by decide)] at h1
  exact h1.symm
theorem mc_wt_up {W : Nat → Nat} {c e s : Nat} (he : e < c) : mc_wt W c (s ^^^ 2 ^ e) ≤ mc_wt W c s + W e := by
  cases h : s.testBit e
  · exact Nat.le_of_eq (mc_wt_on he h)
  · have := mc_wt_off (W := W) he h
    omega
theorem mc_wt_bd {c : Nat} {F T W : Nat → Nat} (hG : mc_G c F T W) (s : Nat) : mc_wt W c s ≤ 1200 := by
  have h := mc_ns_bd (f := fun e => if s.testBit e = true then W e else 0) (b := 100) (n := c) (fun i _ => by
    show (if s.testBit i = true then W i else 0) ≤ 100
    have := (hG.2.1 i).2.2
    split
    · exact this
    · exact Nat.zero_le _)
  have h1 := hG.1
  have h2 : mc_wt W c s ≤ c * 100 := h
  omega
theorem mc_wt_zero (W : Nat → Nat) (c : Nat) : mc_wt W c 0 = 0 := by
  have h : mc_wt W c 0 = mc_ns (fun _ => 0) c := mc_ns_congr (fun i _ => by rw [Nat.zero_testBit]; rfl)
  have h1 := mc_ns_bd (f := fun _ => 0) (b := 0) (n := c) (fun _ _ => Nat.le_refl _)
  omega

theorem mc_cl_zero (F T : Nat → Nat) (c : Nat) : mc_cl F T c 0 := ⟨Nat.two_pow_pos c, fun v _ => mc_bd_zero F T c v⟩
theorem mc_cl_xor {F T : Nat → Nat} {c a b : Nat} (ha : mc_cl F T c a) (hb : mc_cl F T c b) : mc_cl F T c (a ^^^ b) :=
  ⟨Nat.xor_lt_two_pow ha.1 hb.1, fun v hv => by rw [mc_bd_xor, ha.2 v hv, hb.2 v hv]; rfl⟩
theorem mc_p12 {c s : Nat} (hc : c ≤ 12) (h : s < 2 ^ c) : s < 4096 :=
  Nat.lt_of_lt_of_le h (Nat.pow_le_pow_right (by decide) hc : 2 ^ c ≤ 2 ^ 12)
theorem mc_cl_lt {c s : Nat} {F T W : Nat → Nat} (hG : mc_G c F T W) (h : mc_cl F T c s) : s < 4096 := mc_p12 hG.1 h.1
theorem mc_bit_lt {s c e : Nat} (h : s < 2 ^ c) (he : s.testBit e = true) : e < c := by
  by_cases z : e < c
  · exact z
  · rw [Nat.testBit_lt_two_pow (Nat.lt_of_lt_of_le h (Nat.pow_le_pow_right (by decide) (Nat.le_of_not_lt z)))] at he
    cases he
theorem mc_bit_hi {s c e : Nat} (h : s < 2 ^ c) (he : c ≤ e) : s.testBit e = false :=
  Nat.testBit_lt_two_pow (Nat.lt_of_lt_of_le h (Nat.pow_le_pow_right (by decide) he))
theorem mc_pow_lt {e c : Nat} (h : e < c) : 2 ^ e < 2 ^ c := Nat.pow_lt_pow_right (by decide) h
theorem mc_off_lt {s e : Nat} (h : s.testBit e = true) : s ^^^ 2 ^ e < s := by
  have h1 : s ^^^ 2 ^ e ≤ s := Nat.le_of_testBit (fun i hi => by
    by_cases e1 : e = i
    · rw [← e1]; exact h
    · rw [Nat.testBit_xor, Nat.testBit_two_pow_of_ne e1, Bool.xor_false] at hi
      exact hi)
  have h2 : s ^^^ 2 ^ e ≠ s := by
    intro z
    have h3 : (s ^^^ 2 ^ e).testBit e = false := by rw [Nat.testBit_xor, h, Nat.testBit_two_pow_self]; rfl
    rw [z, h] at h3
    cases h3
  omega

/-! ===== ways in the doubled graph, as potentials ===== -/
def mc_nd (v : Nat) (b : Bool) : Nat := if b = true then v + 7 else v
def mc_rx (F T W : Nat → Nat) (S : Nat) (d : Nat → Nat) (v : Nat) (b : Bool) (e : Nat) : Prop :=
  (F e = v → d (mc_nd (T e) (b ^^ S.testBit e)) ≤ d (mc_nd v b) + W e) ∧ (T e = v → d (mc_nd (F e) (b ^^ S.testBit e)) ≤ d (mc_nd v b) + W e)
def mc_clo (c : Nat) (F T W : Nat → Nat) (S wo : Nat) (d : Nat → Nat) : Prop :=
  ∀ (v : Nat) (b : Bool) (e : Nat), v < 7 → e < c → e ≠ wo → d (mc_nd v b) < 1000000 → mc_rx F T W S d v b e
def mc_wy (c : Nat) (F T W : Nat → Nat) (S wo u m x : Nat) (v : Nat) (b : Bool) : Prop :=
  m < 2 ^ c ∧ (∀ y, y < 7 → mc_bd F T c m y = mc_dl u v y) ∧ mc_ip m S = b ∧ m.testBit wo = false ∧ mc_wt W c m ≤ x
def mc_snd (c : Nat) (F T W : Nat → Nat) (S wo u : Nat) (d w : Nat → Nat) : Prop :=
  ∀ (v : Nat) (b : Bool), v < 7 → d (mc_nd v b) < 1000000 → mc_wy c F T W S wo u (w (mc_nd v b)) (d (mc_nd v b)) v b
def mc_DJ (c : Nat) (F T W : Nat → Nat) (S wo u : Nat) (d w : Nat → Nat) : Prop :=
  d u = 0 ∧ mc_clo c F T W S wo d ∧ mc_snd c F T W S wo u d w
def mc_LI (c : Nat) (F T W : Nat → Nat) (S bw bs : Nat) : Prop :=
  mc_cl F T c bs ∧ mc_ip bs S = true ∧ mc_wt W c bs = bw ∧ ∀ D, mc_cl F T c D → mc_ip D S = true → bw ≤ mc_wt W c D

theorem mc_ip_off {D S f : Nat} (hf : f < 12) : mc_ip D S = (mc_ip (D ^^^ 2 ^ f) S ^^ S.testBit f) := by
  rw [mc_ip_xl, mc_ip_1l hf]
  cases mc_ip D S <;> cases S.testBit f <;> rfl
theorem mc_tr {c : Nat} {F T W : Nat → Nat} (hG : mc_G c F T W) {S wo u : Nat} {d : Nat → Nat} {Q : Prop} (h0 : d u = 0) (hc : mc_clo c F T W S wo d) :
    ∀ (D v : Nat), D < 2 ^ c → v < 7 → D.testBit wo = false → (∀ x, x < 7 → mc_bd F T c D x = mc_dl u v x) →
    (∀ D', D' ≤ D → mc_cl F T c D' → mc_ip D' S = true → mc_wt W c D' ≤ mc_wt W c D → Q) → d (mc_nd v (mc_ip D S)) ≤ mc_wt W c D ∨ Q := by
  intro D
  induction D using Nat.strongRecOn with
  | ind D ih =>
    intro v hD hv hwo hb hQ
    by_cases e : u = v
    · subst e
      cases hi : mc_ip D S
      · left
        show d u ≤ _
        rw [h0]
        exact Nat.zero_le _
      · right
        exact hQ D (Nat.le_refl _) ⟨hD, fun x hx => (hb x hx).trans (mc_dl_self u x)⟩ hi (Nat.le_refl _)
    · have h1 := hb v hv
      rw [mc_dl_r e] at h1
      obtain ⟨f, hf, h3⟩ := mc_xs_ex h1
      rw [Bool.and_eq_true] at h3
      obtain ⟨hDf, h4⟩ := h3
      have hne : f ≠ wo := fun z => by
        rw [z, hwo] at hDf
        cases hDf
      obtain ⟨hF, hT, _⟩ := hG.2.1 f
      have h12 : f < 12 := Nat.lt_of_lt_of_le hf hG.1
      obtain ⟨w, hw, hdl, hrx⟩ : ∃ w, w < 7 ∧ (∀ x, mc_dl (F f) (T f) x = mc_dl v w x) ∧ (∀ b, d (mc_nd w b) < 1000000 → d (mc_nd v (b ^^ S.testBit f)) ≤ d (mc_nd w b) + W f) := by
        by_cases ef : v = F f
        · refine ⟨T f, hT, fun x => by rw [ef], fun b hb' => ?_⟩
          rw [ef]
          exact (hc (T f) b f hT hf hne hb').2 rfl
        · have et : v = T f := mc_dl_or h4 ef
          refine ⟨F f, hF, fun x => by rw [et, mc_dl_comm], fun b hb' => ?_⟩
          rw [et]
          exact (hc (F f) b f hF hf hne hb').1 rfl
      have hlt : D ^^^ 2 ^ f < D := mc_off_lt hDf
      have hip := mc_ip_off (D := D) (S := S) h12
      have hwt := mc_wt_off (W := W) hf hDf
      have hwo' : (D ^^^ 2 ^ f).testBit wo = false := by rw [Nat.testBit_xor, hwo, Nat.testBit_two_pow_of_ne hne]; rfl
      rcases ih (D ^^^ 2 ^ f) hlt w (Nat.lt_trans hlt hD) hw hwo' (fun x hx => by rw [mc_bd_xor, hb x hx, mc_bd_one hf, hdl x, mc_dl_x]) (fun D' h1 h2 h3 h4 => hQ D' (by omega) h2 h3 (by omega)) with h5 | h5
      · left
        have h6 := mc_wt_bd hG (D ^^^ 2 ^ f)
        have h7 := hrx (mc_ip (D ^^^ 2 ^ f) S) (by omega)
        rw [hip]
        omega
      · exact Or.inr h5
theorem mc_trc {c : Nat} {F T W : Nat → Nat} (hG : mc_G c F T W) {S bw : Nat} (h : ∀ z, z < 7 → ∃ d : Nat → Nat, d z = 0 ∧ mc_clo c F T W S 99 d ∧ bw ≤ d (z + 7)) :
    ∀ D, mc_cl F T c D → mc_ip D S = true → bw ≤ mc_wt W c D := by
  intro D
  induction D using Nat.strongRecOn with
  | ind D ih =>
    intro hD hi
    obtain ⟨f, h12, h1⟩ := mc_xs_ex hi
    rw [Bool.and_eq_true] at h1
    have hf : f < c := mc_bit_lt hD.1 h1.1
    obtain ⟨hF, hT, _⟩ := hG.2.1 f
    obtain ⟨d, h0, hc, hb⟩ := h (F f) hF
    have hlt := mc_off_lt h1.1
    have hwt := mc_wt_off (W := W) hf h1.1
    have hip := mc_ip_off (D := D) (S := S) h12
    have hcc := hG.1
    have h99 : (D ^^^ 2 ^ f).testBit 99 = false := mc_bit_hi (Nat.lt_trans hlt hD.1) (by omega)
    rcases mc_tr hG (Q := bw ≤ mc_wt W c D) h0 hc (D ^^^ 2 ^ f) (T f) (Nat.lt_trans hlt hD.1) hT h99 (fun x hx => by rw [mc_bd_xor, hD.2 x hx, mc_bd_one hf, Bool.false_xor]) (fun D' h2 h3 h4 h5 => Nat.le_trans (ih D' (by omega) h3 h4) (by omega)) with h6 | h6
    · have h8 := mc_wt_bd hG (D ^^^ 2 ^ f)
      have h7 := (hc (T f) (mc_ip (D ^^^ 2 ^ f) S) f hT hf (by omega) (by omega)).2 rfl
      rw [← hip, hi] at h7
      have h9 : d (F f + 7) ≤ d (mc_nd (T f) (mc_ip (D ^^^ 2 ^ f) S)) + W f := h7
      omega
    · exact h6
theorem mc_light {c : Nat} {F T W : Nat → Nat} (hG : mc_G c F T W) {S bw bs z : Nat} {d w : Nat → Nat} (h : ∀ z, z < 7 → ∃ d : Nat → Nat, d z = 0 ∧ mc_clo c F T W S 99 d ∧ bw ≤ d (z + 7))
    (hz : z < 7) (hd : mc_DJ c F T W S 99 z d w) (e1 : bw = d (z + 7)) (e2 : bs = w (z + 7)) (hlt : bw < 1000000) : mc_LI c F T W S bw bs := by
  subst e1 e2
  obtain ⟨h1, h2, h3, _, h5⟩ := hd.2.2 z true hz hlt
  have hcl : mc_cl F T c (w (z + 7)) := ⟨h1, fun x hx => (h2 x hx).trans (mc_dl_self z x)⟩
  have hm := mc_trc hG h
  exact ⟨hcl, h3, Nat.le_antisymm h5 (hm _ hcl h3), hm⟩
theorem mc_thr_lo {c : Nat} {F T W : Nat → Nat} (hG : mc_G c F T W) {e : Nat} {d w : Nat → Nat} (he : e < c) (hd : mc_DJ c F T W 0 e (F e) d w) {D : Nat} (hD : mc_cl F T c D) (hb : D.testBit e = true) :
    d (T e) + W e ≤ mc_wt W c D := by
  have hlt := mc_off_lt hb
  have hwt := mc_wt_off (W := W) he hb
  have hne : (D ^^^ 2 ^ e).testBit e = false := by rw [Nat.testBit_xor, hb, Nat.testBit_two_pow_self]; rfl
  rcases mc_tr hG (Q := False) hd.1 hd.2.1 (D ^^^ 2 ^ e) (T e) (Nat.lt_trans hlt hD.1) (hG.2.1 e).2.1 hne (fun x hx => by rw [mc_bd_xor, hD.2 x hx, mc_bd_one he, Bool.false_xor]) (fun D' _ _ h4 _ => by rw [mc_ip_0r] at h4; cases h4) with h6 | h6
  · rw [mc_ip_0r] at h6
    have h7 : d (T e) ≤ mc_wt W c (D ^^^ 2 ^ e) := h6
    omega
  · exact h6.elim
theorem mc_thr_hi {c : Nat} {F T W : Nat → Nat} (hG : mc_G c F T W) {e : Nat} {d w : Nat → Nat} (he : e < c) (hd : mc_DJ c F T W 0 e (F e) d w) (hf : d (T e) < 1000000) :
    ∃ D, mc_cl F T c D ∧ D.testBit e = true ∧ mc_wt W c D ≤ d (T e) + W e := by
  obtain ⟨h1, h2, _, h4, h5⟩ := hd.2.2 (T e) false (hG.2.1 e).2.1 hf
  have e0 : mc_nd (T e) false = T e := rfl
  rw [e0] at h1 h2 h4 h5
  refine ⟨w (T e) ^^^ 2 ^ e, ⟨Nat.xor_lt_two_pow h1 (mc_pow_lt he), fun x hx => ?_⟩, ?_, ?_⟩
  · rw [mc_bd_xor, h2 x hx, mc_bd_one he]
    cases mc_dl (F e) (T e) x <;> rfl
  · rw [Nat.testBit_xor, h4, Nat.testBit_two_pow_self]
    rfl
  · rw [mc_wt_on he h4]
    omega
end
section
/-! ===== least bases: witnesses against the greedy choice ===== -/
section
variable {c : Nat} {F T W : Nat → Nat}
theorem mc_B3 {S U : Nat → Nat} {r : Nat} {t : Nat → Bool} (hU : ∀ k, k < r → mc_cl F T c (U k)) (h1 : ∀ k, k < r → mc_ip (U k) (S k) = true)
    (h2 : ∀ k j, k < j → j < r → mc_ip (U k) (S j) = false) (h3 : ∀ D, mc_cl F T c D → (∀ k, k < r → mc_ip D (S k) = false) → D = 0)
    (h4 : ∀ k, k < r → t (U k) = false → ∀ D, mc_cl F T c D → t D = true → mc_ip D (S k) = false) :
    ∀ i, i ≤ r → ∀ D, mc_cl F T c D → (∀ k, k < r → t (U k) = false → mc_ip D (S k) = false) → (∀ k, i ≤ k → k < r → mc_ip D (S k) = false) → mc_st U t i D = true := by
  intro i
  induction i with
  | zero =>
    intro _ D hD _ hz
    rw [h3 D hD (fun k hk => hz k (Nat.zero_le k) hk)]
    rfl
  | succ i ih =>
    intro hi D hD hH hz
    have hi' : i < r := hi
    cases ht : t (U i)
    · refine mc_st_l (ih (Nat.le_of_lt hi') D hD hH (fun k h5 h6 => ?_))
      by_cases e : k = i
      · subst e
        exact hH k hi' ht
      · exact hz k (by omega) h6
    · cases hb : mc_ip D (S i)
      · refine mc_st_l (ih (Nat.le_of_lt hi') D hD hH (fun k h5 h6 => ?_))
        by_cases e : k = i
        · subst e
          exact hb
        · exact hz k (by omega) h6
      · refine mc_st_r ht (ih (Nat.le_of_lt hi') (D ^^^ U i) (mc_cl_xor hD (hU i hi')) (fun k hk htk => ?_) (fun k h5 h6 => ?_))
        · rw [mc_ip_xl, hH k hk htk, h4 k hk htk (U i) (hU i hi') ht]
          rfl
        · by_cases e : k = i
          · subst e
            rw [mc_ip_xl, hb, h1 k hi']
            rfl
          · rw [mc_ip_xl, hz k (by omega) h6, h2 i k (by omega) h6]
            rfl
theorem mc_ind {S U : Nat → Nat} {r : Nat} (h1 : ∀ k, k < r → mc_ip (U k) (S k) = true) (h2 : ∀ k j, k < j → j < r → mc_ip (U k) (S j) = false) {k : Nat} (hk : k < r) : mc_st U mc_tt k (U k) = false := by
  refine mc_nt (fun h => ?_)
  have h3 := mc_st_sub (V := fun m => mc_ip m (S k) = false) (mc_ip_0l (S k)) (fun a b ha hb => by rw [mc_ip_xl, ha, hb]; rfl) (fun j hj _ => h2 j k hj hk) h
  have h4 : mc_ip (U k) (S k) = false := h3
  rw [h1 k hk] at h4
  cases h4
def mc_XF (c : Nat) (F T W : Nat → Nat) (C : Nat → Nat) (r : Nat) : Prop :=
  r ≤ 12 ∧ (∀ k, k < r → mc_cl F T c (C k)) ∧ (∀ j k, j ≤ k → k < r → mc_wt W c (C j) ≤ mc_wt W c (C k)) ∧ mc_cnt (mc_st C mc_tt r) 4096 = 2 ^ r ∧
  (∀ D, mc_cl F T c D → ∀ q, q ≤ r → (∀ k, q ≤ k → k < r → mc_wt W c D < mc_wt W c (C k)) → mc_st C mc_tt q D = true)
theorem mc_XF_of (hG : mc_G c F T W) {S U C : Nat → Nat} {r : Nat} (hr : r ≤ 12) (hU : ∀ k, k < r → mc_cl F T c (U k)) (h1 : ∀ k, k < r → mc_ip (U k) (S k) = true)
    (h2 : ∀ k j, k < j → j < r → mc_ip (U k) (S j) = false) (h3 : ∀ D, mc_cl F T c D → (∀ k, k < r → mc_ip D (S k) = false) → D = 0)
    (h4 : ∀ k, k < r → ∀ D, mc_cl F T c D → mc_ip D (S k) = true → mc_wt W c (U k) ≤ mc_wt W c D)
    (hC : ∀ k, k < r → mc_cl F T c (C k)) (hs : ∀ j k, j ≤ k → k < r → mc_wt W c (C j) ≤ mc_wt W c (C k)) (he : ∀ t m, mc_st C t r m = mc_st U t r m) : mc_XF c F T W C r := by
  refine ⟨hr, hC, hs, ?_, fun D hD q hq hk => ?_⟩
  · have h5 : mc_cnt (mc_st C mc_tt r) 4096 = mc_cnt (mc_st U mc_tt r) 4096 := mc_cnt_congr (fun m _ => he mc_tt m)
    rw [h5]
    exact mc_cnt_pow (fun k hk => mc_cl_lt hG (hU k hk)) (fun k hk => mc_ind h1 h2 hk)
  · have h5 : mc_st U (fun m => decide (mc_wt W c m ≤ mc_wt W c D)) r D = true := by
      have h6 : ∀ k, k < r → decide (mc_wt W c (U k) ≤ mc_wt W c D) = false → ∀ E, mc_cl F T c E → decide (mc_wt W c E ≤ mc_wt W c D) = true → mc_ip E (S k) = false := by
        intro k hk hf E hE ht
        have h7 := of_decide_eq_false hf
        have h8 := of_decide_eq_true ht
        refine mc_nt (fun h9 => ?_)
        have := h4 k hk E hE h9
        omega
      exact mc_B3 (t := fun m => decide (mc_wt W c m ≤ mc_wt W c D)) hU h1 h2 h3 h6 r (Nat.le_refl r) D hD (fun k hk hf => h6 k hk hf D hD (decide_eq_true (Nat.le_refl _))) (fun k h5 h6 => absurd h6 (Nat.not_lt.mpr h5))
    rw [← he] at h5
    exact mc_st_pre hq (fun k h6 h7 => decide_eq_false (Nat.not_le.mpr (hk k h6 h7))) h5
/-- G k is the lightest closed set that is no sum of those ahead of it -/
def mc_LG (c : Nat) (F T W : Nat → Nat) (G : Nat → Nat) (k : Nat) : Prop :=
  mc_cl F T c (G k) ∧ mc_st G mc_tt k (G k) = false ∧ ∀ D, mc_cl F T c D → mc_st G mc_tt k D = false → mc_wt W c (G k) ≤ mc_wt W c D
theorem mc_LG_mono {G : Nat → Nat} {j k : Nat} (hj : mc_LG c F T W G j) (hk : mc_LG c F T W G k) (h : j ≤ k) : mc_wt W c (G j) ≤ mc_wt W c (G k) :=
  hj.2.2 (G k) hk.1 (mc_nt (fun z => by
    have := mc_st_mono h z
    rw [hk.2.1] at this
    cases this))
theorem mc_LG_in {G : Nat → Nat} {k D : Nat} (hk : mc_LG c F T W G k) (hD : mc_cl F T c D) (h : mc_wt W c D < mc_wt W c (G k)) : mc_st G mc_tt k D = true :=
  mc_nf (fun z => by
    have := hk.2.2 D hD z
    omega)
theorem mc_P1 (hG : mc_G c F T W) {C G : Nat → Nat} {r k : Nat} (hX : mc_XF c F T W C r) (hL : ∀ j, j ≤ k → mc_LG c F T W G j) : k < r ∧ mc_wt W c (G k) = mc_wt W c (C k) := by
  obtain ⟨hr, hC, hs, hn, hq⟩ := hX
  have hC4 : ∀ j, j < r → C j < 4096 := fun j hj => mc_cl_lt hG (hC j hj)
  have hG4 : ∀ j, j < k + 1 → G j < 4096 := fun j hj => mc_cl_lt hG (hL j (by omega)).1
  have hcn : mc_cnt (mc_st G mc_tt (k + 1)) 4096 = 2 ^ (k + 1) := mc_cnt_pow hG4 (fun j hj => (hL j (by omega)).2.1)
  have hkr : k + 1 ≤ r := mc_stz hC4 hcn (fun j hj => hq (G j) (hL j (by omega)).1 r (Nat.le_refl r) (fun i h1 h2 => absurd h2 (Nat.not_lt.mpr h1)))
  refine ⟨hkr, ?_⟩
  rcases Nat.lt_trichotomy (mc_wt W c (G k)) (mc_wt W c (C k)) with h | h | h
  · have : k + 1 ≤ k := mc_stz (fun j hj => hC4 j (by omega)) hcn (fun j hj => hq (G j) (hL j (by omega)).1 k (by omega) (fun i h1 h2 => by
      have h3 := mc_LG_mono (hL j (by omega)) (hL k (Nat.le_refl k)) (by omega)
      have h4 := hs k i h1 h2
      omega))
    omega
  · exact h
  · have hcc := mc_cnt_all hC4 hn hkr
    have : k + 1 ≤ k := mc_stz (fun j hj => hG4 j (by omega)) hcc (fun j hj => mc_LG_in (hL k (Nat.le_refl k)) (hC j (by omega)) (by
      have h4 := hs j k (by omega) (by omega)
      omega))
    omega
theorem mc_P2 (hG : mc_G c F T W) {C G : Nat → Nat} {r k : Nat} (hX : mc_XF c F T W C r) (hL : ∀ j, j < k → mc_LG c F T W G j) (hz : ∀ D, mc_cl F T c D → mc_st G mc_tt k D = true) : r = k := by
  have h1 : r ≤ k := mc_stz (fun j hj => mc_cl_lt hG (hL j hj).1) hX.2.2.2.1 (fun j hj => hz (C j) (hX.2.1 j hj))
  by_cases e : k = 0
  · omega
  · have := (mc_P1 (k := k - 1) hG hX (fun j hj => hL j (by omega))).1
    omega
theorem mc_P3 {C G : Nat → Nat} {r k i M : Nat} (hX : mc_XF c F T W C r) (hL : ∀ j, j ≤ k → mc_LG c F T W G j) (hi : i < r)
    (c1 : mc_st C mc_tt (i + 1) M = true) (c2 : mc_st C mc_tt i M = false) (g1 : mc_st G mc_tt (k + 1) M = true) (g2 : mc_st G mc_tt k M = false) : mc_wt W c (C i) = mc_wt W c (G k) := by
  obtain ⟨hr, hC, hs, hn, hq⟩ := hX
  rcases Nat.lt_trichotomy (mc_wt W c (C i)) (mc_wt W c (G k)) with h | h | h
  · have h1 : mc_st G mc_tt k M = true := mc_st_sub (V := fun m => mc_st G mc_tt k m = true) (mc_st_zero G mc_tt k) (fun _ _ => mc_st_xor) (fun j hj _ => mc_LG_in (hL k (Nat.le_refl k)) (hC j (by omega)) (by
      have := hs j i (by omega) hi
      omega)) c1
    rw [g2] at h1
    cases h1
  · exact h
  · have h1 : mc_st C mc_tt i M = true := mc_st_sub (V := fun m => mc_st C mc_tt i m = true) (mc_st_zero C mc_tt i) (fun _ _ => mc_st_xor) (fun j hj _ => hq (G j) (hL j (by omega)).1 i (by omega) (fun n h1 h2 => by
      have h3 := mc_LG_mono (hL j (by omega)) (hL k (Nat.le_refl k)) (by omega)
      have h4 := hs i n h1 h2
      omega)) g1
    rw [c2] at h1
    cases h1
def mc_clb (F T : Nat → Nat) (c s : Nat) : Bool := decide (s < 2 ^ c) && (List.range 7).all (fun v => !mc_bd F T c s v)
theorem mc_clb_iff {s : Nat} : mc_clb F T c s = true ↔ mc_cl F T c s := by
  unfold mc_clb mc_cl
  rw [Bool.and_eq_true, decide_eq_true_iff, List.all_eq_true]
  refine and_congr Iff.rfl ⟨fun h v hv => ?_, fun h v hv => ?_⟩
  · have := h v (List.mem_range.mpr hv)
    rw [Bool.not_eq_true'] at this
    exact this
  · rw [h v (List.mem_range.mp hv)]
    rfl
theorem mc_P4 (hG : mc_G c F T W) {S U : Nat → Nat} {r : Nat} (hU : ∀ k, k < r → mc_cl F T c (U k)) (h1 : ∀ k, k < r → mc_ip (U k) (S k) = true)
    (h2 : ∀ k j, k < j → j < r → mc_ip (U k) (S j) = false) (h3 : ∀ D, mc_cl F T c D → (∀ k, k < r → mc_ip D (S k) = false) → D = 0) : mc_cnt (mc_clb F T c) 4096 = 2 ^ r := by
  have h5 : mc_cnt (mc_clb F T c) 4096 = mc_cnt (mc_st U mc_tt r) 4096 := mc_cnt_congr (fun m _ => by
    cases h : mc_st U mc_tt r m
    · refine mc_nt (fun z => ?_)
      have := mc_B3 (t := mc_tt) hU h1 h2 h3 (fun k _ hf => by cases hf) r (Nat.le_refl r) m (mc_clb_iff.mp z) (fun k _ hf => by cases hf) (fun k h5 h6 => absurd h6 (Nat.not_lt.mpr h5))
      rw [h] at this
      cases this
    · exact mc_clb_iff.mpr (mc_st_sub (V := fun m => mc_cl F T c m) (mc_cl_zero F T c) (fun _ _ => mc_cl_xor) (fun j hj _ => hU j hj) h))
  rw [h5]
  exact mc_cnt_pow (fun k hk => mc_cl_lt hG (hU k hk)) (fun k hk => mc_ind h1 h2 hk)
end
/-! ===== elimination ===== -/
def mc_rd (p : Nat → Nat) : Nat → Nat → Nat
  | 0 => fun s => s
  | n + 1 => fun s => mc_rd p n (if s.testBit n = true ∧ p n ≠ 0 then s ^^^ p n else s)
def mc_PA (p : Nat → Nat) (V : Nat → Prop) : Prop := ∀ e, e < 12 → p e ≠ 0 → V (p e) ∧ p e < 2 ^ (e + 1) ∧ (p e).testBit e = true
def mc_PB (p : Nat → Nat) (V : Nat → Prop) : Prop := ∀ m, m < 4096 → V m → (∀ e, e < 12 → p e ≠ 0 → m.testBit e = false) → m = 0
theorem mc_rd_s (p : Nat → Nat) (n s : Nat) : mc_rd p (n + 1) s = mc_rd p n (if s.testBit n = true ∧ p n ≠ 0 then s ^^^ p n else s) := rfl
theorem mc_rd_V {p : Nat → Nat} {V : Nat → Prop} (h0 : V 0) (hx : ∀ a b, V a → V b → V (a ^^^ b)) (hA : mc_PA p V) : ∀ n s : Nat, n ≤ 12 → V (s ^^^ mc_rd p n s)
  | 0, s, _ => by
    show V (s ^^^ s)
    rw [Nat.xor_self]
    exact h0
  | n + 1, s, hn => by
    rw [mc_rd_s]
    by_cases h : s.testBit n = true ∧ p n ≠ 0
    · rw [if_pos h]
      have h1 := mc_rd_V h0 hx hA n (s ^^^ p n) (by omega)
      have h2 := hx _ _ h1 (hA n (by omega) h.2).1
      have e : (s ^^^ p n ^^^ mc_rd p n (s ^^^ p n)) ^^^ p n = s ^^^ mc_rd p n (s ^^^ p n) := by
        rw [mc_x1 s (mc_rd p n (s ^^^ p n)) (p n), mc_x3]
      rw [e] at h2
      exact h2
    · rw [if_neg h]
      exact mc_rd_V h0 hx hA n s (by omega)
theorem mc_rd_hi {p : Nat → Nat} {V : Nat → Prop} (hA : mc_PA p V) : ∀ n s j : Nat, n ≤ 12 → n ≤ j → (mc_rd p n s).testBit j = s.testBit j
  | 0, s, j, _, _ => rfl
  | n + 1, s, j, hn, hj => by
    rw [mc_rd_s, mc_rd_hi hA n _ j (by omega) (by omega)]
    by_cases h : s.testBit n = true ∧ p n ≠ 0
    · rw [if_pos h, Nat.testBit_xor, mc_bit_hi (hA n (by omega) h.2).2.1 hj, Bool.xor_false]
    · rw [if_neg h]
theorem mc_rd_lo {p : Nat → Nat} {V : Nat → Prop} (hA : mc_PA p V) : ∀ n s e : Nat, n ≤ 12 → e < n → p e ≠ 0 → (mc_rd p n s).testBit e = false
  | 0, s, e, _, he, _ => absurd he (Nat.not_lt_zero e)
  | n + 1, s, e, hn, he, hp => by
    rw [mc_rd_s]
    by_cases e1 : e = n
    · subst e1
      rw [mc_rd_hi hA e _ e (by omega) (Nat.le_refl e)]
      cases hb : s.testBit e
      · rw [if_neg (fun z => by cases z.1), hb]
      · rw [if_pos ⟨rfl, hp⟩, Nat.testBit_xor, hb, (hA e (by omega) hp).2.2]
        rfl
    · exact mc_rd_lo hA n _ e (by omega) (by omega) hp
theorem mc_rd_lt {p : Nat → Nat} {V : Nat → Prop} (hA : mc_PA p V) {s : Nat} (hs : s < 4096) : mc_rd p 12 s < 4096 :=
  Nat.lt_pow_two_of_testBit (n := 12) _ (fun i hi => by
    rw [mc_rd_hi hA 12 s i (Nat.le_refl _) hi]
    exact mc_bit_hi (c := 12) hs hi)
theorem mc_rd_0 {p : Nat → Nat} {V : Nat → Prop} (h0 : V 0) (hx : ∀ a b, V a → V b → V (a ^^^ b)) (hA : mc_PA p V) (hB : mc_PB p V) {s : Nat} (hs : s < 4096) : mc_rd p 12 s = 0 ↔ V s := by
  have h1 := mc_rd_V h0 hx hA 12 s (Nat.le_refl _)
  constructor
  · intro h
    rw [h, Nat.xor_zero] at h1
    exact h1
  · intro h
    have h2 := hx _ _ h h1
    rw [mc_x4] at h2
    exact hB _ (mc_rd_lt hA hs) h2 (fun e he hp => mc_rd_lo hA 12 s e (Nat.le_refl _) he hp)
theorem mc_P_z {p : Nat → Nat} {V V' : Nat → Prop} {a : Nat} (h0 : V 0) (hx : ∀ a b, V a → V b → V (a ^^^ b)) (hA : mc_PA p V) (hB : mc_PB p V) (hV : ∀ m, V' m ↔ V m ∨ V (m ^^^ a)) (h : mc_rd p 12 a = 0) : mc_PA p V' ∧ mc_PB p V' := by
  have h1 := mc_rd_V h0 hx hA 12 a (Nat.le_refl _)
  rw [h, Nat.xor_zero] at h1
  have h2 : ∀ m, V' m ↔ V m := fun m => by
    rw [hV]
    refine ⟨fun z => z.elim id (fun y => ?_), Or.inl⟩
    have := hx _ _ y h1
    rw [mc_x3] at this
    exact this
  exact ⟨fun e he hp => ⟨(h2 _).mpr (hA e he hp).1, (hA e he hp).2⟩, fun m hm hv => hB m hm ((h2 m).mp hv)⟩
theorem mc_P_s {p q : Nat → Nat} {V V' : Nat → Prop} {a k : Nat} (h0 : V 0) (hx : ∀ a b, V a → V b → V (a ^^^ b)) (hA : mc_PA p V) (hB : mc_PB p V) (hV : ∀ m, V' m ↔ V m ∨ V (m ^^^ a)) (ha : a < 4096)
    (hk : k < 12) (h1 : (mc_rd p 12 a).testBit k = true) (h2 : mc_rd p 12 a < 2 ^ (k + 1)) (hq : ∀ j, q j = if j = k then mc_rd p 12 a else p j) : mc_PA q V' ∧ mc_PB q V' := by
  have hr := mc_rd_V h0 hx hA 12 a (Nat.le_refl _)
  have hpk : p k = 0 := by
    by_cases z : p k = 0
    · exact z
    · rw [mc_rd_lo hA 12 a k (Nat.le_refl _) hk z] at h1
      cases h1
  have hs0 : mc_rd p 12 a ≠ 0 := fun z => by
    rw [z, Nat.zero_testBit] at h1
    cases h1
  refine ⟨fun e he hp => ?_, fun m hm hv hz => ?_⟩
  · rw [hq e] at hp ⊢
    by_cases e1 : e = k
    · rw [if_pos e1, e1]
      refine ⟨(hV _).mpr (Or.inr ?_), h2, h1⟩
      rw [Nat.xor_comm]
      exact hr
    · rw [if_neg e1] at hp ⊢
      exact ⟨(hV _).mpr (Or.inl (hA e he hp).1), (hA e he hp).2⟩
  · have hz' : ∀ e, e < 12 → p e ≠ 0 → m.testBit e = false := fun e he hp => hz e he (by
      rw [hq e, if_neg (fun z => hp (by rw [z]; exact hpk))]
      exact hp)
    rcases (hV m).mp hv with h3 | h3
    · exact hB m hm h3 hz'
    · have h4 := hx _ _ h3 hr
      have e4 : (m ^^^ a) ^^^ (a ^^^ mc_rd p 12 a) = m ^^^ mc_rd p 12 a := by rw [Nat.xor_assoc, mc_x4]
      rw [e4] at h4
      have h5 : m ^^^ mc_rd p 12 a = 0 := hB _ (Nat.xor_lt_two_pow (n := 12) hm (mc_rd_lt hA ha)) h4 (fun e he hp => by
        rw [Nat.testBit_xor, hz' e he hp, mc_rd_lo hA 12 a e (Nat.le_refl _) he hp]
        rfl)
      have h6 : m.testBit k = false := hz k hk (by rw [hq k, if_pos rfl]; exact hs0)
      have h7 := congrArg (fun x => x.testBit k) h5
      have h8 : (m ^^^ mc_rd p 12 a).testBit k = (0 : Nat).testBit k := h7
      rw [Nat.testBit_xor, h6, h1, Nat.zero_testBit] at h8
      cases h8
end
section
/-! ===== Int32 rows ===== -/
def mc_f (F : Nat → Nat) : Nat → Int32 := fun j => nI (F j)
theorem mc_fr (F : Nat → Nat) {e : Nat} (h : e < 2 ^ 31) : mc_f F (nI e).toNatClampNeg = nI (F e) := by
  rw [nI_clamp h]; rfl
theorem mc_bitN {s e : Nat} (hs : s < 2 ^ 31) (he : e < 32) : ((nI s >>> (nI e &&& 31)) &&& 1) = nI (s.testBit e).toNat := by
  rw [pk_shrN hs _ e (s_l e he), pk_andN (by have := Nat.div_le_self s (2 ^ e); omega) 1 (by decide), Nat.testBit_eq_decide_div_mod_eq]
  congr 1
  generalize s / 2 ^ e = z
  rw [show (2 : Nat) ^ 1 = 2 from rfl]
  by_cases h : z % 2 = 1
  · rw [decide_eq_true h, h]; rfl
  · rw [decide_eq_false h]
    show z % 2 = 0
    omega
theorem mc_bit1 {s e : Nat} (hs : s < 2 ^ 31) (he : e < 32) : ((nI s >>> (nI e &&& 31)) &&& 1) = 1 ↔ s.testBit e = true := by
  rw [mc_bitN hs he]
  cases s.testBit e <;> decide
theorem mc_bit0 {s e : Nat} (hs : s < 2 ^ 31) (he : e < 32) : ((nI s >>> (nI e &&& 31)) &&& 1) = 0 ↔ s.testBit e = false := by
  rw [mc_bitN hs he]
  cases s.testBit e <;> decide
theorem mc_shl {e : Nat} (he : e < 31) : (1 : Int32) <<< (nI e &&& 31) = nI (2 ^ e) := by
  have h := pk_shlN (n := 1) (nI e &&& 31) e (s_l e (by omega)) (by rw [Nat.one_mul]; exact Nat.lt_trans (mc_pow_lt (c := 31) he) (by decide))
  rw [Nat.one_mul] at h
  exact h
def mc_A (n : Nat) (a : Nat → Int32) (d : Nat → Nat) : Prop := ∀ x, x < n → a x = nI (d x)
def mc_up (d : Nat → Nat) (k v : Nat) : Nat → Nat := fun j => if j = k then v else d j
theorem mc_up_at (d : Nat → Nat) (k v : Nat) : mc_up d k v k = v := if_pos rfl
theorem mc_up_ne (d : Nat → Nat) {k v j : Nat} (h : j ≠ k) : mc_up d k v j = d j := if_neg h
theorem mc_A_up {n : Nat} {a : Nat → Int32} {d : Nat → Nat} (h : mc_A n a d) (k v : Nat) {i : Nat} (hi : i = k) : mc_A n (upd a i (nI v)) (mc_up d k v) := by
  subst hi
  intro x hx
  unfold upd mc_up
  by_cases e : x = i
  · rw [if_pos e, if_pos e]
  · rw [if_neg e, if_neg e, h x hx]
theorem mc_A_c {n : Nat} {a : Nat → Int32} {d : Nat → Nat} (h : mc_A n a d) {x : Nat} (hx : x < n) (hn : x < 2 ^ 31) : a (nI x).toNatClampNeg = nI (d x) := by
  rw [nI_clamp hn]; exact h x hx
def mc_uq (q : Nat → Bool) (k : Nat) : Nat → Bool := fun j => if j = k then true else q j

/-! ===== the search, pure ===== -/
theorem mc_nd_lt {v : Nat} {b : Bool} (h : v < 7) : mc_nd v b < 14 := by
  unfold mc_nd; split <;> omega
theorem mc_nd_of {x : Nat} (h : x < 14) : ∃ v b, v < 7 ∧ x = mc_nd v b := by
  by_cases z : x < 7
  · exact ⟨x, false, z, rfl⟩
  · exact ⟨x - 7, true, by omega, by show x = x - 7 + 7; omega⟩
theorem mc_nd_inj {v w : Nat} {a b : Bool} (hv : v < 7) (hw : w < 7) (h : mc_nd v a = mc_nd w b) : v = w ∧ a = b := by
  unfold mc_nd at h
  cases a <;> cases b <;> simp at h
  · exact ⟨h, rfl⟩
  · omega
  · omega
  · exact ⟨by omega, rfl⟩
def mc_K (c : Nat) (F T W : Nat → Nat) (S wo u : Nat) (d w : Nat → Nat) (q : Nat → Bool) : Prop :=
  (∀ x, x < 14 → d x ≤ 1000000) ∧ d u = 0 ∧ mc_snd c F T W S wo u d w ∧ (∀ x y, x < 14 → y < 14 → q x = true → q y = false → d x ≤ d y)
def mc_I5 (c : Nat) (F T W : Nat → Nat) (S wo u : Nat) (d w : Nat → Nat) (q : Nat → Bool) (i : Nat) : Prop :=
  mc_K c F T W S wo u d w q ∧ (∀ v b e, v < 7 → e < c → e ≠ wo → q (mc_nd v b) = true → mc_rx F T W S d v b e) ∧ mc_cnt q 14 = i
def mc_I7 (c : Nat) (F T W : Nat → Nat) (S wo u : Nat) (d w : Nat → Nat) (q : Nat → Bool) (z k : Nat) : Prop :=
  mc_K c F T W S wo u d w q ∧ (∀ y, y < 14 → q y = true → d y ≤ d z) ∧ d z < 1000000 ∧ q z = true ∧
  (∀ v b e, v < 7 → e < c → e ≠ wo → q (mc_nd v b) = true → (mc_nd v b ≠ z ∨ e < k) → mc_rx F T W S d v b e)
def mc_mn (d : Nat → Nat) (q : Nat → Bool) (x : Nat) : Prop := x < 14 ∧ q x = false ∧ d x < 1000000 ∧ ∀ y, y < 14 → q y = false → d x ≤ d y
def mc_no (d : Nat → Nat) (q : Nat → Bool) : Prop := ∀ y, y < 14 → q y = false → 1000000 ≤ d y
theorem mc_cnt_uq {q : Nat → Bool} {z n : Nat} (hz : z < n) (h : q z = false) : mc_cnt (mc_uq q z) n = mc_cnt q n + 1 := by
  have h1 := mc_ns_upd (f := fun i => (q i).toNat) (g := fun i => (mc_uq q z i).toNat) hz (fun i _ hne => by
    show (q i).toNat = (mc_uq q z i).toNat
    unfold mc_uq
    rw [if_neg hne])
  have h2 : (mc_uq q z z).toNat = 1 := by unfold mc_uq; rw [if_pos rfl]; rfl
  have h3 : (q z).toNat = 0 := by rw [h]; rfl
  rw [h2, h3] at h1
  exact h1.symm
section
variable {c : Nat} {F T W : Nat → Nat} {S wo u : Nat} {d w : Nat → Nat} {q : Nat → Bool}
theorem mc_I7_0 {i z : Nat} (h : mc_I5 c F T W S wo u d w q i) (hz : mc_mn d q z) : mc_I7 c F T W S wo u d w (mc_uq q z) z 0 := by
  obtain ⟨⟨h1, h2, h3, h4⟩, h5, _⟩ := h
  obtain ⟨z1, z2, z3, z4⟩ := hz
  have hq : ∀ y, mc_uq q z y = true → y = z ∨ q y = true := fun y hy => by
    unfold mc_uq at hy
    by_cases e : y = z
    · exact Or.inl e
    · rw [if_neg e] at hy; exact Or.inr hy
  have hf : ∀ y, mc_uq q z y = false → q y = false := fun y hy => by
    unfold mc_uq at hy
    by_cases e : y = z
    · rw [if_pos e] at hy; cases hy
    · rw [if_neg e] at hy; exact hy
  refine ⟨⟨h1, h2, h3, fun x y hx hy qx qy => ?_⟩, fun y hy qy => ?_, z3, if_pos rfl, fun v b e hv he hw qv hne => ?_⟩
  · rcases hq x qx with e | e
    · rw [e]; exact z4 y hy (hf y qy)
    · exact h4 x y hx hy e (hf y qy)
  · rcases hq y qy with e | e
    · rw [e]; exact Nat.le_refl _
    · exact h4 y z hy z1 e z2
  · rcases hq _ qv with e1 | e1
    · rcases hne with e2 | e2
      · exact absurd e1 e2
      · exact absurd e2 (Nat.not_lt_zero _)
    · exact h5 v b e hv he hw e1
theorem mc_I7_e {z i : Nat} (h : mc_I7 c F T W S wo u d w q z c) (hc : mc_cnt q 14 = i) : mc_I5 c F T W S wo u d w q i := by
  obtain ⟨h1, _, _, _, h5⟩ := h
  exact ⟨h1, fun v b e hv he hw qv => h5 v b e hv he hw qv (Or.inr he), hc⟩
theorem mc_I7_k {v0 : Nat} {b0 : Bool} {k : Nat} (h0 : v0 < 7) (h : mc_I7 c F T W S wo u d w q (mc_nd v0 b0) k) (hr : k ≠ wo → mc_rx F T W S d v0 b0 k) : mc_I7 c F T W S wo u d w q (mc_nd v0 b0) (k + 1) := by
  obtain ⟨h1, h2, h3, h4, h5⟩ := h
  refine ⟨h1, h2, h3, h4, fun v b e hv he hw qv hne => ?_⟩
  by_cases e1 : mc_nd v b = mc_nd v0 b0
  · obtain ⟨rfl, rfl⟩ := mc_nd_inj hv h0 e1
    by_cases e2 : e = k
    · subst e2
      exact hr hw
    · exact h5 v b e hv he hw qv (by
        rcases hne with z | z
        · exact Or.inl z
        · exact Or.inr (by omega))
  · exact h5 v b e hv he hw qv (Or.inl e1)
theorem mc_rx_le {d d' : Nat → Nat} {v e : Nat} {b : Bool} (h : mc_rx F T W S d v b e) (hle : ∀ y, d' y ≤ d y) (hx : d' (mc_nd v b) = d (mc_nd v b)) : mc_rx F T W S d' v b e := by
  unfold mc_rx at h ⊢
  rw [hx]
  exact ⟨fun z => Nat.le_trans (hle _) (h.1 z), fun z => Nat.le_trans (hle _) (h.2 z)⟩
theorem mc_I7_s (hG : mc_G c F T W) {v0 o k : Nat} {b0 : Bool} (h0 : v0 < 7) (ho : o < 7) (hk : k < c) (hw : k ≠ wo) (h : mc_I7 c F T W S wo u d w q (mc_nd v0 b0) k)
    (he : (F k = v0 ∧ o = T k) ∨ (T k = v0 ∧ o = F k)) (hlt : d (mc_nd v0 b0) + W k < d (mc_nd o (b0 ^^ S.testBit k))) :
    mc_I7 c F T W S wo u (mc_up d (mc_nd o (b0 ^^ S.testBit k)) (d (mc_nd v0 b0) + W k)) (mc_up w (mc_nd o (b0 ^^ S.testBit k)) (w (mc_nd v0 b0) ^^^ 2 ^ k)) q (mc_nd v0 b0) (k + 1) := by
  obtain ⟨⟨k1, k2, k3, k4⟩, h2, h3, h4, h5⟩ := h
  have hx14 := mc_nd_lt (b := b0) h0
  have hy14 := mc_nd_lt (b := b0 ^^ S.testBit k) ho
  have h12 : k < 12 := Nat.lt_of_lt_of_le hk hG.1
  have hdl : ∀ y, mc_dl (F k) (T k) y = mc_dl v0 o y := fun y => by
    rcases he with ⟨e1, e2⟩ | ⟨e1, e2⟩
    · rw [e1, e2]
    · rw [e1, e2, mc_dl_comm]
  have hxn : mc_nd v0 b0 ≠ mc_nd o (b0 ^^ S.testBit k) := fun z => by
    rw [← z] at hlt
    omega
  have hqy : q (mc_nd o (b0 ^^ S.testBit k)) = false := mc_nt (fun z => by
    have := h2 _ hy14 z
    omega)
  have hqn : ∀ x, q x = true → x ≠ mc_nd o (b0 ^^ S.testBit k) := fun x hx z => by
    rw [z, hqy] at hx
    cases hx
  have hle : ∀ y, mc_up d (mc_nd o (b0 ^^ S.testBit k)) (d (mc_nd v0 b0) + W k) y ≤ d y := fun y => by
    unfold mc_up
    by_cases e : y = mc_nd o (b0 ^^ S.testBit k)
    · rw [if_pos e, e]; exact Nat.le_of_lt hlt
    · rw [if_neg e]; exact Nat.le_refl _
  have hun : u ≠ mc_nd o (b0 ^^ S.testBit k) := fun z => by
    rw [← z, k2] at hlt
    omega
  have hxx : mc_up d (mc_nd o (b0 ^^ S.testBit k)) (d (mc_nd v0 b0) + W k) (mc_nd v0 b0) = d (mc_nd v0 b0) := mc_up_ne d hxn
  refine ⟨⟨fun x hx => Nat.le_trans (hle x) (k1 x hx), ?_, fun v b hv hd => ?_, fun x y hx hy qx qy => ?_⟩, fun y hy qy => ?_, ?_, h4, fun v b e hv he' hw' qv hne => ?_⟩
  · rw [mc_up_ne d hun]; exact k2
  · by_cases e : mc_nd v b = mc_nd o (b0 ^^ S.testBit k)
    · obtain ⟨rfl, rfl⟩ := mc_nd_inj hv ho e
      rw [mc_up_at, mc_up_at]
      obtain ⟨w1, w2, w3, w4, w5⟩ := k3 v0 b0 h0 h3
      refine ⟨Nat.xor_lt_two_pow w1 (mc_pow_lt hk), fun y hy => ?_, ?_, ?_, ?_⟩
      · rw [mc_bd_xor, w2 y hy, mc_bd_one hk, hdl y, mc_dl_x]
      · rw [mc_ip_xl, w3, mc_ip_1l h12]
      · rw [Nat.testBit_xor, w4, Nat.testBit_two_pow_of_ne hw]
        rfl
      · have := mc_wt_up (W := W) (s := w (mc_nd v0 b0)) hk
        omega
    · rw [mc_up_ne d e] at hd ⊢
      rw [mc_up_ne w e]
      exact k3 v b hv hd
  · rw [mc_up_ne d (hqn x qx)]
    by_cases e : y = mc_nd o (b0 ^^ S.testBit k)
    · rw [e, mc_up_at]
      have := h2 x hx qx
      omega
    · rw [mc_up_ne d e]
      exact k4 x y hx hy qx qy
  · rw [mc_up_ne d (hqn y qy), hxx]
    exact h2 y hy qy
  · rw [hxx]; exact h3
  · by_cases e1 : mc_nd v b = mc_nd v0 b0 ∧ e = k
    · obtain ⟨e1, e2⟩ := e1
      obtain ⟨rfl, rfl⟩ := mc_nd_inj hv h0 e1
      subst e2
      have hFT := (hG.2.2 e hk).1
      unfold mc_rx
      rw [hxx]
      rcases he with ⟨a1, a2⟩ | ⟨a1, a2⟩
      · exact ⟨fun _ => by rw [← a2, mc_up_at]; exact Nat.le_refl _, fun z => absurd (a1.trans z.symm) hFT⟩
      · exact ⟨fun z => absurd (z.trans a1.symm) hFT, fun _ => by rw [← a2, mc_up_at]; exact Nat.le_refl _⟩
    · refine mc_rx_le (h5 v b e hv he' hw' qv ?_) hle (mc_up_ne d (hqn _ qv))
      rcases hne with z | z
      · exact Or.inl z
      · by_cases e2 : e = k
        · exact Or.inl (fun y => e1 ⟨y, e2⟩)
        · exact Or.inr (by omega)
theorem mc_I5_0 (hG : mc_G c F T W) (hu : u < 7) : mc_I5 c F T W S wo u (mc_up (fun _ => 1000000) u 0) (fun _ => 0) (fun _ => false) 0 := by
  refine ⟨⟨fun x _ => ?_, mc_up_at _ _ _, fun v b hv hd => ?_, fun _ _ _ _ z => (by cases z)⟩, fun _ _ _ _ _ _ z => (by cases z), rfl⟩
  · show (if x = u then 0 else 1000000) ≤ 1000000
    split <;> omega
  · by_cases e : mc_nd v b = u
    · obtain ⟨rfl, rfl⟩ := mc_nd_inj (w := u) (b := false) hv hu e
      exact ⟨Nat.two_pow_pos c, fun y _ => by rw [mc_bd_zero, mc_dl_self], mc_ip_0l S, Nat.zero_testBit wo, by rw [mc_wt_zero]; exact Nat.zero_le _⟩
    · rw [mc_up_ne _ e] at hd
      exact absurd hd (Nat.lt_irrefl _)
theorem mc_I5_DJ {i : Nat} (h : mc_I5 c F T W S wo u d w q i) (hx : 14 ≤ i ∨ mc_no d q) : mc_DJ c F T W S wo u d w := by
  obtain ⟨⟨h1, h2, h3, h4⟩, h5, h6⟩ := h
  refine ⟨h2, fun v b e hv he hw hd => h5 v b e hv he hw ?_, h3⟩
  rcases hx with z | z
  · exact mc_cnt_full (n := 14) (by omega) _ (mc_nd_lt hv)
  · refine mc_nf (fun y => ?_)
    have := z _ (mc_nd_lt hv) y
    omega
theorem mc_I5_u (hu : u < 7) : mc_mn (mc_up (fun _ => 1000000) u 0) (fun _ => false) u := by
  refine ⟨by omega, rfl, by rw [mc_up_at]; omega, fun y _ _ => by rw [mc_up_at]; exact Nat.zero_le _⟩
end
end
section
/-! ===== the search, walked ===== -/
theorem mc_pre (n m : Nat) (h : m < n) : ∃ k, n = k + 1 := ⟨n - 1, by omega⟩
theorem mc_A_uq {n k i : Nat} {a : Nat → Int32} {q : Nat → Bool} (h : mc_A n a (fun x => (q x).toNat)) (hi : i = k) : mc_A n (upd a i 1) (fun x => (mc_uq q k x).toNat) := by
  subst hi
  intro x hx
  show (if x = i then 1 else a x) = nI ((if x = i then true else q x).toNat)
  by_cases e : x = i
  · rw [if_pos e, if_pos e]; rfl
  · rw [if_neg e, if_neg e]; exact h x hx
theorem mc_A_ext {k i v : Nat} {a : Nat → Int32} {x : Int32} (h : mc_A k a (fun _ => v)) (hi : i = k) (hx : x = nI v) : mc_A (k + 1) (upd a i x) (fun _ => v) := by
  subst hi hx
  intro y hy
  show (if y = i then nI v else a y) = nI v
  by_cases e : y = i
  · rw [if_pos e]
  · rw [if_neg e]; exact h y (by omega)
section
variable {c : Nat} {F T W : Nat → Nat} {rk fo bw bs : Int32} {gr wi cy cw di wa dn pi : Nat → Int32}
theorem mc_near_l {post : Int32 → Prop} {d : Nat → Nat} {q : Nat → Bool} (hd : mc_A 14 di d) (hq : mc_A 14 dn (fun x => (q x).toNat)) (hb : ∀ x, x < 14 → d x ≤ 1000000)
    (h1 : mc_no d q → post (-1)) (h2 : ∀ x, mc_mn d q x → post (nI x)) :
    ∀ m j n B, j + m = 14 → m < n → ((B = -1 ∧ ∀ y, y < j → q y = false → 1000000 ≤ d y) ∨ (∃ x, x < 14 ∧ B = nI x ∧ q x = false ∧ d x < 1000000 ∧ ∀ y, y < j → q y = false → d x ≤ d y)) →
    wX_nearest_4 post (nI c) rk fo bw bs (mc_f F) (mc_f T) (mc_f W) gr wi cy cw di wa dn pi n B (nI j) := by
  intro m
  induction m with
  | zero =>
    intro j n B hj hn hI
    obtain ⟨n, rfl⟩ := mc_pre n _ hn
    have e : j = 14 := by omega
    subst e
    refine br_t (nI_le (a := 14) (b := 14) (Nat.le_refl _) (by decide)) ?_
    rcases hI with ⟨rfl, hI⟩ | ⟨x, hx, rfl, a1, a2, a3⟩
    · exact h1 hI
    · exact h2 x ⟨hx, a1, a2, a3⟩
  | succ m ih =>
    intro j n B hj hn hI
    obtain ⟨n, rfl⟩ := mc_pre n _ hn
    have hj14 : j < 14 := by omega
    have ej : (nI j).toNatClampNeg = j := nI_clamp (by omega)
    have ed := hd j hj14
    have eq : dn j = nI (q j).toNat := hq j hj14
    have hbj := hb j hj14
    have vj : vp_in (nI j) 14 := vp_in_nI hj14 (by decide)
    have next : ∀ B', ((B' = -1 ∧ ∀ y, y < j + 1 → q y = false → 1000000 ≤ d y) ∨ (∃ x, x < 14 ∧ B' = nI x ∧ q x = false ∧ d x < 1000000 ∧ ∀ y, y < j + 1 → q y = false → d x ≤ d y)) →
        ∀ y, y = nI j + 1 → wX_nearest_4 post (nI c) rk fo bw bs (mc_f F) (mc_f T) (mc_f W) gr wi cy cw di wa dn pi n B' y := fun B' h => nm_r (nI_1 j) (ih (j + 1) n B' (by omega) (by omega) h)
    refine pk_le 14 j (fun h => absurd h (by omega)) (fun _ => And.intro vj ?_)
    rw [ej]
    cases qj : q j
    · refine br_t (by rw [eq, qj]; rfl) (And.intro vj ?_)
      refine pk_le 1000000 (d j) (fun h => next B ?_) (fun h => ?_) (hy := ed)
      · rcases hI with ⟨rfl, hI⟩ | ⟨x, hx, rfl, a1, a2, a3⟩
        · refine Or.inl ⟨rfl, fun y hy qy => ?_⟩
          by_cases e : y = j
          · rw [e]; exact h
          · exact hI y (by omega) qy
        · refine Or.inr ⟨x, hx, rfl, a1, a2, fun y hy qy => ?_⟩
          by_cases e : y = j
          · rw [e]; omega
          · exact a3 y (by omega) qy
      · rcases hI with ⟨rfl, hI⟩ | ⟨x, hx, rfl, a1, a2, a3⟩
        · refine br_t (by decide) (next (nI j) (Or.inr ⟨j, hj14, rfl, qj, h, fun y hy qy => ?_⟩))
          by_cases e : y = j
          · rw [e]; exact Nat.le_refl _
          · have := hI y (by omega) qy
            omega
        · have ex : (nI x).toNatClampNeg = x := nI_clamp (by omega)
          refine br_f (nI_pos (by omega)) (And.intro vj (And.intro (vp_in_nI hx (by decide)) ?_))
          rw [ex]
          refine pk_le (d x) (d j) (fun h3 => next (nI x) (Or.inr ⟨x, hx, rfl, a1, a2, fun y hy qy => ?_⟩)) (fun h3 => next (nI j) (Or.inr ⟨j, hj14, rfl, qj, h, fun y hy qy => ?_⟩)) (hd x hx) ed
          · by_cases e : y = j
            · rw [e]; exact h3
            · exact a3 y (by omega) qy
          · by_cases e : y = j
            · rw [e]; exact Nat.le_refl _
            · have := a3 y (by omega) qy
              omega
    · refine br_f (by rw [eq, qj]; decide) (next B ?_)
      rcases hI with ⟨rfl, hI⟩ | ⟨x, hx, rfl, a1, a2, a3⟩
      · refine Or.inl ⟨rfl, fun y hy qy => ?_⟩
        by_cases e : y = j
        · rw [e, qj] at qy; cases qy
        · exact hI y (by omega) qy
      · refine Or.inr ⟨x, hx, rfl, a1, a2, fun y hy qy => ?_⟩
        by_cases e : y = j
        · rw [e, qj] at qy; cases qy
        · exact a3 y (by omega) qy
theorem mc_near {post : Int32 → Prop} {d : Nat → Nat} {q : Nat → Bool} (hd : mc_A 14 di d) (hq : mc_A 14 dn (fun x => (q x).toNat)) (hb : ∀ x, x < 14 → d x ≤ 1000000)
    (h1 : mc_no d q → post (-1)) (h2 : ∀ x, mc_mn d q x → post (nI x)) : wpX_nearest post (nI c, rk, fo, bw, bs, mc_f F, mc_f T, mc_f W, gr, wi, cy, cw, di, wa, dn, pi) :=
  ⟨15, mc_near_l hd hq hb h1 h2 14 0 15 (-1) (by omega) (by omega) (Or.inl ⟨rfl, fun y hy => absurd hy (Nat.not_lt_zero y)⟩)⟩
theorem mc_r111 {post : SX → Prop} {d w : Nat → Nat} (hd : mc_A 14 di d) (hw : mc_A 14 wa w) (hb : ∀ x, x < 14 → d x ≤ 1000000) {x e y : Nat} (hx : x < 14) (he : e < 12) (hy : y < 14) (hW : W e ≤ 100)
    (k1 : d y ≤ d x + W e → post (nI c, rk, fo, bw, bs, mc_f F, mc_f T, mc_f W, gr, wi, cy, cw, di, wa, dn, pi)) (k2 : d x + W e < d y → post (nI c, rk, fo, bw, bs, mc_f F, mc_f T, mc_f W, gr, wi, cy, cw, upd di y (nI (d x + W e)), upd wa y (nI (w x ^^^ 2 ^ e)), dn, pi)) :
    wX_relax_111 post (nI x) (nI e) (nI y) (nI c) rk fo bw bs (mc_f F) (mc_f T) (mc_f W) gr wi cy cw di wa dn pi := by
  have ex : (nI x).toNatClampNeg = x := nI_clamp (by omega)
  have ee : (nI e).toNatClampNeg = e := nI_clamp (by omega)
  have ey : (nI y).toNatClampNeg = y := nI_clamp (by omega)
  have vx : vp_in (nI x) 14 := vp_in_nI hx (by decide)
  have ve : vp_in (nI e) 12 := vp_in_nI he (by decide)
  have vy : vp_in (nI y) 14 := vp_in_nI hy (by decide)
  have es : di x + mc_f W e = nI (d x + W e) := by
    rw [hd x hx]
    exact nI_add _ _
  have ew : wa x ^^^ ((1 : Int32) <<< (nI e &&& 31)) = nI (w x ^^^ 2 ^ e) := by
    rw [hw x hx, mc_shl (by omega), nx_xor]
  have hbx := hb x hx
  have hby := hb y hy
  unfold wX_relax_111
  rw [ex, ee, ey]
  refine ⟨vx, ve, vy, pk_le (d y) (d x + W e) (fun h => k1 h) (fun h => ⟨vx, ve, vy, nm_r (congrArg (upd di y) es) ⟨vx, vy, nm_r (congrArg (upd wa y) ew) (k2 h)⟩⟩) (hd y hy) es⟩
theorem mc_r55 {post : SX → Prop} {S e v o : Nat} {b : Bool} (hv : v < 7) (he : e < 12) (hS : S < 4096)
    (h : wX_relax_111 post (nI (mc_nd v b)) (nI e) (nI (mc_nd o (b ^^ S.testBit e))) (nI c) rk fo bw bs (mc_f F) (mc_f T) (mc_f W) gr wi cy cw di wa dn pi) : wX_relax_55 post (nI (mc_nd v b)) (nI e) (nI S) (nI o) (nI c) rk fo bw bs (mc_f F) (mc_f T) (mc_f W) gr wi cy cw di wa dn pi := by
  have hb := mc_bit1 (s := S) (e := e) (by omega) (by omega)
  have e7 : nI o + 7 = nI (o + 7) := nI_add o 7
  cases hs : S.testBit e <;> cases b <;> rw [hs] at h hb
  · exact br_f (fun z => by cases hb.mp z) (br_t (nI_lt (b := 7) hv (by decide)) (br_t rfl (br_t rfl h)))
  · refine br_f (fun z => by cases hb.mp z) (br_f (nI_nlt (a := v + 7) (b := 7) (by omega) (by omega)) (br_f (by decide) (br_f (by decide) ?_)))
    rw [e7]
    exact h
  · refine br_t (hb.mpr rfl) (br_t (nI_lt (b := 7) hv (by decide)) (br_f (by decide) (br_f (by decide) ?_)))
    rw [e7]
    exact h
  · exact br_t (hb.mpr rfl) (br_f (nI_nlt (a := v + 7) (b := 7) (by omega) (by omega)) (br_t rfl (br_t rfl h)))
theorem mc_relax {post : SX → Prop} (hG : mc_G c F T W) {S e v : Nat} {b : Bool} {d w : Nat → Nat} (hd : mc_A 14 di d) (hw : mc_A 14 wa w) (hb : ∀ x, x < 14 → d x ≤ 1000000) (hv : v < 7) (he : e < c) (hS : S < 4096)
    (k1 : mc_rx F T W S d v b e → post (nI c, rk, fo, bw, bs, mc_f F, mc_f T, mc_f W, gr, wi, cy, cw, di, wa, dn, pi))
    (k2 : ∀ o, o < 7 → ((F e = v ∧ o = T e) ∨ (T e = v ∧ o = F e)) → d (mc_nd v b) + W e < d (mc_nd o (b ^^ S.testBit e)) →
      post (nI c, rk, fo, bw, bs, mc_f F, mc_f T, mc_f W, gr, wi, cy, cw, upd di (mc_nd o (b ^^ S.testBit e)) (nI (d (mc_nd v b) + W e)), upd wa (mc_nd o (b ^^ S.testBit e)) (nI (w (mc_nd v b) ^^^ 2 ^ e)), dn, pi)) :
    wpX_relax post (nI c, rk, fo, bw, bs, mc_f F, mc_f T, mc_f W, gr, wi, cy, cw, di, wa, dn, pi) (nI (mc_nd v b)) (nI e) (nI S) := by
  have h12 : e < 12 := Nat.lt_of_lt_of_le he hG.1
  have hFT := (hG.2.2 e he).1
  obtain ⟨hF, hT, hW⟩ := hG.2.1 e
  have h14 := mc_nd_lt (b := b) hv
  have ve : vp_in (nI e) 12 := vp_in_nI h12 (by decide)
  have hm : nI (mc_nd v b) - nI (mc_nd v b) / 7 * 7 = nI v := by
    have h := pk_rem (a := mc_nd v b) (d := 7) (by omega) (by decide) (by decide)
    have e2 : mc_nd v b % 7 = v := by
      unfold mc_nd
      split <;> omega
    rw [e2] at h
    exact h
  have K : ∀ o, o < 7 → ((F e = v ∧ o = T e) ∨ (T e = v ∧ o = F e)) → wX_relax_55 post (nI (mc_nd v b)) (nI e) (nI S) (nI o) (nI c) rk fo bw bs (mc_f F) (mc_f T) (mc_f W) gr wi cy cw di wa dn pi := fun o ho hh =>
    mc_r55 hv h12 hS (mc_r111 hd hw hb h14 h12 (mc_nd_lt ho) hW (fun h => k1 (by
      rcases hh with ⟨a1, a2⟩ | ⟨a1, a2⟩
      · exact ⟨fun _ => by rw [← a2]; exact h, fun z => absurd (a1.trans z.symm) hFT⟩
      · exact ⟨fun z => absurd (z.trans a1.symm) hFT, fun _ => by rw [← a2]; exact h⟩)) (fun h => k2 o ho hh h))
  have eF := mc_fr F (e := e) (by omega)
  have eT := mc_fr T (e := e) (by omega)
  refine And.intro (by decide) (nm_r hm (And.intro ve ?_))
  rw [eF]
  refine pk_eq v (F e) (fun h => ?_) (fun h => And.intro ve ?_)
  · unfold wX_relax_29
    rw [eF, eT]
    exact ⟨ve, br_t (by rw [h]) ⟨ve, K (T e) hT (Or.inl ⟨h.symm, rfl⟩)⟩⟩
  · rw [eT]
    refine pk_eq v (T e) (fun h2 => ?_) (fun h2 => k1 ⟨fun z => absurd z.symm h, fun z => absurd z.symm h2⟩)
    unfold wX_relax_29
    rw [eF, eT]
    exact ⟨ve, br_f (fun z => h ((nI_eq (by omega) (by omega)).mp z)) ⟨ve, K (F e) hF (Or.inr ⟨h2.symm, rfl⟩)⟩⟩
end
section
variable {c : Nat} {F T W : Nat → Nat} {rk fo bw bs : Int32} {gr wi cy cw pi : Nat → Int32}
theorem mc_s77 (hG : mc_G c F T W) {post : SX → Prop} {J : Int32 → Int32 → Int32 → Int32 → Int32 → Int32 → Int32 → (Nat → Int32) → (Nat → Int32) → (Nat → Int32) → (Nat → Int32) → (Nat → Int32) → (Nat → Int32) → (Nat → Int32) → (Nat → Int32) → (Nat → Int32) → (Nat → Int32) → (Nat → Int32) → Prop}
    {S wo u v0 : Nat} {b0 : Bool} {q : Nat → Bool} {x3 x5 : Int32} {dn : Nat → Int32} (hS : S < 4096) (h0 : v0 < 7) (hx3 : ∀ k, k < 12 → (nI k = x3 ↔ k = wo))
    (hJ : ∀ di wa d w, mc_A 14 di d → mc_A 14 wa w → mc_I7 c F T W S wo u d w q (mc_nd v0 b0) c → wpX_nearest (fun r => ∀ y : Int32, y = x5 + 1 → J r y (nI c) rk fo bw bs (mc_f F) (mc_f T) (mc_f W) gr wi cy cw di wa dn pi) (nI c, rk, fo, bw, bs, mc_f F, mc_f T, mc_f W, gr, wi, cy, cw, di, wa, dn, pi)) :
    ∀ m k n di wa d w, k + m = c → m < n → mc_A 14 di d → mc_A 14 wa w → mc_I7 c F T W S wo u d w q (mc_nd v0 b0) k →
    wX_searchFrom_77 post J (nI S) x3 (nI (mc_nd v0 b0)) x5 n (nI k) (nI c) rk fo bw bs (mc_f F) (mc_f T) (mc_f W) gr wi cy cw di wa dn pi := by
  have hc := hG.1
  intro m
  induction m with
  | zero =>
    intro k n di wa d w hk hn hd hw hI
    obtain ⟨n, rfl⟩ := mc_pre n _ hn
    have e : k = c := by omega
    subst e
    exact br_t (nI_le (Nat.le_refl _) (by omega)) (hJ di wa d w hd hw hI)
  | succ m ih =>
    intro k n di wa d w hk hn hd hw hI
    obtain ⟨n, rfl⟩ := mc_pre n _ hn
    refine pk_le c k (fun h => absurd h (by omega)) (fun _ => ?_)
    by_cases hkx : nI k = x3
    · refine br_t hkx (nm_r (nI_1 k) (ih (k + 1) n di wa d w (by omega) (by omega) hd hw (mc_I7_k h0 hI (fun z => absurd ((hx3 k (by omega)).mp hkx) z))))
    · have hkw : k ≠ wo := fun z => hkx ((hx3 k (by omega)).mpr z)
      refine br_f hkx (mc_relax hG hd hw hI.1.1 h0 (by omega) hS (fun hr => ?_) (fun o ho he hlt => ?_))
      · exact nm_r (nI_1 k) (ih (k + 1) n di wa d w (by omega) (by omega) hd hw (mc_I7_k h0 hI (fun _ => hr)))
      · exact nm_r (nI_1 k) (ih (k + 1) n _ _ _ _ (by omega) (by omega) (mc_A_up hd _ _ rfl) (mc_A_up hw _ _ rfl) (mc_I7_s hG h0 ho (by omega) hkw hI he hlt))
theorem mc_s54 (hG : mc_G c F T W) {post : SX → Prop} {S wo u : Nat} {x3 : Int32} (hS : S < 4096) (hx3 : ∀ k, k < 12 → (nI k = x3 ↔ k = wo))
    (hp : ∀ di wa dn d w, mc_A 14 di d → mc_A 14 wa w → (∀ x, x < 14 → d x ≤ 1000000) → mc_DJ c F T W S wo u d w → post (nI c, rk, fo, bw, bs, mc_f F, mc_f T, mc_f W, gr, wi, cy, cw, di, wa, dn, pi)) :
    ∀ m i n di wa dn d w q B, i + m = 14 → m < n → mc_A 14 di d → mc_A 14 wa w → mc_A 14 dn (fun x => (q x).toNat) → mc_I5 c F T W S wo u d w q i → ((B = -1 ∧ mc_no d q) ∨ ∃ x, B = nI x ∧ mc_mn d q x) →
    wX_searchFrom_54 post (nI S) x3 n B (nI i) (nI c) rk fo bw bs (mc_f F) (mc_f T) (mc_f W) gr wi cy cw di wa dn pi := by
  have hc := hG.1
  intro m
  induction m with
  | zero =>
    intro i n di wa dn d w q B hi hn hd hw hq hI hB
    obtain ⟨n, rfl⟩ := mc_pre n _ hn
    have e : i = 14 := by omega
    subst e
    exact br_t (nI_le (a := 14) (b := 14) (Nat.le_refl _) (by decide)) (hp di wa dn d w hd hw hI.1.1 (mc_I5_DJ hI (Or.inl (Nat.le_refl _))))
  | succ m ih =>
    intro i n di wa dn d w q B hi hn hd hw hq hI hB
    obtain ⟨n, rfl⟩ := mc_pre n _ hn
    refine pk_le 14 i (fun h => absurd h (by omega)) (fun _ => ?_)
    rcases hB with ⟨rfl, hno⟩ | ⟨x, rfl, hmn⟩
    · exact br_t (by decide) (hp di wa dn d w hd hw hI.1.1 (mc_I5_DJ hI (Or.inr hno)))
    · have hx := hmn.1
      refine br_f (nI_pos (by omega)) (And.intro (vp_in_nI hx (by decide)) (nm_r (e' := upd dn x 1) (by rw [nI_clamp (by omega)]; rfl) ?_))
      have h7 := mc_I7_0 hI hmn
      have hcn : mc_cnt (mc_uq q x) 14 = i + 1 := by rw [mc_cnt_uq hx hmn.2.1, hI.2.2]
      obtain ⟨v0, b0, h0, rfl⟩ := mc_nd_of hx
      have hq' := mc_A_uq (k := mc_nd v0 b0) hq rfl
      exact ⟨c + 1, mc_s77 hG hS h0 hx3 (fun di wa d w hd hw hI7 => mc_near hd hq' hI7.1.1
        (fun hno => nm_r (nI_1 i) (ih (i + 1) n di wa _ d w _ _ (by omega) (by omega) hd hw hq' (mc_I7_e hI7 hcn) (Or.inl ⟨rfl, hno⟩)))
        (fun x hx => nm_r (nI_1 i) (ih (i + 1) n di wa _ d w _ _ (by omega) (by omega) hd hw hq' (mc_I7_e hI7 hcn) (Or.inr ⟨x, rfl, hx⟩))))
        c 0 (c + 1) di wa d w (by omega) (by omega) hd hw h7⟩
theorem mc_s3 (hG : mc_G c F T W) {post : SX → Prop} {S wo u : Nat} {x3 : Int32} (hS : S < 4096) (hx3 : ∀ k, k < 12 → (nI k = x3 ↔ k = wo)) (hu : u < 7)
    (hp : ∀ di wa dn d w, mc_A 14 di d → mc_A 14 wa w → (∀ x, x < 14 → d x ≤ 1000000) → mc_DJ c F T W S wo u d w → post (nI c, rk, fo, bw, bs, mc_f F, mc_f T, mc_f W, gr, wi, cy, cw, di, wa, dn, pi)) :
    ∀ m k n di wa dn, k + m = 14 → m < n → mc_A k di (fun _ => 1000000) → mc_A k wa (fun _ => 0) → mc_A k dn (fun _ => 0) →
    wX_searchFrom_3 post (nI u) (nI S) x3 (nI c) rk fo bw bs n (nI k) (mc_f F) (mc_f T) (mc_f W) gr wi cy cw di wa dn pi := by
  intro m
  induction m with
  | zero =>
    intro k n di wa dn hk hn hd hw hq
    obtain ⟨n, rfl⟩ := mc_pre n _ hn
    have e : k = 14 := by omega
    subst e
    refine br_t (nI_le (a := 14) (b := 14) (Nat.le_refl _) (by decide)) (And.intro (vp_in_nI (by omega) (by decide)) (nm_r (e' := upd di u (nI 0)) (by rw [nI_clamp (by omega)]; rfl) ⟨15, ?_⟩))
    exact mc_s54 hG hS hx3 hp 14 0 15 _ wa dn _ _ (fun _ => false) (nI u) (by omega) (by omega) (mc_A_up hd u 0 rfl) hw hq (mc_I5_0 hG hu) (Or.inr ⟨u, rfl, mc_I5_u hu⟩)
  | succ m ih =>
    intro k n di wa dn hk hn hd hw hq
    obtain ⟨n, rfl⟩ := mc_pre n _ hn
    have ek : (nI k).toNatClampNeg = k := nI_clamp (by omega)
    have vk : vp_in (nI k) 14 := vp_in_nI (by omega) (by decide)
    refine pk_le 14 k (fun h => absurd h (by omega)) (fun _ => And.intro vk (nm_e (And.intro vk (nm_e (And.intro vk (nm_e (nm_r (nI_1 k) ?_)))))))
    exact ih (k + 1) n _ _ _ (by omega) (by omega) (mc_A_ext hd ek rfl) (mc_A_ext hw ek rfl) (mc_A_ext hq ek rfl)
theorem mc_search (hG : mc_G c F T W) {post : SX → Prop} {S wo u : Nat} {x3 : Int32} {di wa dn : Nat → Int32} (hS : S < 4096) (hx3 : ∀ k, k < 12 → (nI k = x3 ↔ k = wo)) (hu : u < 7)
    (hp : ∀ di wa dn d w, mc_A 14 di d → mc_A 14 wa w → (∀ x, x < 14 → d x ≤ 1000000) → mc_DJ c F T W S wo u d w → post (nI c, rk, fo, bw, bs, mc_f F, mc_f T, mc_f W, gr, wi, cy, cw, di, wa, dn, pi)) :
    wpX_searchFrom post (nI c, rk, fo, bw, bs, mc_f F, mc_f T, mc_f W, gr, wi, cy, cw, di, wa, dn, pi) (nI u) (nI S) x3 :=
  ⟨15, mc_s3 hG hS hx3 hu hp 14 0 15 di wa dn (by omega) (by omega) (fun x hx => absurd hx (Nat.not_lt_zero x)) (fun x hx => absurd hx (Nat.not_lt_zero x)) (fun x hx => absurd hx (Nat.not_lt_zero x))⟩
end
end
section
/-! ===== X: lightest, through, bridges, closed ===== -/
theorem mc_m1 : ∀ k, k < 12 → (nI k = -1 ↔ k = 99) := fun k hk =>
  ⟨fun h => absurd (by rw [h]; decide : nI k < 0) (nI_pos (by omega)), fun h => by omega⟩
def mc_TH (c : Nat) (F T W : Nat → Nat) (e : Nat) (r : Int32) : Prop :=
  (r = -5 ∧ ∀ D, mc_cl F T c D → D.testBit e = false) ∨ (∃ m D, r = nI m ∧ m ≤ 1200 ∧ mc_cl F T c D ∧ D.testBit e = true ∧ mc_wt W c D = m ∧ ∀ D', mc_cl F T c D' → D'.testBit e = true → m ≤ mc_wt W c D')
theorem mc_n5 {m : Nat} (h : m < 2 ^ 31) : nI m ≠ -5 := fun z => nI_pos h (by rw [z]; decide)
theorem mc_TH_u {c e : Nat} {F T W : Nat → Nat} {r r' : Int32} (h : mc_TH c F T W e r) (h' : mc_TH c F T W e r') : r' = r := by
  rcases h with ⟨a1, a2⟩ | ⟨m, D, a1, a2, a3, a4, a5, a6⟩
  · rcases h' with ⟨b1, b2⟩ | ⟨n, E, b1, b2, b3, b4, b5, b6⟩
    · rw [a1, b1]
    · rw [a2 E b3] at b4; cases b4
  · rcases h' with ⟨b1, b2⟩ | ⟨n, E, b1, b2, b3, b4, b5, b6⟩
    · rw [b2 D a3] at a4; cases a4
    · have h1 := a6 E b3 b4
      have h2 := b6 D a3 a4
      rw [a1, b1]
      congr 1
      omega
def mc_bg (F T : Nat → Nat) (c e : Nat) : Bool := (List.range 4096).all (fun D => !(mc_clb F T c D && D.testBit e))
theorem mc_bg_iff {c e : Nat} {F T W : Nat → Nat} (hG : mc_G c F T W) : mc_bg F T c e = true ↔ ∀ D, mc_cl F T c D → D.testBit e = false := by
  unfold mc_bg
  rw [List.all_eq_true]
  constructor
  · intro h D hD
    have h1 := h D (List.mem_range.mpr (mc_cl_lt hG hD))
    rw [mc_clb_iff.mpr hD, Bool.true_and, Bool.not_eq_true'] at h1
    exact h1
  · intro h D _
    cases hD : mc_clb F T c D
    · rfl
    · rw [h D (mc_clb_iff.mp hD)]; rfl
theorem mc_bg_TH {c e : Nat} {F T W : Nat → Nat} {r : Int32} (hG : mc_G c F T W) (h : mc_TH c F T W e r) : mc_bg F T c e = true ↔ r = -5 := by
  rw [mc_bg_iff hG]
  rcases h with ⟨a1, a2⟩ | ⟨m, D, a1, a2, a3, a4, a5, a6⟩
  · exact ⟨fun _ => a1, fun _ => a2⟩
  · refine ⟨fun z => ?_, fun z => absurd (a1.symm.trans z) (mc_n5 (by omega))⟩
    rw [z D a3] at a4
    cases a4
section
variable {c : Nat} {F T W : Nat → Nat}
theorem mc_TH_lt (hG : mc_G c F T W) {e : Nat} {d w : Nat → Nat} (he : e < c) (hd : mc_DJ c F T W 0 e (F e) d w) (hf : d (T e) < 1000000) : mc_TH c F T W e (nI (d (T e) + W e)) := by
  obtain ⟨D, h1, h2, h3⟩ := mc_thr_hi hG he hd hf
  have h4 := mc_thr_lo hG he hd h1 h2
  have h5 := mc_wt_bd hG D
  exact Or.inr ⟨_, D, rfl, by omega, h1, h2, by omega, fun D' h6 h7 => mc_thr_lo hG he hd h6 h7⟩
theorem mc_TH_ge (hG : mc_G c F T W) {e : Nat} {d w : Nat → Nat} (he : e < c) (hd : mc_DJ c F T W 0 e (F e) d w) (hf : ¬ d (T e) < 1000000) : mc_TH c F T W e (-5) := by
  refine Or.inl ⟨rfl, fun D hD => mc_nt (fun z => ?_)⟩
  have h4 := mc_thr_lo hG he hd hD z
  have h5 := mc_wt_bd hG D
  omega
end
section
variable {c : Nat} {F T W : Nat → Nat} {rk fo : Int32} {gr wi cy cw pi : Nat → Int32}
def mc_Il (c : Nat) (F T W : Nat → Nat) (S z p s : Nat) : Prop :=
  p ≤ 1000000 ∧ (∀ y, y < z → ∃ d : Nat → Nat, d y = 0 ∧ mc_clo c F T W S 99 d ∧ p ≤ d (y + 7)) ∧ (p = 1000000 ∨ (p < 1000000 ∧ ∃ y d w, y < 7 ∧ mc_DJ c F T W S 99 y d w ∧ p = d (y + 7) ∧ s = w (y + 7)))
theorem mc_lightest_l (hG : mc_G c F T W) {post : SX → Prop} {S : Nat} (hS : S < 4096) (hE : ∃ D, mc_cl F T c D ∧ mc_ip D S = true)
    (hp : ∀ p s di wa dn, mc_LI c F T W S p s → post (nI c, rk, fo, nI p, nI s, mc_f F, mc_f T, mc_f W, gr, wi, cy, cw, di, wa, dn, pi)) :
    ∀ m z n p s di wa dn, z + m = 7 → m < n → mc_Il c F T W S z p s → wX_lightest_13 post (nI S) n (nI z) (nI c) rk fo (nI p) (nI s) (mc_f F) (mc_f T) (mc_f W) gr wi cy cw di wa dn pi := by
  intro m
  induction m with
  | zero =>
    intro z n p s di wa dn hz hn hI
    obtain ⟨n, rfl⟩ := mc_pre n _ hn
    have e : z = 7 := by omega
    subst e
    refine br_t (nI_le (a := 7) (b := 7) (Nat.le_refl _) (by decide)) (hp p s di wa dn ?_)
    obtain ⟨h1, h2, h3⟩ := hI
    obtain ⟨D, hD, hi⟩ := hE
    have h4 := mc_trc hG h2 D hD hi
    have h5 := mc_wt_bd hG D
    rcases h3 with h3 | ⟨h3, y, d, w, hy, hd, e1, e2⟩
    · omega
    · exact mc_light hG h2 hy hd e1 e2 h3
  | succ m ih =>
    intro z n p s di wa dn hz hn hI
    obtain ⟨n, rfl⟩ := mc_pre n _ hn
    have e7 : nI z + 7 = nI (z + 7) := nI_add z 7
    have v7 : vp_in (nI (z + 7)) 14 := vp_in_nI (by omega) (by decide)
    have c7 : (nI (z + 7)).toNatClampNeg = z + 7 := nI_clamp (by omega)
    obtain ⟨h1, h2, h3⟩ := hI
    refine pk_le 7 z (fun h => absurd h (by omega)) (fun _ => mc_search (wo := 99) hG hS mc_m1 (by omega) (fun di wa dn d w hd hw hb hD => ?_))
    have hb7 := hb (z + 7) (by omega)
    dsimp only
    rw [e7, c7]
    refine And.intro v7 (pk_le p (d (z + 7)) (fun h => nm_r (nI_1 z) (ih (z + 1) n p s di wa dn (by omega) (by omega) ⟨h1, fun y hy => ?_, h3⟩))
      (fun h => And.intro v7 (nm_r (hd (z + 7) (by omega)) (And.intro v7 (nm_r (hw (z + 7) (by omega)) (nm_r (nI_1 z) (ih (z + 1) n (d (z + 7)) (w (z + 7)) di wa dn (by omega) (by omega) ⟨hb7, fun y hy => ?_, Or.inr ⟨by omega, z, d, w, by omega, hD, rfl, rfl⟩⟩))))))
      rfl (hd (z + 7) (by omega)))
    · by_cases e : y = z
      · exact ⟨d, by rw [e]; exact hD.1, hD.2.1, by rw [e]; exact h⟩
      · exact h2 y (by omega)
    · by_cases e : y = z
      · exact ⟨d, by rw [e]; exact hD.1, hD.2.1, by rw [e]; exact Nat.le_refl _⟩
      · obtain ⟨d', a1, a2, a3⟩ := h2 y (by omega)
        exact ⟨d', a1, a2, by omega⟩
theorem mc_lightest (hG : mc_G c F T W) {post : SX → Prop} {S : Nat} {bw bs : Int32} {di wa dn : Nat → Int32} (hS : S < 4096) (hE : ∃ D, mc_cl F T c D ∧ mc_ip D S = true)
    (hp : ∀ p s di wa dn, mc_LI c F T W S p s → post (nI c, rk, fo, nI p, nI s, mc_f F, mc_f T, mc_f W, gr, wi, cy, cw, di, wa, dn, pi)) : wpX_lightest post (nI c, rk, fo, bw, bs, mc_f F, mc_f T, mc_f W, gr, wi, cy, cw, di, wa, dn, pi) (nI S) :=
  ⟨8, mc_lightest_l hG hS hE hp 7 0 8 1000000 0 di wa dn (by omega) (by omega) ⟨Nat.le_refl _, fun y hy => absurd hy (Nat.not_lt_zero y), Or.inl rfl⟩⟩
end
section
variable {c : Nat} {F T W : Nat → Nat} {rk fo bw bs : Int32} {gr wi cy cw di wa dn pi : Nat → Int32}
theorem mc_noEdge {post : Int32 → Prop} (hc : c ≤ 12) {v : Int32} (h1 : (v < 0 ∨ nI c ≤ v) → post 1) (h2 : ∀ e, e < c → v = nI e → post 0) : wpX_noEdge post (nI c, rk, fo, bw, bs, mc_f F, mc_f T, mc_f W, gr, wi, cy, cw, di, wa, dn, pi) v := by
  rcases pk_ix v (n := c) (by omega) with h | h | ⟨e, he, rfl⟩
  · exact br_t h (h1 (Or.inl h))
  · refine br_c (fun _ => h1 (Or.inr h)) (fun _ => br_f (Int32.not_lt.mpr h) (h1 (Or.inr h)))
  · exact br_f (nI_pos (by omega)) (br_t (nI_lt he (by omega)) (h2 e he rfl))
theorem mc_wo (e : Nat) (he : e < 12) : ∀ k, k < 12 → (nI k = nI e ↔ k = e) := fun k hk => nI_eq (by omega) (by omega)
theorem mc_throughX (hG : mc_G c F T W) {post : Int32 → SX → Prop} {v : Int32} (h1 : (v < 0 ∨ nI c ≤ v) → post (-4) (nI c, rk, fo, bw, bs, mc_f F, mc_f T, mc_f W, gr, wi, cy, cw, di, wa, dn, pi))
    (h2 : ∀ e r di wa dn, e < c → v = nI e → mc_TH c F T W e r → post r (nI c, rk, fo, bw, bs, mc_f F, mc_f T, mc_f W, gr, wi, cy, cw, di, wa, dn, pi)) : wpX_through post (nI c, rk, fo, bw, bs, mc_f F, mc_f T, mc_f W, gr, wi, cy, cw, di, wa, dn, pi) v := by
  have hc := hG.1
  unfold wpX_through
  dsimp only
  refine mc_noEdge hc ?_ ?_
  · exact fun h => br_f (by decide) (h1 h)
  intro e he ev
  refine br_t rfl ?_
  subst ev
  obtain ⟨hF, hT, hW⟩ := hG.2.1 e
  have ve : vp_in (nI e) 12 := vp_in_nI (by omega) (by decide)
  have vt : vp_in (nI (T e)) 14 := vp_in_nI (by omega) (by decide)
  have eF := mc_fr F (e := e) (by omega)
  have eT := mc_fr T (e := e) (by omega)
  have eW := mc_fr W (e := e) (by omega)
  have ct : (nI (T e)).toNatClampNeg = T e := nI_clamp (by omega)
  refine And.intro ve ?_
  rw [eF]
  refine mc_search (S := 0) hG (by decide) (mc_wo e (by omega)) hF (fun di wa dn d w hd hw hb hD => ?_)
  dsimp only
  rw [eT, ct, eW]
  have hbt := hb (T e) (by omega)
  refine And.intro ve (And.intro vt (pk_lt (d (T e)) 1000000 (fun h => And.intro ve (And.intro vt (And.intro ve ?_))) (fun h => h2 e _ di wa dn he rfl (mc_TH_ge hG he hD (by omega))) (hd (T e) (by omega)) rfl))
  rw [hd (T e) (by omega), nI_add]
  exact h2 e _ di wa dn he rfl (mc_TH_lt hG he hD h)
end
section
variable {c : Nat} {F T W : Nat → Nat} {rk fo bw bs : Int32} {gr wi cy cw pi : Nat → Int32}
theorem mc_bridgesX_l (hG : mc_G c F T W) {post : Int32 → SX → Prop} (hp : ∀ di wa dn, post (nI (mc_cnt (mc_bg F T c) c)) (nI c, rk, fo, bw, bs, mc_f F, mc_f T, mc_f W, gr, wi, cy, cw, di, wa, dn, pi)) :
    ∀ m e n di wa dn, e + m = c → m < n → wX_bridges_4 post n (nI (mc_cnt (mc_bg F T c) e)) (nI e) (nI c) rk fo bw bs (mc_f F) (mc_f T) (mc_f W) gr wi cy cw di wa dn pi := by
  have hc := hG.1
  intro m
  induction m with
  | zero =>
    intro e n di wa dn he hn
    obtain ⟨n, rfl⟩ := mc_pre n _ hn
    have e1 : e = c := by omega
    subst e1
    exact br_t (nI_le (Nat.le_refl _) (by omega)) (hp di wa dn)
  | succ m ih =>
    intro e n di wa dn hem hn
    obtain ⟨n, rfl⟩ := mc_pre n _ hn
    have he : e < c := by omega
    obtain ⟨hF, hT, hW⟩ := hG.2.1 e
    have ve : vp_in (nI e) 12 := vp_in_nI (by omega) (by decide)
    have vt : vp_in (nI (T e)) 14 := vp_in_nI (by omega) (by decide)
    have eF := mc_fr F (e := e) (by omega)
    have eT := mc_fr T (e := e) (by omega)
    have ct : (nI (T e)).toNatClampNeg = T e := nI_clamp (by omega)
    refine pk_le c e (fun h => absurd h (by omega)) (fun _ => And.intro ve ?_)
    rw [eF]
    refine mc_search (S := 0) hG (by decide) (mc_wo e (by omega)) hF (fun di wa dn d w hd hw hb hD => ?_)
    dsimp only
    rw [eT, ct]
    have hbt := hb (T e) (by omega)
    have hs : mc_cnt (mc_bg F T c) (e + 1) = mc_cnt (mc_bg F T c) e + (mc_bg F T c e).toNat := rfl
    refine And.intro ve (And.intro vt (pk_lt (d (T e)) 1000000 (fun h => nm_r (nI_1 e) ?_) (fun h => nm_r (nI_1 _) (nm_r (nI_1 e) ?_)) (hd (T e) (by omega)) rfl))
    · have h3 : mc_bg F T c e = false := mc_nt (fun z => mc_n5 (by omega) ((mc_bg_TH hG (mc_TH_lt hG he hD h)).mp z))
      rw [h3] at hs
      have h4 := ih (e + 1) n di wa dn (by omega) (by omega)
      rw [hs] at h4
      exact h4
    · have h3 : mc_bg F T c e = true := (mc_bg_TH hG (mc_TH_ge hG he hD (by omega))).mpr rfl
      rw [h3] at hs
      have h4 := ih (e + 1) n di wa dn (by omega) (by omega)
      rw [hs] at h4
      exact h4
theorem mc_bridgesX (hG : mc_G c F T W) {post : Int32 → SX → Prop} {di wa dn : Nat → Int32} (hp : ∀ di wa dn, post (nI (mc_cnt (mc_bg F T c) c)) (nI c, rk, fo, bw, bs, mc_f F, mc_f T, mc_f W, gr, wi, cy, cw, di, wa, dn, pi)) : wpX_bridges post (nI c, rk, fo, bw, bs, mc_f F, mc_f T, mc_f W, gr, wi, cy, cw, di, wa, dn, pi) :=
  ⟨c + 1, mc_bridgesX_l hG hp c 0 (c + 1) di wa dn (by omega) (by omega)⟩
end
end
section
/-! ===== the forest and the edges outside it ===== -/
theorem mc_xs_and (b : Bool) (f : Nat → Bool) (n : Nat) : (b && mc_xs f n) = mc_xs (fun i => b && f i) n := by
  cases b
  · exact (mc_xs_zero (fun i _ => rfl)).symm
  · exact (mc_xs_congr (fun i _ => (Bool.true_and (f i)))).symm
theorem mc_xs_dl (h : Nat → Bool) {u v : Nat} (hu : u < 7) (hv : v < 7) : mc_xs (fun y => h y && mc_dl u v y) 7 = (h u ^^ h v) := by
  have h1 : mc_xs (fun y => h y && mc_dl u v y) 7 = (mc_xs (fun y => decide (y = u) && h y) 7 ^^ mc_xs (fun y => decide (y = v) && h y) 7) := by
    rw [← mc_xs_xor]
    refine mc_xs_congr (fun y _ => ?_)
    unfold mc_dl
    cases h y <;> cases decide (y = u) <;> cases decide (y = v) <;> rfl
  have h2 : ∀ z, z < 7 → mc_xs (fun y => decide (y = z) && h y) 7 = h z := fun z hz => by
    rw [mc_xs_pt (k := z) hz (fun i _ hne => by rw [decide_eq_false hne, Bool.false_and]), decide_eq_true rfl, Bool.true_and]
  rw [h1, h2 u hu, h2 v hv]
theorem mc_lt_of_bit {D e : Nat} (h : D < 2 ^ (e + 1)) (hb : D.testBit e = false) : D < 2 ^ e :=
  Nat.lt_pow_two_of_testBit D (fun i hi => by
    by_cases e1 : i = e
    · rw [e1]; exact hb
    · exact mc_bit_hi h (by omega))
section
variable {c : Nat} {F T W : Nat → Nat}
theorem mc_grp (hG : mc_G c F T W) {gr : Nat → Int32} {P e u v : Nat} (hP : P < 2 ^ e) (hs : ∀ f, f < e → gr (F f) = gr (T f)) (hb : ∀ y, y < 7 → mc_bd F T c P y = mc_dl u v y) (hu : u < 7) (hv : v < 7) : gr u = gr v := by
  by_cases hne : gr u = gr v
  · exact hne
  · have h1 : mc_xs (fun y => decide (gr y = gr u) && mc_bd F T c P y) 7 = true := by
      rw [mc_xs_congr (g := fun y => decide (gr y = gr u) && mc_dl u v y) (fun y hy => by rw [hb y hy]), mc_xs_dl (fun y => decide (gr y = gr u)) hu hv]
      rw [decide_eq_true rfl, decide_eq_false (fun z => hne z.symm)]
      rfl
    have h2 : mc_xs (fun y => decide (gr y = gr u) && mc_bd F T c P y) 7 = false := by
      have h3 : mc_xs (fun y => decide (gr y = gr u) && mc_bd F T c P y) 7 = mc_xs (fun y => mc_xs (fun f => decide (gr y = gr u) && (P.testBit f && mc_dl (F f) (T f) y)) c) 7 := mc_xs_congr (fun y _ => mc_xs_and _ _ _)
      rw [h3, mc_xs_swap]
      refine mc_xs_zero (fun f _ => ?_)
      cases hb : P.testBit f
      · exact mc_xs_zero (fun y _ => by rw [Bool.false_and, Bool.and_false])
      · rw [mc_xs_congr (g := fun y => decide (gr y = gr u) && mc_dl (F f) (T f) y) (fun y _ => by rw [Bool.true_and]), mc_xs_dl (fun y => decide (gr y = gr u)) (hG.2.1 f).1 (hG.2.1 f).2.1]
        rw [hs f (mc_bit_lt hP hb)]
        cases decide (gr (T f) = gr u) <;> rfl
    rw [h1] at h2
    cases h2
def mc_SW (c : Nat) (F T : Nat → Nat) (gr : Nat → Int32) (x : Nat → Nat) (r e : Nat) : Prop :=
  r ≤ e ∧ (∀ i, i < r → x i < e) ∧ (∀ f, f < e → gr (F f) = gr (T f)) ∧
  (∀ u v, u < 7 → v < 7 → gr u = gr v → ∃ P, P < 2 ^ e ∧ (∀ i, i < r → P.testBit (x i) = false) ∧ ∀ y, y < 7 → mc_bd F T c P y = mc_dl u v y) ∧
  (∀ i, i < r → ∃ D, mc_cl F T c D ∧ D < 2 ^ e ∧ D.testBit (x i) = true ∧ ∀ j, j < r → j ≠ i → D.testBit (x j) = false) ∧
  (∀ D, mc_cl F T c D → D < 2 ^ e → (∀ i, i < r → D.testBit (x i) = false) → D = 0)
theorem mc_SW_0 {gr : Nat → Int32} {x : Nat → Nat} (h : ∀ v, v < 7 → gr v = nI v) : mc_SW c F T gr x 0 0 := by
  refine ⟨Nat.le_refl _, fun i hi => absurd hi (Nat.not_lt_zero i), fun i hi => absurd hi (Nat.not_lt_zero i), fun u v hu hv huv => ?_, fun i hi => absurd hi (Nat.not_lt_zero i), fun D _ hD _ => ?_⟩
  · rw [h u hu, h v hv] at huv
    have e : u = v := (nI_eq (by omega) (by omega)).mp huv
    subst e
    exact ⟨0, Nat.two_pow_pos 0, fun i hi => absurd hi (Nat.not_lt_zero i), fun y _ => by rw [mc_bd_zero, mc_dl_self]⟩
  · rw [Nat.pow_zero] at hD
    omega
theorem mc_SW_a (hG : mc_G c F T W) {gr : Nat → Int32} {x : Nat → Nat} {r e : Nat} (he : e < c) (h : mc_SW c F T gr x r e) (hg : gr (F e) = gr (T e)) : mc_SW c F T gr (mc_up x r e) (r + 1) (e + 1) := by
  obtain ⟨s1, s2, s3, s4, s5, s6⟩ := h
  have hpe := mc_pow_lt (Nat.lt_succ_self e)
  have hx : ∀ i, i < r → mc_up x r e i = x i := fun i hi => mc_up_ne x (by omega)
  have hlt : ∀ P, P < 2 ^ e → P.testBit e = false := fun P hP => mc_bit_hi hP (Nat.le_refl e)
  have hb : ∀ P, P < 2 ^ e → (∀ i, i < r → P.testBit (x i) = false) → ∀ i, i < r + 1 → P.testBit (mc_up x r e i) = false := fun P hP h i hi => by
    by_cases e1 : i = r
    · rw [e1, mc_up_at]; exact hlt P hP
    · rw [hx i (by omega)]; exact h i (by omega)
  refine ⟨by omega, fun i hi => ?_, fun f hf => ?_, fun u v hu hv huv => ?_, fun i hi => ?_, fun D hD hlD hz => ?_⟩
  · by_cases e1 : i = r
    · rw [e1, mc_up_at]; omega
    · rw [hx i (by omega)]
      have := s2 i (by omega)
      omega
  · by_cases e1 : f = e
    · rw [e1]; exact hg
    · exact s3 f (by omega)
  · obtain ⟨P, p1, p2, p3⟩ := s4 u v hu hv huv
    exact ⟨P, Nat.lt_trans p1 hpe, hb P p1 p2, p3⟩
  · by_cases e1 : i = r
    · obtain ⟨P, p1, p2, p3⟩ := s4 (F e) (T e) (hG.2.1 e).1 (hG.2.1 e).2.1 hg
      have hxe : ∀ j, j < r → (P ^^^ 2 ^ e).testBit (x j) = false := fun j hj => by
        have := s2 j hj
        rw [Nat.testBit_xor, p2 j hj, Nat.testBit_two_pow_of_ne (by omega)]
        rfl
      refine ⟨P ^^^ 2 ^ e, ⟨Nat.xor_lt_two_pow (Nat.lt_trans p1 (mc_pow_lt he)) (mc_pow_lt he), fun y hy => ?_⟩, Nat.xor_lt_two_pow (Nat.lt_trans p1 hpe) hpe, ?_, fun j hj hne => ?_⟩
      · rw [mc_bd_xor, p3 y hy, mc_bd_one he]
        cases mc_dl (F e) (T e) y <;> rfl
      · rw [e1, mc_up_at, Nat.testBit_xor, hlt P p1, Nat.testBit_two_pow_self]
        rfl
      · rw [hx j (by omega)]
        exact hxe j (by omega)
    · obtain ⟨D, d1, d2, d3, d4⟩ := s5 i (by omega)
      refine ⟨D, d1, Nat.lt_trans d2 hpe, by rw [hx i (by omega)]; exact d3, fun j hj hne => ?_⟩
      by_cases e2 : j = r
      · rw [e2, mc_up_at]; exact hlt D d2
      · rw [hx j (by omega)]; exact d4 j (by omega) hne
  · have h1 := hz r (Nat.lt_succ_self r)
    rw [mc_up_at] at h1
    exact s6 D hD (mc_lt_of_bit hlD h1) (fun i hi => by
      have := hz i (by omega)
      rw [hx i hi] at this
      exact this)
theorem mc_SW_b (hG : mc_G c F T W) {gr g2 : Nat → Int32} {x : Nat → Nat} {r e : Nat} (he : e < c) (h : mc_SW c F T gr x r e) (hg : gr (F e) ≠ gr (T e)) (hg2 : ∀ v, v < 7 → g2 v = if gr v = gr (T e) then gr (F e) else gr v) : mc_SW c F T g2 x r (e + 1) := by
  obtain ⟨s1, s2, s3, s4, s5, s6⟩ := h
  have hpe := mc_pow_lt (Nat.lt_succ_self e)
  have hF := (hG.2.1 e).1
  have hT := (hG.2.1 e).2.1
  -- a way from u (in the group of T e) over e to v (in the group of F e)
  have hj : ∀ u v, u < 7 → v < 7 → gr u = gr (T e) → gr v = gr (F e) → ∃ P, P < 2 ^ (e + 1) ∧ (∀ i, i < r → P.testBit (x i) = false) ∧ ∀ y, y < 7 → mc_bd F T c P y = mc_dl u v y := fun u v hu hv h1 h2 => by
    obtain ⟨P, p1, p2, p3⟩ := s4 u (T e) hu hT h1
    obtain ⟨Q, q1, q2, q3⟩ := s4 (F e) v hF hv h2.symm
    refine ⟨(P ^^^ 2 ^ e) ^^^ Q, Nat.xor_lt_two_pow (Nat.xor_lt_two_pow (Nat.lt_trans p1 hpe) hpe) (Nat.lt_trans q1 hpe), fun i hi => ?_, fun y hy => ?_⟩
    · have := s2 i hi
      rw [Nat.testBit_xor, Nat.testBit_xor, p2 i hi, q2 i hi, Nat.testBit_two_pow_of_ne (by omega)]
      rfl
    · rw [mc_bd_xor, mc_bd_xor, p3 y hy, q3 y hy, mc_bd_one he, mc_dl_comm (F e) (T e), mc_dl_x, mc_dl_x]
  refine ⟨by omega, fun i hi => ?_, fun f hf => ?_, fun u v hu hv huv => ?_, fun i hi => ?_, fun D hD hlD hz => ?_⟩
  · have := s2 i hi
    omega
  · rw [hg2 _ (hG.2.1 f).1, hg2 _ (hG.2.1 f).2.1]
    by_cases e1 : f = e
    · rw [e1, if_pos rfl, if_neg hg]
    · rw [s3 f (by omega)]
  · rw [hg2 u hu, hg2 v hv] at huv
    by_cases h1 : gr u = gr (T e)
    · by_cases h2 : gr v = gr (T e)
      · obtain ⟨P, p1, p2, p3⟩ := s4 u v hu hv (h1.trans h2.symm)
        exact ⟨P, Nat.lt_trans p1 hpe, p2, p3⟩
      · rw [if_pos h1, if_neg h2] at huv
        exact hj u v hu hv h1 huv.symm
    · by_cases h2 : gr v = gr (T e)
      · rw [if_neg h1, if_pos h2] at huv
        obtain ⟨P, p1, p2, p3⟩ := hj v u hv hu h2 huv
        exact ⟨P, p1, p2, fun y hy => by rw [p3 y hy, mc_dl_comm]⟩
      · rw [if_neg h1, if_neg h2] at huv
        obtain ⟨P, p1, p2, p3⟩ := s4 u v hu hv huv
        exact ⟨P, Nat.lt_trans p1 hpe, p2, p3⟩
  · obtain ⟨D, d1, d2, d3, d4⟩ := s5 i hi
    exact ⟨D, d1, Nat.lt_trans d2 hpe, d3, d4⟩
  · cases hb : D.testBit e
    · exact s6 D hD (mc_lt_of_bit hlD hb) hz
    · have h1 : (D ^^^ 2 ^ e).testBit e = false := by rw [Nat.testBit_xor, hb, Nat.testBit_two_pow_self]; rfl
      have h2 : D ^^^ 2 ^ e < 2 ^ e := mc_lt_of_bit (Nat.xor_lt_two_pow hlD hpe) h1
      exact absurd (mc_grp hG h2 s3 (fun y hy => by rw [mc_bd_xor, hD.2 y hy, mc_bd_one he, Bool.false_xor]) hF hT) hg
def mc_SF (c : Nat) (F T : Nat → Nat) (x U : Nat → Nat) (r : Nat) : Prop :=
  r ≤ c ∧ (∀ i, i < r → x i < c) ∧ (∀ i, i < r → mc_cl F T c (U i) ∧ (U i).testBit (x i) = true ∧ ∀ j, j < r → j ≠ i → (U i).testBit (x j) = false) ∧
  (∀ D, mc_cl F T c D → (∀ i, i < r → D.testBit (x i) = false) → D = 0)
theorem mc_SW_c {gr : Nat → Int32} {x : Nat → Nat} {r : Nat} (h : mc_SW c F T gr x r c) : ∃ U, mc_SF c F T x U r := by
  obtain ⟨s1, s2, _, _, s5, s6⟩ := h
  refine ⟨fun i => if hi : i < r then Classical.choose (s5 i hi) else 0, s1, s2, fun i hi => ?_, fun D hD hz => s6 D hD hD.1 hz⟩
  have h1 := Classical.choose_spec (s5 i hi)
  dsimp only
  rw [dif_pos hi]
  exact ⟨h1.1, h1.2.2.1, h1.2.2.2⟩
theorem mc_SF_cnt (hG : mc_G c F T W) {x U : Nat → Nat} {r : Nat} (h : mc_SF c F T x U r) : mc_cnt (mc_clb F T c) 4096 = 2 ^ r := by
  obtain ⟨s1, s2, s3, s4⟩ := h
  have hc := hG.1
  have hx : ∀ i, i < r → ∀ D, mc_ip D (2 ^ x i) = D.testBit (x i) := fun i hi D => mc_ip_1r (by have := s2 i hi; omega) D
  refine mc_P4 hG (S := fun i => 2 ^ x i) (U := U) (fun k hk => (s3 k hk).1) (fun k hk => ?_) (fun k j hk hj => ?_) (fun D hD hz => s4 D hD (fun i hi => ?_))
  · exact (hx k hk _).trans (s3 k hk).2.1
  · exact (hx j hj _).trans ((s3 k (by omega)).2.2 j hj (by omega))
  · exact (hx i hi D).symm.trans (hz i hi)
end
/-! ===== X: startWitnesses ===== -/
section
variable {c : Nat} {F T W : Nat → Nat} {rk fo bw bs : Int32} {cy cw di wa dn pi : Nat → Int32}
theorem mc_sw93 {post : SX → Prop} {J : Int32 → Int32 → (Nat → Int32) → (Nat → Int32) → (Nat → Int32) → (Nat → Int32) → (Nat → Int32) → (Nat → Int32) → (Nat → Int32) → (Nat → Int32) → (Nat → Int32) → (Nat → Int32) → (Nat → Int32) → Prop} {wi gr : Nat → Int32} {e : Nat} {a b : Int32}
    (hJ : ∀ g2, (∀ v, v < 7 → g2 v = if gr v = b then a else gr v) → J (nI (e + 1)) rk (mc_f F) (mc_f T) (mc_f W) g2 wi cy cw di wa dn pi) :
    ∀ m k n g2, k + m = 7 → m < n → (∀ v, v < 7 → g2 v = if v < k ∧ gr v = b then a else gr v) → wX_startWitnesses_93 post J (nI e) a b (nI c) rk fo bw bs n (nI k) (mc_f F) (mc_f T) (mc_f W) g2 wi cy cw di wa dn pi := by
  intro m
  induction m with
  | zero =>
    intro k n g2 hk hn hI
    obtain ⟨n, rfl⟩ := mc_pre n _ hn
    have e : k = 7 := by omega
    subst e
    refine br_t (nI_le (a := 7) (b := 7) (Nat.le_refl _) (by decide)) (nm_r (nI_1 _) (hJ g2 (fun v hv => ?_)))
    rw [hI v hv]
    by_cases h : gr v = b
    · rw [if_pos ⟨hv, h⟩, if_pos h]
    · rw [if_neg (fun z => h z.2), if_neg h]
  | succ m ih =>
    intro k n g2 hk hn hI
    obtain ⟨n, rfl⟩ := mc_pre n _ hn
    have ek : (nI k).toNatClampNeg = k := nI_clamp (by omega)
    have vk : vp_in (nI k) 7 := vp_in_nI (by omega) (by decide)
    refine pk_le 7 k (fun h => absurd h (by omega)) (fun _ => And.intro vk ?_)
    rw [ek]
    have hgk : g2 k = gr k := by
      rw [hI k (by omega), if_neg (fun z => Nat.lt_irrefl k z.1)]
    refine br_c (fun h => And.intro vk (nm_e (nm_r (nI_1 k) (ih (k + 1) n _ (by omega) (by omega) (fun v hv => ?_))))) (fun h => nm_r (nI_1 k) (ih (k + 1) n g2 (by omega) (by omega) (fun v hv => ?_)))
    · rw [hgk] at h
      by_cases e1 : v = k
      · rw [e1, pk_us, if_pos ⟨Nat.lt_succ_self k, h⟩]
      · rw [pk_un e1, hI v hv]
        by_cases h2 : v < k ∧ gr v = b
        · rw [if_pos h2, if_pos ⟨by omega, h2.2⟩]
        · rw [if_neg h2, if_neg (fun z => h2 ⟨by omega, z.2⟩)]
    · rw [hgk] at h
      rw [hI v hv]
      by_cases e1 : v = k
      · rw [e1, if_neg (fun z => h z.2), if_neg (fun z => h z.2)]
      · by_cases h2 : v < k ∧ gr v = b
        · rw [if_pos h2, if_pos ⟨by omega, h2.2⟩]
        · rw [if_neg h2, if_neg (fun z => h2 ⟨by omega, z.2⟩)]
end
section
variable {c : Nat} {F T W : Nat → Nat} {fo bw bs : Int32} {cy cw di wa dn pi : Nat → Int32}
theorem mc_sw28 (hG : mc_G c F T W) {post : SX → Prop} (hp : ∀ gr wi r x U, mc_SF c F T x U r → mc_A r wi (fun i => 2 ^ x i) → post (nI c, nI r, fo, bw, bs, mc_f F, mc_f T, mc_f W, gr, wi, cy, cw, di, wa, dn, pi)) :
    ∀ m e n gr wi r x, e + m = c → m < n → mc_SW c F T gr x r e → mc_A r wi (fun i => 2 ^ x i) → wX_startWitnesses_28 post (nI c) fo bw bs n (nI e) (nI r) (mc_f F) (mc_f T) (mc_f W) gr wi cy cw di wa dn pi := by
  have hc := hG.1
  intro m
  induction m with
  | zero =>
    intro e n gr wi r x he hn hI hA
    obtain ⟨n, rfl⟩ := mc_pre n _ hn
    have e1 : e = c := by omega
    subst e1
    obtain ⟨U, hU⟩ := mc_SW_c hI
    exact br_t (nI_le (Nat.le_refl _) (by omega)) (hp gr wi r x U hU hA)
  | succ m ih =>
    intro e n gr wi r x hem hn hI hA
    obtain ⟨n, rfl⟩ := mc_pre n _ hn
    have he : e < c := by omega
    have hr := hI.1
    obtain ⟨hF, hT, hW⟩ := hG.2.1 e
    have ve : vp_in (nI e) 12 := vp_in_nI (by omega) (by decide)
    have eF := mc_fr F (e := e) (by omega)
    have eT := mc_fr T (e := e) (by omega)
    have vF : vp_in (nI (F e)) 7 := vp_in_nI hF (by decide)
    have vT : vp_in (nI (T e)) 7 := vp_in_nI hT (by decide)
    have cF : (nI (F e)).toNatClampNeg = F e := nI_clamp (by omega)
    have cT : (nI (T e)).toNatClampNeg = T e := nI_clamp (by omega)
    refine pk_le c e (fun h => absurd h (by omega)) (fun _ => And.intro ve ?_)
    rw [eF, cF, eT, cT]
    refine And.intro vF (nm_e (And.intro ve (And.intro vT (nm_e (br_c (fun h => ?_) (fun h => ?_))))))
    · refine And.intro (vp_in_nI (by omega) (by decide)) (nm_r (e' := upd wi r (nI (2 ^ e))) (by rw [nI_clamp (by omega), mc_shl (by omega)]) (nm_r (nI_1 r) (nm_r (nI_1 e) ?_)))
      refine ih (e + 1) n gr _ (r + 1) (mc_up x r e) (by omega) (by omega) (mc_SW_a hG he hI h) (fun i hi => ?_)
      dsimp only
      by_cases e1 : i = r
      · rw [e1, pk_us, mc_up_at]
      · rw [pk_un e1, mc_up_ne x e1]
        exact hA i (by omega)
    · refine ⟨8, mc_sw93 (gr := gr) (fun g2 hg2 => ?_) 7 0 8 gr (by omega) (by omega) (fun v hv => ?_)⟩
      · exact ih (e + 1) n g2 wi r x (by omega) (by omega) (mc_SW_b hG he hI h hg2) hA
      · rw [if_neg (fun z => Nat.not_lt_zero v z.1)]
theorem mc_sw7 (hG : mc_G c F T W) {post : SX → Prop} {wi : Nat → Int32} (hp : ∀ gr wi r x U, mc_SF c F T x U r → mc_A r wi (fun i => 2 ^ x i) → post (nI c, nI r, fo, bw, bs, mc_f F, mc_f T, mc_f W, gr, wi, cy, cw, di, wa, dn, pi)) :
    ∀ m k n gr, k + m = 7 → m < n → (∀ v, v < k → gr v = nI v) → wX_startWitnesses_7 post (nI c) 0 fo bw bs n (nI k) (mc_f F) (mc_f T) (mc_f W) gr wi cy cw di wa dn pi := by
  intro m
  induction m with
  | zero =>
    intro k n gr hk hn hI
    obtain ⟨n, rfl⟩ := mc_pre n _ hn
    have e : k = 7 := by omega
    subst e
    exact br_t (nI_le (a := 7) (b := 7) (Nat.le_refl _) (by decide)) ⟨c + 1, mc_sw28 hG hp c 0 (c + 1) gr wi 0 (fun _ => 0) (by omega) (by omega) (mc_SW_0 hI) (fun i hi => absurd hi (Nat.not_lt_zero i))⟩
  | succ m ih =>
    intro k n gr hk hn hI
    obtain ⟨n, rfl⟩ := mc_pre n _ hn
    have ek : (nI k).toNatClampNeg = k := nI_clamp (by omega)
    refine pk_le 7 k (fun h => absurd h (by omega)) (fun _ => And.intro (vp_in_nI (by omega) (by decide)) (nm_r (congrArg (fun i => upd gr i (nI k)) ek) (nm_r (nI_1 k) (ih (k + 1) n _ (by omega) (by omega) (fun v hv => ?_)))))
    by_cases e1 : v = k
    · rw [e1, pk_us]
    · rw [pk_un e1]; exact hI v (by omega)
theorem mc_start (hG : mc_G c F T W) {post : SX → Prop} {rk : Int32} {wi gr : Nat → Int32} (hp : ∀ gr wi r x U, mc_SF c F T x U r → mc_A r wi (fun i => 2 ^ x i) → post (nI c, nI r, fo, bw, bs, mc_f F, mc_f T, mc_f W, gr, wi, cy, cw, di, wa, dn, pi)) : wpX_startWitnesses post (nI c, rk, fo, bw, bs, mc_f F, mc_f T, mc_f W, gr, wi, cy, cw, di, wa, dn, pi) :=
  ⟨8, mc_sw7 hG hp 7 0 8 gr (by omega) (by omega) (fun v hv => absurd hv (Nat.not_lt_zero v))⟩
end
end
section
/-! ===== X: oddlyMet, addCycle, solve ===== -/
theorem mc_xorN (p q : Bool) : nI p.toNat ^^^ nI q.toNat = nI (p ^^ q).toNat := by
  cases p <;> cases q <;> decide
theorem mc_odd_l {post : Int32 → Prop} {a : Nat} (ha : a < 2 ^ 31) (hp : post (if mc_xs (fun e => a.testBit e) 12 = true then 1 else 0)) :
    ∀ m k n, k + m = 12 → m < n → wX_oddlyMet_9 post (nI a) n (nI (mc_xs (fun e => a.testBit e) k).toNat) (nI k) := by
  intro m
  induction m with
  | zero =>
    intro k n hk hn
    obtain ⟨n, rfl⟩ := mc_pre n _ hn
    have e : k = 12 := by omega
    subst e
    refine br_t (nI_le (a := 12) (b := 12) (Nat.le_refl _) (by decide)) ?_
    cases h : mc_xs (fun e => a.testBit e) 12
    · rw [h] at hp
      exact br_f (by decide) hp
    · rw [h] at hp
      exact br_t (by decide) hp
  | succ m ih =>
    intro k n hk hn
    obtain ⟨n, rfl⟩ := mc_pre n _ hn
    refine pk_le 12 k (fun h => absurd h (by omega)) (fun _ => nm_r (e' := nI (mc_xs (fun e => a.testBit e) (k + 1)).toNat) ?_ (nm_r (nI_1 k) (ih (k + 1) n (by omega) (by omega))))
    rw [mc_bitN ha (by omega), mc_xorN]
    rfl
theorem mc_odd {post : Int32 → Prop} {a b : Nat} (ha : a < 4096) (hp : post (if mc_ip a b = true then 1 else 0)) : wpX_oddlyMet post (nI a) (nI b) := by
  have h1 : mc_ip a b = mc_xs (fun e => (a &&& b).testBit e) 12 := mc_xs_congr (fun e _ => (Nat.testBit_and a b e).symm)
  rw [h1] at hp
  have h2 : a &&& b ≤ a := Nat.and_le_left
  exact nm_r (nx_and a b) ⟨13, mc_odd_l (a := a &&& b) (by omega) hp 12 0 13 (by omega) (by omega)⟩
section
variable {c : Nat} {F T W : Nat → Nat} {rk bw bs : Int32} {gr wi di wa dn pi : Nat → Int32}
def mc_Ia (C V : Nat → Nat) (s i a : Nat) (cy cw : Nat → Int32) : Prop :=
  (∀ k, k < a → cy k = nI (C k) ∧ cw k = nI (V (C k))) ∧ (∀ k, a ≤ k → k < i → cy (k + 1) = nI (C k) ∧ cw (k + 1) = nI (V (C k)) ∧ V s < V (C k))
theorem mc_add55 {post : SX → Prop} {C V : Nat → Nat} {i s a : Nat} {cy cw : Nat → Int32} (hi : i < 12) (ha : a ≤ i) (hI : mc_Ia C V s i a cy cw) (hlo : ∀ k, k < a → V (C k) ≤ V s)
    (hp : ∀ cy cw p, p ≤ i → (∀ k, k < p → V (C k) ≤ V s) → (∀ k, p ≤ k → k < i → V s < V (C k)) → mc_A (i + 1) cy (mc_ins C p s) → mc_A (i + 1) cw (fun k => V (mc_ins C p s k)) → post (nI c, rk, nI (i + 1), bw, bs, mc_f F, mc_f T, mc_f W, gr, wi, cy, cw, di, wa, dn, pi)) :
    wX_addCycle_55 post (nI s) (nI (V s)) (nI a) (nI c) rk (nI i) bw bs (mc_f F) (mc_f T) (mc_f W) gr wi cy cw di wa dn pi := by
  have ea : (nI a).toNatClampNeg = a := nI_clamp (by omega)
  have va : vp_in (nI a) 12 := vp_in_nI (by omega) (by decide)
  unfold wX_addCycle_55
  rw [ea]
  refine ⟨va, nm_e ⟨va, nm_e (nm_r (nI_1 i) (hp _ _ a ha hlo (fun k h1 h2 => (hI.2 k h1 h2).2.2) (fun j hj => ?_) (fun j hj => ?_)))⟩⟩
  · rcases Nat.lt_trichotomy j a with h | h | h
    · rw [pk_un (by omega), mc_ins_lo h]; exact (hI.1 j h).1
    · rw [h, pk_us, mc_ins_at]
    · obtain ⟨k, rfl⟩ := mc_pre j a h
      rw [pk_un (by omega), mc_ins_hi (by omega)]
      exact (hI.2 k (by omega) (by omega)).1
  · dsimp only
    rcases Nat.lt_trichotomy j a with h | h | h
    · rw [pk_un (by omega), mc_ins_lo h]; exact (hI.1 j h).2
    · rw [h, pk_us, mc_ins_at]
    · obtain ⟨k, rfl⟩ := mc_pre j a h
      rw [pk_un (by omega), mc_ins_hi (by omega)]
      exact (hI.2 k (by omega) (by omega)).2.1
theorem mc_add5 {post : SX → Prop} {C V : Nat → Nat} {i s : Nat} (hi : i < 12) (hV : ∀ m, V m ≤ 1200) (hs : ∀ j k, j ≤ k → k < i → V (C j) ≤ V (C k))
    (hp : ∀ cy cw p, p ≤ i → (∀ k, k < p → V (C k) ≤ V s) → (∀ k, p ≤ k → k < i → V s < V (C k)) → mc_A (i + 1) cy (mc_ins C p s) → mc_A (i + 1) cw (fun k => V (mc_ins C p s k)) → post (nI c, rk, nI (i + 1), bw, bs, mc_f F, mc_f T, mc_f W, gr, wi, cy, cw, di, wa, dn, pi)) :
    ∀ a n cy cw, a < n → a ≤ i → mc_Ia C V s i a cy cw → wX_addCycle_5 post (nI s) (nI (V s)) (nI c) rk (nI i) bw bs n (nI a) (mc_f F) (mc_f T) (mc_f W) gr wi cy cw di wa dn pi := by
  intro a
  induction a with
  | zero =>
    intro n cy cw hn ha hI
    obtain ⟨n, rfl⟩ := mc_pre n _ hn
    exact br_t (nI_le (a := 0) (b := 0) (Nat.le_refl _) (by decide)) (mc_add55 hi ha hI (fun k hk => absurd hk (Nat.not_lt_zero k)) hp)
  | succ a ih =>
    intro n cy cw hn ha hI
    obtain ⟨n, rfl⟩ := mc_pre n _ hn
    have va : vp_in (nI a) 12 := vp_in_nI (by omega) (by decide)
    have va1 : vp_in (nI (a + 1)) 12 := vp_in_nI (by omega) (by decide)
    have ea : (nI a).toNatClampNeg = a := nI_clamp (by omega)
    have ea1 : (nI (a + 1)).toNatClampNeg = a + 1 := nI_clamp (by omega)
    have h1 := hV (C a)
    have h2 := hV s
    have h3 := hI.1 a (Nat.lt_succ_self a)
    refine br_f (nI_nle (by omega) (by omega)) ?_
    rw [nI_pred, ea, ea1, pk_m1]
    refine And.intro va (pk_le (V (C a)) (V s) (fun h => ?_) (fun h => And.intro va (And.intro va1 (nm_e (And.intro va (And.intro va1 (nm_e (nm_e ?_))))))) h3.2 rfl)
    · refine mc_add55 hi ha hI (fun k hk => ?_) hp
      have := hs k a (by omega) (by omega)
      omega
    · refine ih n _ _ (by omega) (by omega) ⟨fun k hk => ?_, fun k hk hki => ?_⟩
      · rw [pk_un (by omega), pk_un (by omega)]
        exact hI.1 k (by omega)
      · by_cases e1 : k = a
        · rw [e1, pk_us, pk_us]
          exact ⟨h3.1, h3.2, h⟩
        · rw [pk_un (by omega), pk_un (by omega)]
          exact hI.2 k (by omega) hki
theorem mc_addCycle {post : SX → Prop} {C V : Nat → Nat} {i s : Nat} {cy cw : Nat → Int32} (hi : i < 12) (hV : ∀ m, V m ≤ 1200) (hs : ∀ j k, j ≤ k → k < i → V (C j) ≤ V (C k)) (hcy : mc_A i cy C) (hcw : mc_A i cw (fun k => V (C k)))
    (hp : ∀ cy cw p, p ≤ i → (∀ k, k < p → V (C k) ≤ V s) → (∀ k, p ≤ k → k < i → V s < V (C k)) → mc_A (i + 1) cy (mc_ins C p s) → mc_A (i + 1) cw (fun k => V (mc_ins C p s k)) → post (nI c, rk, nI (i + 1), bw, bs, mc_f F, mc_f T, mc_f W, gr, wi, cy, cw, di, wa, dn, pi)) :
    wpX_addCycle post (nI c, rk, nI i, bw, bs, mc_f F, mc_f T, mc_f W, gr, wi, cy, cw, di, wa, dn, pi) (nI s) (nI (V s)) :=
  ⟨i + 1, mc_add5 hi hV hs hp i (i + 1) cy cw (by omega) (Nat.le_refl i) ⟨fun k hk => ⟨hcy k hk, hcw k hk⟩, fun k h1 h2 => absurd h2 (by omega)⟩⟩
end
/-! the witnesses behind i, mended by the set B that was taken for i -/
def mc_sw (S : Nat → Nat) (i B l : Nat) : Nat := if mc_ip (S l) B = true then S l ^^^ S i else S l
def mc_sS (S : Nat → Nat) (i B : Nat) : Nat → Nat := fun l => if i < l then mc_sw S i B l else S l
theorem mc_sS_lo {S : Nat → Nat} {i B l : Nat} (h : l ≤ i) : mc_sS S i B l = S l := if_neg (by omega)
theorem mc_sS_hi {S : Nat → Nat} {i B l : Nat} (h : i < l) : mc_sS S i B l = mc_sw S i B l := if_pos h
theorem mc_sw_or (S : Nat → Nat) (i B l : Nat) : (mc_sw S i B l = S l ∧ mc_ip (S l) B = false) ∨ (mc_sw S i B l = S l ^^^ S i ∧ mc_ip (S l) B = true) := by
  unfold mc_sw
  cases h : mc_ip (S l) B
  · exact Or.inl ⟨if_neg (by decide), rfl⟩
  · exact Or.inr ⟨if_pos rfl, rfl⟩
section
variable {c : Nat} {F T W : Nat → Nat}
def mc_SV (c : Nat) (F T W : Nat → Nat) (S U C : Nat → Nat) (r i : Nat) : Prop :=
  (∀ k, k < i → mc_cl F T c (U k) ∧ mc_ip (U k) (S k) = true ∧ ∀ D, mc_cl F T c D → mc_ip D (S k) = true → mc_wt W c (U k) ≤ mc_wt W c D) ∧
  (∀ k j, k < i → k < j → j < r → mc_ip (U k) (S j) = false) ∧
  (∀ D, mc_cl F T c D → (∀ k, k < r → mc_ip D (S k) = false) → D = 0) ∧
  (∀ j, j < r → ∃ D, mc_cl F T c D ∧ mc_ip D (S j) = true ∧ ∀ l, l < j → mc_ip D (S l) = false) ∧
  (∀ j, j < r → S j < 4096) ∧
  (∀ k, k < i → mc_cl F T c (C k)) ∧ (∀ j k, j ≤ k → k < i → mc_wt W c (C j) ≤ mc_wt W c (C k)) ∧ (∀ t m, mc_st C t i m = mc_st U t i m)
theorem mc_SV_s {S U C : Nat → Nat} {r i p b s : Nat} (hi : i < r) (h : mc_SV c F T W S U C r i) (hL : mc_LI c F T W (S i) b s) (hpi : p ≤ i)
    (hlo : ∀ k, k < p → mc_wt W c (C k) ≤ mc_wt W c s) (hhi : ∀ k, p ≤ k → k < i → mc_wt W c s < mc_wt W c (C k)) : mc_SV c F T W (mc_sS S i s) (mc_up U i s) (mc_ins C p s) r (i + 1) := by
  obtain ⟨v1, v2, v3, v4, v5, v6, v7, v8⟩ := h
  obtain ⟨l1, l2, l3, l4⟩ := hL
  refine ⟨fun k hk => ?_, fun k j hk hkj hj => ?_, fun D hD hz => v3 D hD (fun k hk => ?_), fun j hj => ?_, fun j hj => ?_, fun k hk => ?_, fun j k hjk hk => ?_, fun t m => ?_⟩
  · rw [mc_sS_lo (by omega)]
    by_cases e : k = i
    · rw [e, mc_up_at, l3]
      exact ⟨l1, l2, l4⟩
    · rw [mc_up_ne U e]
      exact v1 k (by omega)
  · by_cases e : k = i
    · rw [e, mc_up_at, mc_sS_hi (by omega)]
      rcases mc_sw_or S i s j with ⟨e1, e2⟩ | ⟨e1, e2⟩
      · rw [e1, mc_ip_comm]; exact e2
      · rw [e1, mc_ip_xr, mc_ip_comm s (S j), e2, l2]; rfl
    · rw [mc_up_ne U e]
      by_cases h1 : j ≤ i
      · rw [mc_sS_lo h1]; exact v2 k j (by omega) hkj hj
      · rw [mc_sS_hi (by omega)]
        rcases mc_sw_or S i s j with ⟨e1, e2⟩ | ⟨e1, e2⟩
        · rw [e1]; exact v2 k j (by omega) hkj hj
        · rw [e1, mc_ip_xr, v2 k j (by omega) hkj hj, v2 k i (by omega) (by omega) hi]; rfl
  · have h1 := hz k hk
    have h2 := hz i hi
    rw [mc_sS_lo (Nat.le_refl i)] at h2
    by_cases h3 : k ≤ i
    · rw [mc_sS_lo h3] at h1; exact h1
    · rw [mc_sS_hi (by omega)] at h1
      rcases mc_sw_or S i s k with ⟨e1, e2⟩ | ⟨e1, e2⟩
      · rw [e1] at h1; exact h1
      · rw [e1, mc_ip_xr, h2, Bool.xor_false] at h1; exact h1
  · obtain ⟨D, d1, d2, d3⟩ := v4 j hj
    have hD : ∀ l, l ≤ j → mc_ip D (mc_sS S i s l) = mc_ip D (S l) := fun l hl => by
      by_cases h1 : l ≤ i
      · rw [mc_sS_lo h1]
      · rw [mc_sS_hi (by omega)]
        rcases mc_sw_or S i s l with ⟨e1, e2⟩ | ⟨e1, e2⟩
        · rw [e1]
        · rw [e1, mc_ip_xr, d3 i (by omega), Bool.xor_false]
    exact ⟨D, d1, by rw [hD j (Nat.le_refl j)]; exact d2, fun l hl => by rw [hD l (by omega)]; exact d3 l hl⟩
  · by_cases h1 : j ≤ i
    · rw [mc_sS_lo h1]; exact v5 j hj
    · rw [mc_sS_hi (by omega)]
      rcases mc_sw_or S i s j with ⟨e1, e2⟩ | ⟨e1, e2⟩
      · rw [e1]; exact v5 j hj
      · rw [e1]; exact Nat.xor_lt_two_pow (n := 12) (v5 j hj) (v5 i hi)
  · rcases Nat.lt_trichotomy k p with h1 | h1 | h1
    · rw [mc_ins_lo h1]; exact v6 k (by omega)
    · rw [h1, mc_ins_at]; exact l1
    · obtain ⟨k, rfl⟩ := mc_pre k p h1
      rw [mc_ins_hi (by omega)]; exact v6 k (by omega)
  · rcases Nat.lt_trichotomy k p with h1 | h1 | h1
    · rw [mc_ins_lo h1, mc_ins_lo (by omega)]; exact v7 j k hjk (by omega)
    · subst h1
      rw [mc_ins_at]
      by_cases h2 : j = k
      · rw [h2, mc_ins_at]; exact Nat.le_refl _
      · rw [mc_ins_lo (by omega)]; exact hlo j (by omega)
    · obtain ⟨k, rfl⟩ := mc_pre k p h1
      rw [mc_ins_hi (by omega)]
      rcases Nat.lt_trichotomy j p with h2 | h2 | h2
      · rw [mc_ins_lo h2]; exact v7 j k (by omega) (by omega)
      · rw [h2, mc_ins_at]; exact Nat.le_of_lt (hhi k (by omega) (by omega))
      · obtain ⟨j, rfl⟩ := mc_pre j p h2
        rw [mc_ins_hi (by omega)]; exact v7 j k (by omega) (by omega)
  · obtain ⟨d, rfl⟩ : ∃ d, i = p + d := ⟨i - p, by omega⟩
    have e : ∀ m, mc_st (mc_up U (p + d) s) t (p + d) m = mc_st U t (p + d) m := mc_st_congr (fun j hj => mc_up_ne U (by omega))
    rw [mc_st_ins, mc_st_s, mc_up_at, e, e, v8, v8]
theorem mc_SV_e (hG : mc_G c F T W) {S U C : Nat → Nat} {r : Nat} (hr : r ≤ 12) (h : mc_SV c F T W S U C r r) : mc_XF c F T W C r := by
  obtain ⟨v1, v2, v3, v4, v5, v6, v7, v8⟩ := h
  exact mc_XF_of hG hr (fun k hk => (v1 k hk).1) (fun k hk => (v1 k hk).2.1) (fun k j hk hj => v2 k j (by omega) hk hj) v3 (fun k hk => (v1 k hk).2.2) v6 v7 v8
theorem mc_SV_0 (hG : mc_G c F T W) {x U U' C : Nat → Nat} {r : Nat} (h : mc_SF c F T x U r) : mc_SV c F T W (fun i => 2 ^ x i) U' C r 0 := by
  obtain ⟨s1, s2, s3, s4⟩ := h
  have hc := hG.1
  have hx : ∀ i, i < r → ∀ D, mc_ip D (2 ^ x i) = D.testBit (x i) := fun i hi D => mc_ip_1r (by have := s2 i hi; omega) D
  refine ⟨fun k hk => absurd hk (Nat.not_lt_zero k), fun k j hk => absurd hk (Nat.not_lt_zero k), fun D hD hz => s4 D hD (fun i hi => ?_), fun j hj => ⟨U j, (s3 j hj).1, ?_, fun l hl => ?_⟩, fun j hj => ?_,
    fun k hk => absurd hk (Nat.not_lt_zero k), fun j k _ hk => absurd hk (Nat.not_lt_zero k), fun t m => rfl⟩
  · exact (hx i hi D).symm.trans (hz i hi)
  · exact (hx j hj _).trans (s3 j hj).2.1
  · exact (hx l (by omega) _).trans ((s3 j hj).2.2 l (by omega) (by omega))
  · have := s2 j hj
    exact mc_pow_lt (c := 12) (by omega)
end
section
variable {c : Nat} {F T W : Nat → Nat} {fo bw : Int32} {gr cy cw di wa dn pi : Nat → Int32}
theorem mc_sv45 {post : SX → Prop} {J : Int32 → Int32 → Int32 → Int32 → Int32 → Int32 → (Nat → Int32) → (Nat → Int32) → (Nat → Int32) → (Nat → Int32) → (Nat → Int32) → (Nat → Int32) → (Nat → Int32) → (Nat → Int32) → (Nat → Int32) → (Nat → Int32) → (Nat → Int32) → Prop}
    {S : Nat → Nat} {r i B : Nat} (hr : r ≤ 12) (hi : i < r) (hS : ∀ j, j < r → S j < 4096)
    (hJ : ∀ wi, mc_A r wi (mc_sS S i B) → J (nI (i + 1)) (nI c) (nI r) fo bw (nI B) (mc_f F) (mc_f T) (mc_f W) gr wi cy cw di wa dn pi) :
    ∀ m k n wi, k + m = r → m < n → i < k → (∀ l, l < r → wi l = nI (if i < l ∧ l < k then mc_sw S i B l else S l)) → wX_solve_45 post J (nI i) (nI c) (nI r) fo bw (nI B) n (nI k) (mc_f F) (mc_f T) (mc_f W) gr wi cy cw di wa dn pi := by
  intro m
  induction m with
  | zero =>
    intro k n wi hk hn hik hI
    obtain ⟨n, rfl⟩ := mc_pre n _ hn
    have e : k = r := by omega
    subst e
    refine br_t (nI_le (Nat.le_refl _) (by omega)) (nm_r (nI_1 i) (hJ wi (fun l hl => ?_)))
    rw [hI l hl]
    unfold mc_sS
    by_cases h : i < l
    · rw [if_pos ⟨h, hl⟩, if_pos h]
    · rw [if_neg (fun z => h z.1), if_neg h]
  | succ m ih =>
    intro k n wi hk hn hik hI
    obtain ⟨n, rfl⟩ := mc_pre n _ hn
    have vk : vp_in (nI k) 12 := vp_in_nI (by omega) (by decide)
    have vi : vp_in (nI i) 12 := vp_in_nI (by omega) (by decide)
    have ek : (nI k).toNatClampNeg = k := nI_clamp (by omega)
    have ei : (nI i).toNatClampNeg = i := nI_clamp (by omega)
    have wk : wi k = nI (S k) := by rw [hI k (by omega), if_neg (fun z => Nat.lt_irrefl k z.2)]
    have wI : wi i = nI (S i) := by rw [hI i (by omega), if_neg (fun z => Nat.lt_irrefl i z.1)]
    refine pk_le r k (fun h => absurd h (by omega)) (fun _ => And.intro vk ?_)
    rw [ek, ei, wk]
    refine mc_odd (hS k (by omega)) ?_
    have hst : ∀ l, l < r → l ≠ k → (if i < l ∧ l < k + 1 then mc_sw S i B l else S l) = (if i < l ∧ l < k then mc_sw S i B l else S l) := fun l hl hne => by
      by_cases h : i < l ∧ l < k
      · rw [if_pos h, if_pos ⟨h.1, by omega⟩]
      · rw [if_neg h, if_neg (fun z => h ⟨z.1, by omega⟩)]
    cases h : mc_ip (S k) B
    · refine br_t rfl (nm_r (nI_1 k) (ih (k + 1) n wi (by omega) (by omega) (by omega) (fun l hl => ?_)))
      by_cases e1 : l = k
      · rw [e1, wk, if_pos ⟨hik, Nat.lt_succ_self k⟩]
        unfold mc_sw
        rw [h, if_neg (by decide)]
      · rw [hst l hl e1, hI l hl]
    · refine br_f (by decide) (And.intro vk (And.intro vi (And.intro vk (nm_r (e' := upd wi k (nI (S k ^^^ S i))) (by rw [wI, nx_xor]) (nm_r (nI_1 k) (ih (k + 1) n _ (by omega) (by omega) (by omega) (fun l hl => ?_)))))))
      by_cases e1 : l = k
      · rw [e1, pk_us, if_pos ⟨hik, Nat.lt_succ_self k⟩]
        unfold mc_sw
        rw [h, if_pos rfl]
      · rw [pk_un e1, hst l hl e1, hI l hl]
end
section
variable {c : Nat} {F T W : Nat → Nat} {gr pi : Nat → Int32}
theorem mc_sv11 (hG : mc_G c F T W) {post : SX → Prop} {r : Nat} (hr : r ≤ 12)
    (hp : ∀ bw bs wi cy cw di wa dn C, mc_XF c F T W C r → mc_A r cy C → mc_A r cw (fun k => mc_wt W c (C k)) → post (nI c, nI r, nI r, bw, bs, mc_f F, mc_f T, mc_f W, gr, wi, cy, cw, di, wa, dn, pi)) :
    ∀ m i n bw bs wi cy cw di wa dn S U C, i + m = r → m < n → mc_SV c F T W S U C r i → mc_A r wi S → mc_A i cy C → mc_A i cw (fun k => mc_wt W c (C k)) →
    wX_solve_11 post n (nI i) (nI c) (nI r) (nI i) bw bs (mc_f F) (mc_f T) (mc_f W) gr wi cy cw di wa dn pi := by
  intro m
  induction m with
  | zero =>
    intro i n bw bs wi cy cw di wa dn S U C him hn hV hwi hcy hcw
    obtain ⟨n, rfl⟩ := mc_pre n _ hn
    have e : i = r := by omega
    subst e
    exact br_t (nI_le (Nat.le_refl _) (by omega)) (hp bw bs wi cy cw di wa dn C (mc_SV_e hG hr hV) hcy hcw)
  | succ m ih =>
    intro i n bw bs wi cy cw di wa dn S U C him hn hV hwi hcy hcw
    obtain ⟨n, rfl⟩ := mc_pre n _ hn
    have hi : i < r := by omega
    have vi : vp_in (nI i) 12 := vp_in_nI (by omega) (by decide)
    have ei : (nI i).toNatClampNeg = i := nI_clamp (by omega)
    refine pk_le r i (fun h => absurd h (by omega)) (fun _ => And.intro vi ?_)
    rw [ei, hwi i hi]
    obtain ⟨D, d1, d2, _⟩ := hV.2.2.2.1 i hi
    refine mc_lightest hG (hV.2.2.2.2.1 i hi) ⟨D, d1, d2⟩ (fun p s di wa dn hL => ?_)
    dsimp only
    have e3 := hL.2.2.1
    rw [← e3]
    refine mc_addCycle (V := mc_wt W c) (C := C) (by omega) (mc_wt_bd hG) hV.2.2.2.2.2.2.1 hcy hcw (fun cy cw q hq hlo hhi hcy' hcw' => ?_)
    dsimp only
    refine nm_r (nI_1 i) ⟨r + 1, mc_sv45 (S := S) (B := s) hr hi hV.2.2.2.2.1 (fun wi hwi' => ?_) (r - (i + 1)) (i + 1) (r + 1) wi (by omega) (by omega) (by omega) (fun l hl => ?_)⟩
    · exact ih (i + 1) n _ _ wi cy cw di wa dn _ _ _ (by omega) (by omega) (mc_SV_s hi hV hL hq hlo hhi) hwi' hcy' hcw'
    · rw [if_neg (fun z => by omega)]
      exact hwi l hl
theorem mc_solve (hG : mc_G c F T W) {post : SX → Prop} {rk fo bw bs : Int32} {gr wi cy cw di wa dn : Nat → Int32}
    (hp : ∀ bw bs gr wi cy cw di wa dn C r, mc_XF c F T W C r → mc_A r cy C → mc_A r cw (fun k => mc_wt W c (C k)) → post (nI c, nI r, nI r, bw, bs, mc_f F, mc_f T, mc_f W, gr, wi, cy, cw, di, wa, dn, pi)) : wpX_solve post (nI c, rk, fo, bw, bs, mc_f F, mc_f T, mc_f W, gr, wi, cy, cw, di, wa, dn, pi) := by
  unfold wpX_solve
  dsimp only
  refine mc_start hG (fun gr wi r x U hU hA => ?_)
  have hr : r ≤ 12 := Nat.le_trans hU.1 hG.1
  exact ⟨r + 1, mc_sv11 hG hr (fun bw bs wi cy cw di wa dn C => hp bw bs gr wi cy cw di wa dn C r) r 0 (r + 1) _ _ wi cy cw di wa dn _ U U (by omega) (by omega) (mc_SV_0 hG hU) hA (fun i hi => absurd hi (Nat.not_lt_zero i)) (fun i hi => absurd hi (Nat.not_lt_zero i))⟩
end
end
section
/-! ===== Y: degree, even, refresh ===== -/
theorem mc_par (f : Nat → Bool) : ∀ n : Nat, mc_cnt f n % 2 = (mc_xs f n).toNat
  | 0 => rfl
  | n + 1 => by
    have h := mc_par f n
    show (mc_cnt f n + (f n).toNat) % 2 = (mc_xs f n ^^ f n).toNat
    have h0 : (false).toNat = 0 := rfl
    have h1 : (true).toNat = 1 := rfl
    cases h2 : f n <;> cases h3 : mc_xs f n <;> rw [h3] at h <;> simp only [h0, h1, Bool.xor_false, Bool.xor_true, Bool.not_false, Bool.not_true] at h ⊢ <;> omega
section
variable {c : Nat} {F T W : Nat → Nat} {su cl : Nat → Int32}
theorem mc_deg_l (hG : mc_G c F T W) {post : Int32 → Prop} {s v : Nat} (hs : s < 4096) (hv : v < 7) (hp : post (nI (mc_cnt (fun e => s.testBit e && mc_dl (F e) (T e) v) c))) :
    ∀ m e n, e + m = c → m < n → wY_degree_5 post (nI s) (nI v) (nI c) (mc_f F) (mc_f T) (mc_f W) su cl n (nI (mc_cnt (fun e => s.testBit e && mc_dl (F e) (T e) v) e)) (nI e) := by
  have hc := hG.1
  intro m
  induction m with
  | zero =>
    intro e n he hn
    obtain ⟨n, rfl⟩ := mc_pre n _ hn
    have e1 : e = c := by omega
    subst e1
    exact br_t (nI_le (Nat.le_refl _) (by omega)) hp
  | succ m ih =>
    intro e n hem hn
    obtain ⟨n, rfl⟩ := mc_pre n _ hn
    have he : e < c := by omega
    have hFT := (hG.2.2 e he).1
    obtain ⟨hF, hT, hW⟩ := hG.2.1 e
    have ve : vp_in (nI e) 12 := vp_in_nI (by omega) (by decide)
    have eF := mc_fr F (e := e) (by omega)
    have eT := mc_fr T (e := e) (by omega)
    have hb := mc_bit0 (s := s) (e := e) (by omega) (by omega)
    have h4 := ih (e + 1) n (by omega) (by omega)
    have hst : mc_cnt (fun e => s.testBit e && mc_dl (F e) (T e) v) (e + 1) = mc_cnt (fun e => s.testBit e && mc_dl (F e) (T e) v) e + (s.testBit e && mc_dl (F e) (T e) v).toNat := rfl
    rw [hst] at h4
    refine pk_le c e (fun h => absurd h (by omega)) (fun _ => br_c (fun h => nm_r (nI_1 e) ?_) (fun h => And.intro ve ?_))
    · rw [hb.mp h, Bool.false_and] at h4
      exact h4
    · have h5 : s.testBit e = true := mc_nf (fun z => h (hb.mpr z))
      rw [h5, Bool.true_and] at h4
      rw [eF, eT]
      refine pk_eq (F e) v (fun h6 => nm_r (nI_1 _) (nm_r (nI_1 e) ?_)) (fun h6 => And.intro ve (pk_eq (T e) v (fun h7 => nm_r (nI_1 _) (nm_r (nI_1 e) ?_)) (fun h7 => nm_r (nI_1 e) ?_)))
      · have h8 : mc_dl (F e) (T e) v = true := by
          rw [mc_dl_comm, ← h6]
          exact mc_dl_r (fun z => hFT z.symm)
        rw [h8] at h4
        exact h4
      · have h8 : mc_dl (F e) (T e) v = true := by
          rw [← h7]
          exact mc_dl_r hFT
        rw [h8] at h4
        exact h4
      · have h8 : mc_dl (F e) (T e) v = false := mc_nt (fun z => h7 (mc_dl_or z (fun y => h6 y.symm)).symm)
        rw [h8] at h4
        exact h4
theorem mc_deg (hG : mc_G c F T W) {post : Int32 → Prop} {s v : Nat} (hs : s < 4096) (hv : v < 7) (hp : post (nI (mc_cnt (fun e => s.testBit e && mc_dl (F e) (T e) v) c))) : wpY_degree post (nI c, mc_f F, mc_f T, mc_f W, su, cl) (nI s) (nI v) :=
  ⟨c + 1, mc_deg_l hG hs hv hp c 0 (c + 1) (by omega) (by omega)⟩
theorem mc_even_l (hG : mc_G c F T W) {post : Int32 → Prop} {s : Nat} (hs : s < 4096) (h1 : (∀ v, v < 7 → mc_bd F T c s v = false) → post 1) (h0 : ∀ v, v < 7 → mc_bd F T c s v = true → post 0) :
    ∀ m k n, k + m = 7 → m < n → (∀ v, v < k → mc_bd F T c s v = false) → wY_even_2 post (nI s) (nI c) (mc_f F) (mc_f T) (mc_f W) su cl n (nI k) := by
  intro m
  induction m with
  | zero =>
    intro k n hk hn hI
    obtain ⟨n, rfl⟩ := mc_pre n _ hn
    have e : k = 7 := by omega
    subst e
    exact br_t (nI_le (a := 7) (b := 7) (Nat.le_refl _) (by decide)) (h1 hI)
  | succ m ih =>
    intro k n hk hn hI
    obtain ⟨n, rfl⟩ := mc_pre n _ hn
    refine pk_le 7 k (fun h => absurd h (by omega)) (fun _ => mc_deg hG hs (by omega) ?_)
    have h2 := mc_par (fun e => s.testBit e && mc_dl (F e) (T e) k) c
    have h3 := mc_cnt_le (fun e => s.testBit e && mc_dl (F e) (T e) k) c
    have h4 := pk_rem (a := mc_cnt (fun e => s.testBit e && mc_dl (F e) (T e) k) c) (d := 2) (by have := hG.1; omega) (by decide) (by decide)
    rw [h2] at h4
    refine And.intro (by decide) (br_c (fun h => nm_r (nI_1 k) (ih (k + 1) n (by omega) (by omega) (fun v hv => ?_))) (fun h => h0 k (by omega) (mc_nf (fun z => h ?_))))
    · by_cases e : v = k
      · rw [e]
        refine mc_nt (fun z => ?_)
        have z' : mc_xs (fun e => s.testBit e && mc_dl (F e) (T e) k) c = true := z
        rw [z'] at h4
        exact absurd (h4.symm.trans h) (by decide)
      · exact hI v (by omega)
    · have z' : mc_xs (fun e => s.testBit e && mc_dl (F e) (T e) k) c = false := z
      rw [z'] at h4
      exact h4
theorem mc_even (hG : mc_G c F T W) {post : Int32 → Prop} {s : Nat} (hs : s < 4096) (h1 : (∀ v, v < 7 → mc_bd F T c s v = false) → post 1) (h0 : ∀ v, v < 7 → mc_bd F T c s v = true → post 0) : wpY_even post (nI c, mc_f F, mc_f T, mc_f W, su, cl) (nI s) :=
  ⟨8, mc_even_l hG hs h1 h0 7 0 8 (by omega) (by omega) (fun v hv => absurd hv (Nat.not_lt_zero v))⟩
end
def mc_cv (c : Nat) (F T W : Nat → Nat) (s : Nat) : Int32 := if mc_clb F T c s = true then nI (mc_wt W c s) else -1
theorem mc_cv_t {c s : Nat} {F T W : Nat → Nat} (h : mc_cl F T c s) : mc_cv c F T W s = nI (mc_wt W c s) := if_pos (mc_clb_iff.mpr h)
theorem mc_cv_f {c s : Nat} {F T W : Nat → Nat} (h : ¬ mc_cl F T c s) : mc_cv c F T W s = -1 := if_neg (fun z => h (mc_clb_iff.mp z))
section
variable {c : Nat} {F T W : Nat → Nat} {su cl : Nat → Int32}
theorem mc_rf13 (hG : mc_G c F T W) {post : SY → Prop} {J : Int32 → (Nat → Int32) → (Nat → Int32) → (Nat → Int32) → (Nat → Int32) → (Nat → Int32) → Prop} {s : Nat} (hs : s < 4096)
    (hJ : J (nI (s + 1)) (mc_f F) (mc_f T) (mc_f W) su (upd cl s (mc_cv c F T W s))) :
    ∀ m e n, e + m = c → m < n → wY_refresh_13 post J (nI s) (nI c) (mc_f F) (mc_f T) (mc_f W) su cl n (nI (mc_wt W e s)) (nI e) := by
  have hc := hG.1
  have es : (nI s).toNatClampNeg = s := nI_clamp (by omega)
  have vs : vp_in (nI s) 4096 := vp_in_nI hs (by decide)
  have hpc : 2 ^ c ≤ 2 ^ 12 := Nat.pow_le_pow_right (by decide) hc
  have hp4 : (2 : Nat) ^ 12 = 4096 := rfl
  intro m
  induction m with
  | zero =>
    intro e n he hn
    obtain ⟨n, rfl⟩ := mc_pre n _ hn
    have e1 : e = c := by omega
    subst e1
    refine br_t (nI_le (Nat.le_refl _) (by omega)) ?_
    rw [mc_shl (by omega), es]
    have hf : ¬ mc_cl F T e s → ∀ x : Nat → Int32, x = upd cl s (-1) → ∀ y : Int32, y = nI s + 1 → J y (mc_f F) (mc_f T) (mc_f W) su x := fun h => nm_r (e' := upd cl s (mc_cv e F T W s)) (by rw [mc_cv_f h]) (nm_r (nI_1 s) hJ)
    refine pk_le (2 ^ e) s (fun h => And.intro vs (hf (fun z => absurd z.1 (by omega)))) (fun h => mc_even hG hs (fun h1 => br_f (by decide) (And.intro vs ?_)) (fun v hv h1 => br_t rfl (And.intro vs (hf (fun z => ?_)))))
    · exact nm_r (e' := upd cl s (mc_cv e F T W s)) (by rw [mc_cv_t ⟨h, h1⟩]) (nm_r (nI_1 s) hJ)
    · rw [z.2 v hv] at h1
      cases h1
  | succ m ih =>
    intro e n hem hn
    obtain ⟨n, rfl⟩ := mc_pre n _ hn
    have he : e < c := by omega
    have ve : vp_in (nI e) 12 := vp_in_nI (by omega) (by decide)
    have eW := mc_fr W (e := e) (by omega)
    have hb := mc_bit0 (s := s) (e := e) (by omega) (by omega)
    have h4 := ih (e + 1) n (by omega) (by omega)
    have hst : mc_wt W (e + 1) s = mc_wt W e s + (if s.testBit e = true then W e else 0) := rfl
    rw [hst] at h4
    refine pk_le c e (fun h => absurd h (by omega)) (fun _ => br_c (fun h => nm_r (nI_1 e) ?_) (fun h => And.intro ve (nm_r (e' := nI (mc_wt W e s + W e)) (by rw [eW, nI_add]) (nm_r (nI_1 e) ?_))))
    · rw [hb.mp h, if_neg (by decide)] at h4
      exact h4
    · rw [mc_nf (fun z => h (hb.mpr z)), if_pos rfl] at h4
      exact h4
end
section
variable {c : Nat} {F T W : Nat → Nat} {su : Nat → Int32}
def mc_CW (c : Nat) (F T W : Nat → Nat) (cl : Nat → Int32) : Prop := ∀ s, s < 4096 → cl s = mc_cv c F T W s
theorem mc_rf2 (hG : mc_G c F T W) {post : SY → Prop} (hp : ∀ cl, mc_CW c F T W cl → post (nI c, mc_f F, mc_f T, mc_f W, su, cl)) :
    ∀ m k n cl, k + m = 4096 → m < n → (∀ s, s < k → cl s = mc_cv c F T W s) → wY_refresh_2 post (nI c) n (nI k) (mc_f F) (mc_f T) (mc_f W) su cl := by
  intro m
  induction m with
  | zero =>
    intro k n cl hk hn hI
    obtain ⟨n, rfl⟩ := mc_pre n _ hn
    have e : k = 4096 := by omega
    subst e
    exact br_t (nI_le (a := 4096) (b := 4096) (Nat.le_refl _) (by decide)) (hp cl hI)
  | succ m ih =>
    intro k n cl hk hn hI
    obtain ⟨n, rfl⟩ := mc_pre n _ hn
    refine pk_le 4096 k (fun h => absurd h (by omega)) (fun _ => ⟨c + 1, mc_rf13 hG (by omega) (ih (k + 1) n _ (by omega) (by omega) (fun s hs => ?_)) c 0 (c + 1) (by omega) (by omega)⟩)
    by_cases e : s = k
    · rw [e, pk_us]
    · rw [pk_un e]; exact hI s (by omega)
theorem mc_refresh (hG : mc_G c F T W) {post : SY → Prop} {cl : Nat → Int32} (hp : ∀ cl, mc_CW c F T W cl → post (nI c, mc_f F, mc_f T, mc_f W, su, cl)) : wpY_refresh post (nI c, mc_f F, mc_f T, mc_f W, su, cl) :=
  ⟨4097, mc_rf2 hG hp 4096 0 4097 cl (by omega) (by omega) (fun v hv => absurd hv (Nat.not_lt_zero v))⟩
end
/-! ===== Y: forget, lightest, take ===== -/
section
variable {c : Nat} {F T W : Nat → Nat} {cl : Nat → Int32}
theorem mc_fg2 {post : SY → Prop} (hp : ∀ su, mc_A 4096 su (fun s => (decide (s = 0)).toNat) → post (nI c, mc_f F, mc_f T, mc_f W, su, cl)) :
    ∀ m k n su, k + m = 4096 → m < n → mc_A k su (fun s => (decide (s = 0)).toNat) → wY_forget_2 post (nI c) n (nI k) (mc_f F) (mc_f T) (mc_f W) su cl := by
  intro m
  induction m with
  | zero =>
    intro k n su hk hn hI
    obtain ⟨n, rfl⟩ := mc_pre n _ hn
    have e : k = 4096 := by omega
    subst e
    exact br_t (nI_le (a := 4096) (b := 4096) (Nat.le_refl _) (by decide)) (hp su hI)
  | succ m ih =>
    intro k n su hk hn hI
    obtain ⟨n, rfl⟩ := mc_pre n _ hn
    have ek : (nI k).toNatClampNeg = k := nI_clamp (by omega)
    have vk : vp_in (nI k) 4096 := vp_in_nI (by omega) (by decide)
    refine pk_le 4096 k (fun h => absurd h (by omega)) (fun _ => pk_eq k 0 (fun h => And.intro vk (nm_e (nm_r (nI_1 k) (ih (k + 1) n _ (by omega) (by omega) (fun s hs => ?_))))) (fun h => And.intro vk (nm_e (nm_r (nI_1 k) (ih (k + 1) n _ (by omega) (by omega) (fun s hs => ?_))))))
    · rw [ek]
      dsimp only
      by_cases e : s = k
      · rw [e, pk_us, h]; decide
      · rw [pk_un e]; exact hI s (by omega)
    · rw [ek]
      dsimp only
      by_cases e : s = k
      · rw [e, pk_us, decide_eq_false h]; decide
      · rw [pk_un e]; exact hI s (by omega)
theorem mc_forget {post : SY → Prop} {su : Nat → Int32} (hp : ∀ su, mc_A 4096 su (fun s => (decide (s = 0)).toNat) → post (nI c, mc_f F, mc_f T, mc_f W, su, cl)) : wpY_forget post (nI c, mc_f F, mc_f T, mc_f W, su, cl) :=
  ⟨4097, mc_fg2 hp 4096 0 4097 su (by omega) (by omega) (fun v hv => absurd hv (Nat.not_lt_zero v))⟩
theorem mc_b01 {b : Bool} {x : Int32} (h : x = nI b.toNat) : x = 0 ↔ b = false := by
  rw [h]; cases b <;> decide
end
section
variable {c : Nat} {F T W : Nat → Nat} {su cl : Nat → Int32}
theorem mc_ly4 (hG : mc_G c F T W) {post : Int32 → Prop} {V : Nat → Bool} (hcl : mc_CW c F T W cl) (hsu : mc_A 4096 su (fun s => (V s).toNat))
    (h1 : (∀ s, mc_cl F T c s → V s = true) → post (-1)) (h2 : ∀ g, mc_cl F T c g → V g = false → (∀ s, mc_cl F T c s → V s = false → mc_wt W c g ≤ mc_wt W c s) → post (nI g)) :
    ∀ m k n B, k + m = 4096 → m < n → ((B = -1 ∧ ∀ s, s < k → mc_cl F T c s → V s = true) ∨ ∃ g, B = nI g ∧ mc_cl F T c g ∧ V g = false ∧ ∀ s, s < k → mc_cl F T c s → V s = false → mc_wt W c g ≤ mc_wt W c s) →
    wY_lightest_4 post (nI c) (mc_f F) (mc_f T) (mc_f W) su cl n B (nI k) := by
  intro m
  induction m with
  | zero =>
    intro k n B hk hn hI
    obtain ⟨n, rfl⟩ := mc_pre n _ hn
    have e : k = 4096 := by omega
    subst e
    refine br_t (nI_le (a := 4096) (b := 4096) (Nat.le_refl _) (by decide)) ?_
    rcases hI with ⟨rfl, hI⟩ | ⟨g, rfl, a1, a2, a3⟩
    · exact h1 (fun s hs => hI s (mc_cl_lt hG hs) hs)
    · exact h2 g a1 a2 (fun s hs => a3 s (mc_cl_lt hG hs) hs)
  | succ m ih =>
    intro k n B hk hn hI
    obtain ⟨n, rfl⟩ := mc_pre n _ hn
    have hk4 : k < 4096 := by omega
    have ek : (nI k).toNatClampNeg = k := nI_clamp (by omega)
    have vk : vp_in (nI k) 4096 := vp_in_nI hk4 (by decide)
    have next : ∀ B', ((B' = -1 ∧ ∀ s, s < k + 1 → mc_cl F T c s → V s = true) ∨ ∃ g, B' = nI g ∧ mc_cl F T c g ∧ V g = false ∧ ∀ s, s < k + 1 → mc_cl F T c s → V s = false → mc_wt W c g ≤ mc_wt W c s) →
        ∀ y, y = nI k + 1 → wY_lightest_4 post (nI c) (mc_f F) (mc_f T) (mc_f W) su cl n B' y := fun B' h => nm_r (nI_1 k) (ih (k + 1) n B' (by omega) (by omega) h)
    have skip : (mc_cl F T c k → V k = true) → ∀ y, y = nI k + 1 → wY_lightest_4 post (nI c) (mc_f F) (mc_f T) (mc_f W) su cl n B y := fun hk1 => next B (by
      rcases hI with ⟨rfl, hI⟩ | ⟨g, rfl, a1, a2, a3⟩
      · refine Or.inl ⟨rfl, fun s hs hc => ?_⟩
        by_cases e : s = k
        · rw [e] at hc ⊢; exact hk1 hc
        · exact hI s (by omega) hc
      · refine Or.inr ⟨g, rfl, a1, a2, fun s hs hc hv => ?_⟩
        by_cases e : s = k
        · rw [e] at hc hv; rw [hk1 hc] at hv; cases hv
        · exact a3 s (by omega) hc hv)
    have e1 := hcl k hk4
    have e2 := mc_b01 (hsu k hk4)
    refine pk_le 4096 k (fun h => absurd h (by omega)) (fun _ => And.intro vk ?_)
    rw [ek, e1]
    by_cases hc : mc_cl F T c k
    · have w1 := mc_wt_bd hG k
      have e3 : cl k = nI (mc_wt W c k) := e1.trans (mc_cv_t hc)
      rw [mc_cv_t hc]
      refine br_f (nI_pos (by omega)) (And.intro vk (br_c (fun h => ?_) (fun h => ?_)))
      · have hv : V k = false := e2.mp h
        show wY_lightest_34 post _ B (nI k) 1 (nI c) (mc_f F) (mc_f T) (mc_f W) su cl
        unfold wY_lightest_34
        refine br_f (by decide) ?_
        rcases hI with ⟨rfl, hI⟩ | ⟨g, rfl, a1, a2, a3⟩
        · refine br_t (by decide) (next (nI k) (Or.inr ⟨k, rfl, hc, hv, fun s hs hcs hvs => ?_⟩))
          by_cases e : s = k
          · rw [e]; exact Nat.le_refl _
          · rw [hI s (by omega) hcs] at hvs; cases hvs
        · have hg4 := mc_cl_lt hG a1
          have w2 := mc_wt_bd hG g
          have e4 : cl g = nI (mc_wt W c g) := (hcl g hg4).trans (mc_cv_t a1)
          refine br_f (nI_pos (by omega)) (And.intro vk (And.intro (vp_in_nI hg4 (by decide)) ?_))
          rw [nI_clamp (by omega : g < 2 ^ 31), ek]
          refine pk_le (mc_wt W c g) (mc_wt W c k) (fun h3 => next (nI g) (Or.inr ⟨g, rfl, a1, a2, fun s hs hcs hvs => ?_⟩)) (fun h3 => next (nI k) (Or.inr ⟨k, rfl, hc, hv, fun s hs hcs hvs => ?_⟩)) e4 e3
          · by_cases e : s = k
            · rw [e]; exact h3
            · exact a3 s (by omega) hcs hvs
          · by_cases e : s = k
            · rw [e]; exact Nat.le_refl _
            · have := a3 s (by omega) hcs hvs
              omega
      · show wY_lightest_34 post _ B (nI k) 0 (nI c) (mc_f F) (mc_f T) (mc_f W) su cl
        exact br_t rfl (skip (fun _ => mc_nf (fun z => h (e2.mpr z))))
    · rw [mc_cv_f hc]
      refine br_t (by decide) ?_
      show wY_lightest_34 post _ B (nI k) 0 (nI c) (mc_f F) (mc_f T) (mc_f W) su cl
      exact br_t rfl (skip (fun z => absurd z hc))
theorem mc_ly (hG : mc_G c F T W) {post : Int32 → Prop} {V : Nat → Bool} (hcl : mc_CW c F T W cl) (hsu : mc_A 4096 su (fun s => (V s).toNat))
    (h1 : (∀ s, mc_cl F T c s → V s = true) → post (-1)) (h2 : ∀ g, mc_cl F T c g → V g = false → (∀ s, mc_cl F T c s → V s = false → mc_wt W c g ≤ mc_wt W c s) → post (nI g)) : wpY_lightest post (nI c, mc_f F, mc_f T, mc_f W, su, cl) :=
  ⟨4097, mc_ly4 hG hcl hsu h1 h2 4096 0 4097 (-1) (by omega) (by omega) (Or.inl ⟨rfl, fun s hs => absurd hs (Nat.not_lt_zero s)⟩)⟩
end
section
variable {c : Nat} {F T W : Nat → Nat} {cl : Nat → Int32}
theorem mc_tk2 {post : SY → Prop} {V : Nat → Bool} {t : Nat} (ht : t < 4096) (hp : ∀ su, mc_A 4096 su (fun s => (V s || V (s ^^^ t)).toNat) → post (nI c, mc_f F, mc_f T, mc_f W, su, cl)) :
    ∀ m k n su, k + m = 4096 → m < n → mc_A 4096 su (fun s => (V s || (V (s ^^^ t) && decide (s ^^^ t < k))).toNat) → wY_take_2 post (nI t) (nI c) n (nI k) (mc_f F) (mc_f T) (mc_f W) su cl := by
  intro m
  induction m with
  | zero =>
    intro k n su hk hn hI
    obtain ⟨n, rfl⟩ := mc_pre n _ hn
    have e : k = 4096 := by omega
    subst e
    refine br_t (nI_le (a := 4096) (b := 4096) (Nat.le_refl _) (by decide)) (hp su (fun s hs => ?_))
    rw [hI s hs]
    have h1 : s ^^^ t < 4096 := Nat.xor_lt_two_pow (n := 12) hs ht
    dsimp only
    rw [decide_eq_true h1, Bool.and_true]
  | succ m ih =>
    intro k n su hk hn hI
    obtain ⟨n, rfl⟩ := mc_pre n _ hn
    have hk4 : k < 4096 := by omega
    have hx4 : k ^^^ t < 4096 := Nat.xor_lt_two_pow (n := 12) hk4 ht
    have ek : (nI k).toNatClampNeg = k := nI_clamp (by omega)
    have vk : vp_in (nI k) 4096 := vp_in_nI hk4 (by decide)
    have ex : (nI (k ^^^ t)).toNatClampNeg = k ^^^ t := nI_clamp (by omega)
    have vx : vp_in (nI (k ^^^ t)) 4096 := vp_in_nI hx4 (by decide)
    have hne : ∀ s, s ≠ k ^^^ t → decide (s ^^^ t < k + 1) = decide (s ^^^ t < k) := fun s h => decide_eq_decide.mpr (by
      have : s ^^^ t ≠ k := fun z => h (by rw [← z, mc_x3])
      omega)
    have e1 := mc_b01 (hI k hk4)
    have e2 := mc_b01 (hI (k ^^^ t) hx4)
    rw [mc_x3] at e2
    have hk1 : decide (k < k + 1) = true := decide_eq_true (Nat.lt_succ_self k)
    have hk0 : decide (k < k) = false := decide_eq_false (Nat.lt_irrefl k)
    -- nothing to write
    have same : (V k = true → V (k ^^^ t) = true) → ∀ y, y = nI k + 1 → wY_take_2 post (nI t) (nI c) n y (mc_f F) (mc_f T) (mc_f W) su cl := fun h => nm_r (nI_1 k) (ih (k + 1) n su (by omega) (by omega) (fun s hs => by
      rw [hI s hs]
      dsimp only
      by_cases e : s = k ^^^ t
      · rw [e, mc_x3, hk1, hk0, Bool.and_true, Bool.and_false, Bool.or_false]
        cases hv : V k
        · rw [Bool.or_false]
        · rw [h hv]; rfl
      · rw [hne s e]))
    refine pk_le 4096 k (fun h => absurd h (by omega)) (fun _ => And.intro vk ?_)
    rw [nx_xor, ek, ex]
    refine br_c (fun h => same (fun z => ?_)) (fun h => And.intro vx (br_c (fun h3 => And.intro vx (nm_e (nm_r (nI_1 k) (ih (k + 1) n _ (by omega) (by omega) (fun s hs => ?_))))) (fun h3 => same (fun z => ?_))))
    · have := e1.mp h
      rw [z, Bool.true_or] at this
      cases this
    · have h4 : (V (k ^^^ t) || (V k && decide (k < k))) = false := e2.mp h3
      rw [hk0, Bool.and_false, Bool.or_false] at h4
      have h5 : V k = true := mc_nf (fun z => h (e1.mpr (by rw [z, h4]; rfl)))
      dsimp only
      by_cases e : s = k ^^^ t
      · rw [e, pk_us, mc_x3, h5, hk1, h4]
        decide
      · rw [pk_un e, hne s e]
        exact hI s hs
    · refine mc_nf (fun z2 => h3 (e2.mpr ?_))
      rw [z2, hk0, Bool.and_false]
      rfl
theorem mc_take {post : SY → Prop} {V : Nat → Bool} {t : Nat} {su : Nat → Int32} (ht : t < 4096) (hsu : mc_A 4096 su (fun s => (V s).toNat)) (hp : ∀ su, mc_A 4096 su (fun s => (V s || V (s ^^^ t)).toNat) → post (nI c, mc_f F, mc_f T, mc_f W, su, cl)) : wpY_take post (nI c, mc_f F, mc_f T, mc_f W, su, cl) (nI t) :=
  ⟨4097, mc_tk2 ht hp 4096 0 4097 su (by omega) (by omega) (fun s hs => by
    rw [hsu s hs]
    dsimp only
    rw [decide_eq_false (Nat.not_lt_zero _), Bool.and_false, Bool.or_false])⟩
end
end
section
/-! ===== Y: through, bridges, closed, rank ===== -/
section
variable {c : Nat} {F T W : Nat → Nat} {su cl : Nat → Int32}
theorem mc_isEdge {post : Int32 → Prop} (hc : c ≤ 12) {v : Int32} (h1 : (v < 0 ∨ nI c ≤ v) → post 0) (h2 : ∀ e, e < c → v = nI e → post 1) : wpY_isEdge post (nI c, mc_f F, mc_f T, mc_f W, su, cl) v := by
  rcases pk_ix v (n := c) (by omega) with h | h | ⟨e, he, rfl⟩
  · exact br_t h (h1 (Or.inl h))
  · refine br_c (fun _ => h1 (Or.inr h)) (fun _ => br_t h (h1 (Or.inr h)))
  · exact br_f (nI_pos (by omega)) (br_f (nI_ge he (by omega)) (h2 e he rfl))
theorem mc_ty16 (hG : mc_G c F T W) (hcl : mc_CW c F T W cl) {post : Int32 → Prop} {e : Nat} (he : e < c) (hp : ∀ r, mc_TH c F T W e r → post r) :
    ∀ m k n B, k + m = 4096 → m < n → ((B = -5 ∧ ∀ D, D < k → mc_cl F T c D → D.testBit e = false) ∨ ∃ D, B = nI (mc_wt W c D) ∧ mc_cl F T c D ∧ D.testBit e = true ∧ ∀ D', D' < k → mc_cl F T c D' → D'.testBit e = true → mc_wt W c D ≤ mc_wt W c D') →
    wY_through_16 post (nI e) (nI c) (mc_f F) (mc_f T) (mc_f W) su cl n B (nI k) := by
  have hc := hG.1
  intro m
  induction m with
  | zero =>
    intro k n B hk hn hI
    obtain ⟨n, rfl⟩ := mc_pre n _ hn
    have e1 : k = 4096 := by omega
    subst e1
    refine br_t (nI_le (a := 4096) (b := 4096) (Nat.le_refl _) (by decide)) (hp B ?_)
    rcases hI with ⟨a1, a2⟩ | ⟨D, a1, a2, a3, a4⟩
    · exact Or.inl ⟨a1, fun D hD => a2 D (mc_cl_lt hG hD) hD⟩
    · exact Or.inr ⟨_, D, a1, mc_wt_bd hG D, a2, a3, rfl, fun D' h1 h2 => a4 D' (mc_cl_lt hG h1) h1 h2⟩
  | succ m ih =>
    intro k n B hk hn hI
    obtain ⟨n, rfl⟩ := mc_pre n _ hn
    have hk4 : k < 4096 := by omega
    have ek : (nI k).toNatClampNeg = k := nI_clamp (by omega)
    have vk : vp_in (nI k) 4096 := vp_in_nI hk4 (by decide)
    have hb := mc_bit0 (s := k) (e := e) (by omega) (by omega)
    have skip : (mc_cl F T c k → k.testBit e = false) → ∀ y, y = nI k + 1 → wY_through_16 post (nI e) (nI c) (mc_f F) (mc_f T) (mc_f W) su cl n B y := fun hs => nm_r (nI_1 k) (ih (k + 1) n B (by omega) (by omega) (by
      rcases hI with ⟨a1, a2⟩ | ⟨D, a1, a2, a3, a4⟩
      · refine Or.inl ⟨a1, fun D h1 h2 => ?_⟩
        by_cases e1 : D = k
        · rw [e1] at h2 ⊢; exact hs h2
        · exact a2 D (by omega) h2
      · refine Or.inr ⟨D, a1, a2, a3, fun D' h1 h2 h3 => ?_⟩
        by_cases e1 : D' = k
        · rw [e1] at h2 h3; rw [hs h2] at h3; cases h3
        · exact a4 D' (by omega) h2 h3))
    refine pk_le 4096 k (fun h => absurd h (by omega)) (fun _ => And.intro vk (nm_r (e' := mc_cv c F T W k) (by rw [ek]; exact hcl k hk4) (br_c (fun h => skip (fun _ => hb.mp h)) (fun h => ?_))))
    have hbk : k.testBit e = true := mc_nf (fun z => h (hb.mpr z))
    by_cases hck : mc_cl F T c k
    · rw [mc_cv_t hck]
      have w1 := mc_wt_bd hG k
      refine br_f (nI_pos (by omega)) ?_
      rcases hI with ⟨rfl, a2⟩ | ⟨D, rfl, a2, a3, a4⟩
      · refine br_t (by decide) (nm_r (nI_1 k) (ih (k + 1) n _ (by omega) (by omega) (Or.inr ⟨k, rfl, hck, hbk, fun D' h1 h2 h3 => ?_⟩)))
        by_cases e1 : D' = k
        · rw [e1]; exact Nat.le_refl _
        · rw [a2 D' (by omega) h2] at h3; cases h3
      · have w2 := mc_wt_bd hG D
        refine br_f (nI_pos (by omega)) (pk_le (mc_wt W c D) (mc_wt W c k) (fun h4 => nm_r (nI_1 k) (ih (k + 1) n _ (by omega) (by omega) (Or.inr ⟨D, rfl, a2, a3, fun D' h1 h2 h3 => ?_⟩))) (fun h4 => nm_r (nI_1 k) (ih (k + 1) n _ (by omega) (by omega) (Or.inr ⟨k, rfl, hck, hbk, fun D' h1 h2 h3 => ?_⟩))))
        · by_cases e1 : D' = k
          · rw [e1]; exact h4
          · exact a4 D' (by omega) h2 h3
        · by_cases e1 : D' = k
          · rw [e1]; exact Nat.le_refl _
          · have := a4 D' (by omega) h2 h3
            omega
    · rw [mc_cv_f hck]
      exact br_t (by decide) (skip (fun z => absurd z hck))
theorem mc_throughY (hG : mc_G c F T W) (hcl : mc_CW c F T W cl) {post : Int32 → Prop} {v : Int32} (h1 : (v < 0 ∨ nI c ≤ v) → post (-4)) (h2 : ∀ e r, e < c → v = nI e → mc_TH c F T W e r → post r) : wpY_through post (nI c, mc_f F, mc_f T, mc_f W, su, cl) v := by
  unfold wpY_through
  dsimp only
  refine mc_isEdge hG.1 ?_ ?_
  · exact fun h => br_t rfl (h1 h)
  intro e he ev
  subst ev
  refine br_f (by decide) ⟨4096, mc_ty16 hG hcl he (fun r hr => h2 e r he rfl hr) 4095 1 4096 (-5) (by omega) (by omega) (Or.inl ⟨rfl, fun D hD _ => ?_⟩)⟩
  have e0 : D = 0 := by omega
  rw [e0, Nat.zero_testBit]
theorem mc_by4 (hG : mc_G c F T W) (hcl : mc_CW c F T W cl) {post : Int32 → Prop} (hp : post (nI (mc_cnt (mc_bg F T c) c))) :
    ∀ m e n, e + m = c → m < n → wY_bridges_4 post (nI c) (mc_f F) (mc_f T) (mc_f W) su cl n (nI (mc_cnt (mc_bg F T c) e)) (nI e) := by
  have hc := hG.1
  intro m
  induction m with
  | zero =>
    intro e n he hn
    obtain ⟨n, rfl⟩ := mc_pre n _ hn
    have e1 : e = c := by omega
    subst e1
    exact br_t (nI_le (Nat.le_refl _) (by omega)) hp
  | succ m ih =>
    intro e n hem hn
    obtain ⟨n, rfl⟩ := mc_pre n _ hn
    have he : e < c := by omega
    have h4 := ih (e + 1) n (by omega) (by omega)
    have hs : mc_cnt (mc_bg F T c) (e + 1) = mc_cnt (mc_bg F T c) e + (mc_bg F T c e).toNat := rfl
    rw [hs] at h4
    refine pk_le c e (fun h => absurd h (by omega)) (fun _ => mc_throughY hG hcl (fun h => ?_) (fun f r hf ef hr => ?_))
    · rcases h with h | h
      · exact absurd h (nI_pos (by omega))
      · exact absurd h (nI_ge he (by omega))
    · have e1 : e = f := (nI_eq (by omega) (by omega)).mp ef
      subst e1
      have hbt := mc_bg_TH hG hr
      refine br_c (fun h => nm_r (nI_1 _) (nm_r (nI_1 e) ?_)) (fun h => nm_r (nI_1 e) ?_)
      · rw [hbt.mpr h] at h4
        exact h4
      · rw [mc_nt (fun z => h (hbt.mp z))] at h4
        exact h4
theorem mc_bridgesY (hG : mc_G c F T W) (hcl : mc_CW c F T W cl) {post : Int32 → Prop} (hp : post (nI (mc_cnt (mc_bg F T c) c))) : wpY_bridges post (nI c, mc_f F, mc_f T, mc_f W, su, cl) :=
  ⟨c + 1, mc_by4 hG hcl hp c 0 (c + 1) (by omega) (by omega)⟩
theorem mc_closedY (hG : mc_G c F T W) (hcl : mc_CW c F T W cl) {post : Int32 → Prop} {v : Int32} (h1 : ∀ M, v = nI M → mc_cl F T c M → post 1) (h0 : (∀ M, M < 2 ^ 31 → v = nI M → ¬ mc_cl F T c M) → post 0) : wpY_closed post (nI c, mc_f F, mc_f T, mc_f W, su, cl) v := by
  rcases pk_ix v (n := 4096) (by decide) with h | h | ⟨M, hM, rfl⟩
  · exact br_t h (h0 (fun M hM e => absurd h (by rw [e]; exact nI_pos hM)))
  · have h0' : post 0 := h0 (fun M hM e z => by
      have h3 := mc_cl_lt hG z
      rw [e] at h
      exact absurd h (nI_ge h3 (by decide)))
    exact br_c (fun _ => h0') (fun _ => br_t h h0')
  · refine br_f (nI_pos (by omega)) (br_f (nI_ge (b := 4096) hM (by decide)) (And.intro (vp_in_nI hM (by decide)) ?_))
    rw [nI_clamp (by omega), hcl M hM]
    by_cases hc : mc_cl F T c M
    · rw [mc_cv_t hc]
      have := mc_wt_bd hG M
      exact br_f (nI_pos (by omega)) (h1 M rfl hc)
    · rw [mc_cv_f hc]
      refine br_t (by decide) (h0 (fun M' hM' e z => hc ?_))
      have e1 : M = M' := (nI_eq (by omega) (by omega)).mp e
      rw [e1]; exact z
theorem mc_ry31 {post : Int32 → Prop} {r : Nat} (hr : r ≤ 12) {x : Int32} (hx : x + 1 = nI (2 ^ r)) (hp : post (nI r)) : ∀ m k n, k + m = r → m < n → wY_rank_31 post x (nI c) (mc_f F) (mc_f T) (mc_f W) su cl n (nI k) := by
  have hpr : 2 ^ r ≤ 2 ^ 12 := Nat.pow_le_pow_right (by decide) hr
  have hp4 : (2 : Nat) ^ 12 = 4096 := rfl
  intro m
  induction m with
  | zero =>
    intro k n hk hn
    obtain ⟨n, rfl⟩ := mc_pre n _ hn
    have e1 : k = r := by omega
    subst e1
    refine br_c (fun _ => hp) (fun _ => ?_)
    rw [hx, mc_shl (by omega)]
    exact br_t (nI_le (Nat.le_refl _) (by omega)) hp
  | succ m ih =>
    intro k n hk hn
    obtain ⟨n, rfl⟩ := mc_pre n _ hn
    have hpk := mc_pow_lt (e := k) (c := r) (by omega)
    refine pk_le 12 k (fun h => absurd h (by omega)) (fun _ => ?_)
    rw [hx, mc_shl (by omega)]
    exact br_f (nI_ge hpk (by omega)) (nm_r (nI_1 k) (ih (k + 1) n (by omega) (by omega)))
theorem mc_ry4 (hG : mc_G c F T W) (hcl : mc_CW c F T W cl) {post : Int32 → Prop} {r : Nat} (hr : r ≤ 12) (hc : mc_cnt (mc_clb F T c) 4096 = 2 ^ r) (hp : post (nI r)) :
    ∀ m k n x, k + m = 4096 → m < n → x + 1 = nI (mc_cnt (mc_clb F T c) k) → wY_rank_4 post (nI c) (mc_f F) (mc_f T) (mc_f W) su cl n x (nI k) := by
  intro m
  induction m with
  | zero =>
    intro k n x hk hn hx
    obtain ⟨n, rfl⟩ := mc_pre n _ hn
    have e1 : k = 4096 := by omega
    subst e1
    rw [hc] at hx
    exact br_t (nI_le (a := 4096) (b := 4096) (Nat.le_refl _) (by decide)) ⟨r + 1, mc_ry31 hr hx hp r 0 (r + 1) (by omega) (by omega)⟩
  | succ m ih =>
    intro k n x hk hn hx
    obtain ⟨n, rfl⟩ := mc_pre n _ hn
    have hk4 : k < 4096 := by omega
    have hs : mc_cnt (mc_clb F T c) (k + 1) = mc_cnt (mc_clb F T c) k + (mc_clb F T c k).toNat := rfl
    refine pk_le 4096 k (fun h => absurd h (by omega)) (fun _ => And.intro (vp_in_nI hk4 (by decide)) ?_)
    rw [nI_clamp (by omega), hcl k hk4]
    by_cases hck : mc_cl F T c k
    · rw [mc_cv_t hck]
      have := mc_wt_bd hG k
      refine br_f (nI_pos (by omega)) (nm_e (nm_r (nI_1 k) (ih (k + 1) n _ (by omega) (by omega) ?_)))
      rw [hs, mc_clb_iff.mpr hck, hx]
      exact nI_1 _
    · rw [mc_cv_f hck]
      refine br_t (by decide) (nm_r (nI_1 k) (ih (k + 1) n x (by omega) (by omega) ?_))
      rw [hs, mc_nt (fun z => hck (mc_clb_iff.mp z)), hx]
      rfl
theorem mc_rankY (hG : mc_G c F T W) (hcl : mc_CW c F T W cl) {post : Int32 → Prop} {r : Nat} (hr : r ≤ 12) (hc : mc_cnt (mc_clb F T c) 4096 = 2 ^ r) (hp : post (nI r)) : wpY_rank post (nI c, mc_f F, mc_f T, mc_f W, su, cl) := by
  refine ⟨4096, mc_ry4 hG hcl hr hc hp 4095 1 4096 0 (by omega) (by omega) ?_⟩
  have h0 : mc_clb F T c 0 = true := mc_clb_iff.mpr (mc_cl_zero F T c)
  have h1 : mc_cnt (mc_clb F T c) 1 = 1 := by
    show 0 + (mc_clb F T c 0).toNat = 1
    rw [h0]; rfl
  rw [h1]
  rfl
end
/-! ===== Y: total, part, level: the greedy choice ===== -/
section
variable {c : Nat} {F T W : Nat → Nat}
theorem mc_LG_congr {G G' : Nat → Nat} {k : Nat} (h : ∀ i, i ≤ k → G i = G' i) (hL : mc_LG c F T W G k) : mc_LG c F T W G' k := by
  have e : ∀ m, mc_st G mc_tt k m = mc_st G' mc_tt k m := mc_st_congr (fun j hj => h j (Nat.le_of_lt hj))
  unfold mc_LG at hL ⊢
  rw [← h k (Nat.le_refl k), ← e]
  exact ⟨hL.1, hL.2.1, fun D hD hs => hL.2.2 D hD ((e D).trans hs)⟩
theorem mc_G_up {G : Nat → Nat} {j g : Nat} (hL : ∀ i, i < j → mc_LG c F T W G i) (h1 : mc_cl F T c g) (h2 : mc_st G mc_tt j g = false) (h3 : ∀ s, mc_cl F T c s → mc_st G mc_tt j s = false → mc_wt W c g ≤ mc_wt W c s) :
    (∀ i, i < j + 1 → mc_LG c F T W (mc_up G j g) i) ∧ (∀ i s, i ≤ j → mc_st (mc_up G j g) mc_tt i s = mc_st G mc_tt i s) ∧ (∀ s, mc_st (mc_up G j g) mc_tt (j + 1) s = (mc_st G mc_tt j s || mc_st G mc_tt j (s ^^^ g))) := by
  have e : ∀ i s, i ≤ j → mc_st (mc_up G j g) mc_tt i s = mc_st G mc_tt i s := fun i s hi => mc_st_congr (fun k hk => mc_up_ne G (by omega)) s
  refine ⟨fun i hi => ?_, e, fun s => ?_⟩
  · by_cases e1 : i = j
    · subst e1
      unfold mc_LG
      rw [mc_up_at, e i _ (Nat.le_refl i)]
      exact ⟨h1, h2, fun D hD hs => h3 D hD ((e i D (Nat.le_refl i)).symm.trans hs)⟩
    · exact mc_LG_congr (fun k hk => (mc_up_ne G (by omega)).symm) (hL i (by omega))
  · rw [mc_st_t, mc_up_at, e j _ (Nat.le_refl j), e j _ (Nat.le_refl j)]
end
section
variable {c : Nat} {F T W : Nat → Nat} {cl : Nat → Int32}
theorem mc_tot8 (hG : mc_G c F T W) (hcl : mc_CW c F T W cl) {post : Int32 → SY → Prop}
    (hp : ∀ su G j, (∀ i, i < j → mc_LG c F T W G i) → (j = 12 ∨ ∀ D, mc_cl F T c D → mc_st G mc_tt j D = true) → post (nI (mc_ns (fun i => mc_wt W c (G i)) j)) (nI c, mc_f F, mc_f T, mc_f W, su, cl)) :
    ∀ m k n su G j, k + m = 12 → m < n → (∀ i, i < j → mc_LG c F T W G i) → (j = k ∨ ∀ D, mc_cl F T c D → mc_st G mc_tt j D = true) → mc_A 4096 su (fun s => (mc_st G mc_tt j s).toNat) →
    wY_total_8 post n (nI (mc_ns (fun i => mc_wt W c (G i)) j)) (nI k) (nI c) (mc_f F) (mc_f T) (mc_f W) su cl := by
  intro m
  induction m with
  | zero =>
    intro k n su G j hk hn hL hj hA
    obtain ⟨n, rfl⟩ := mc_pre n _ hn
    have e1 : k = 12 := by omega
    subst e1
    exact br_t (nI_le (a := 12) (b := 12) (Nat.le_refl _) (by decide)) (hp su G j hL hj)
  | succ m ih =>
    intro k n su G j hk hn hL hj hA
    obtain ⟨n, rfl⟩ := mc_pre n _ hn
    refine pk_le 12 k (fun h => absurd h (by omega)) (fun _ => mc_ly hG hcl hA (fun hall => br_t (by decide) (nm_r (nI_1 k) (ih (k + 1) n su G j (by omega) (by omega) hL (Or.inr hall) hA))) (fun g g1 g2 g3 => ?_))
    have hg4 := mc_cl_lt hG g1
    obtain ⟨u1, u2, u3⟩ := mc_G_up hL g1 g2 g3
    have hjk : j = k := by
      rcases hj with h | h
      · exact h
      · rw [h g g1] at g2; cases g2
    have hns : mc_ns (fun i => mc_wt W c (mc_up G j g i)) (j + 1) = mc_ns (fun i => mc_wt W c (G i)) j + mc_wt W c g := by
      show mc_ns (fun i => mc_wt W c (mc_up G j g i)) j + mc_wt W c (mc_up G j g j) = _
      rw [mc_up_at, mc_ns_congr (g := fun i => mc_wt W c (G i)) (fun i hi => by rw [mc_up_ne G (by omega)])]
    refine br_f (nI_pos (by omega)) (And.intro (vp_in_nI hg4 (by decide)) (nm_r (e' := nI (mc_ns (fun i => mc_wt W c (mc_up G j g i)) (j + 1))) ?_ (mc_take hg4 hA (fun su hsu => nm_r (nI_1 k) (ih (k + 1) n su (mc_up G j g) (j + 1) (by omega) (by omega) u1 (Or.inl (by omega)) (fun s hs => ?_))))))
    · rw [nI_clamp (by omega), hcl g hg4, mc_cv_t g1, nI_add, hns]
    · rw [hsu s hs]
      dsimp only
      rw [u3 s]
theorem mc_totalY (hG : mc_G c F T W) (hcl : mc_CW c F T W cl) {post : Int32 → SY → Prop} {su : Nat → Int32}
    (hp : ∀ su G j, (∀ i, i < j → mc_LG c F T W G i) → (j = 12 ∨ ∀ D, mc_cl F T c D → mc_st G mc_tt j D = true) → post (nI (mc_ns (fun i => mc_wt W c (G i)) j)) (nI c, mc_f F, mc_f T, mc_f W, su, cl)) : wpY_total post (nI c, mc_f F, mc_f T, mc_f W, su, cl) := by
  unfold wpY_total
  dsimp only
  refine mc_forget (fun su hsu => ?_)
  exact ⟨13, mc_tot8 hG hcl hp 12 0 13 su (fun _ => 0) 0 (by omega) (by omega) (fun i hi => absurd hi (Nat.not_lt_zero i)) (Or.inl rfl) hsu⟩
theorem mc_prt6 (hG : mc_G c F T W) (hcl : mc_CW c F T W cl) {post : Int32 → SY → Prop} {v : Int32}
    (h1 : ∀ su G k, (∀ i, i ≤ k → mc_LG c F T W G i) → k < 12 → v = nI k → post (nI (mc_wt W c (G k))) (nI c, mc_f F, mc_f T, mc_f W, su, cl))
    (h0 : ∀ su G k, (∀ i, i < k → mc_LG c F T W G i) → k ≤ 12 → (k = 12 ∨ ∀ D, mc_cl F T c D → mc_st G mc_tt k D = true) → (∀ i, i < k → v ≠ nI i) → post (-5) (nI c, mc_f F, mc_f T, mc_f W, su, cl)) :
    ∀ m k n su G, k + m = 12 → m < n → (∀ i, i < k → mc_LG c F T W G i) → (∀ i, i < k → v ≠ nI i) → mc_A 4096 su (fun s => (mc_st G mc_tt k s).toNat) →
    wY_part_6 post v n (nI k) (nI c) (mc_f F) (mc_f T) (mc_f W) su cl := by
  intro m
  induction m with
  | zero =>
    intro k n su G hk hn hL hv hA
    obtain ⟨n, rfl⟩ := mc_pre n _ hn
    have e1 : k = 12 := by omega
    subst e1
    exact br_t (nI_le (a := 12) (b := 12) (Nat.le_refl _) (by decide)) (h0 su G 12 hL (Nat.le_refl _) (Or.inl rfl) hv)
  | succ m ih =>
    intro k n su G hk hn hL hv hA
    obtain ⟨n, rfl⟩ := mc_pre n _ hn
    refine pk_le 12 k (fun h => absurd h (by omega)) (fun _ => mc_ly hG hcl hA (fun hall => br_f (by decide) (h0 su G k hL (by omega) (Or.inr hall) hv)) (fun g g1 g2 g3 => ?_))
    have hg4 := mc_cl_lt hG g1
    obtain ⟨u1, u2, u3⟩ := mc_G_up hL g1 g2 g3
    refine br_t (nI_pos' (by omega)) (br_c (fun hvk => And.intro (vp_in_nI hg4 (by decide)) ?_) (fun hvk => mc_take hg4 hA (fun su hsu => nm_r (nI_1 k) (ih (k + 1) n su (mc_up G k g) (by omega) (by omega) u1 (fun i hi => ?_) (fun s hs => ?_)))))
    · rw [nI_clamp (by omega), hcl g hg4, mc_cv_t g1]
      have h3 := h1 su (mc_up G k g) k (fun i hi => u1 i (by omega)) (by omega) hvk.symm
      rw [mc_up_at] at h3
      exact h3
    · by_cases e1 : i = k
      · rw [e1]; exact fun z => hvk z.symm
      · exact hv i (by omega)
    · rw [hsu s hs]
      dsimp only
      rw [u3 s]
theorem mc_partY (hG : mc_G c F T W) (hcl : mc_CW c F T W cl) {post : Int32 → SY → Prop} {v : Int32} {su : Nat → Int32}
    (h1 : ∀ su G k, (∀ i, i ≤ k → mc_LG c F T W G i) → k < 12 → v = nI k → post (nI (mc_wt W c (G k))) (nI c, mc_f F, mc_f T, mc_f W, su, cl))
    (h0 : ∀ su G k, (∀ i, i < k → mc_LG c F T W G i) → k ≤ 12 → (k = 12 ∨ ∀ D, mc_cl F T c D → mc_st G mc_tt k D = true) → (∀ i, i < k → v ≠ nI i) → post (-5) (nI c, mc_f F, mc_f T, mc_f W, su, cl)) : wpY_part post (nI c, mc_f F, mc_f T, mc_f W, su, cl) v := by
  unfold wpY_part
  dsimp only
  refine mc_forget (fun su hsu => ?_)
  exact ⟨13, mc_prt6 hG hcl h1 h0 12 0 13 su (fun _ => 0) (by omega) (by omega) (fun i hi => absurd hi (Nat.not_lt_zero i)) (fun i hi => absurd hi (Nat.not_lt_zero i)) hsu⟩
theorem mc_lvl19 (hG : mc_G c F T W) (hcl : mc_CW c F T W cl) {post : Int32 → SY → Prop} {M : Nat} (hM : mc_cl F T c M)
    (hp : ∀ su G k, (∀ i, i < k → mc_LG c F T W G i) → mc_st G mc_tt k M = true → (∀ i, i < k → mc_st G mc_tt i M = false) → post (nI (if k = 0 then 0 else mc_wt W c (G (k - 1)))) (nI c, mc_f F, mc_f T, mc_f W, su, cl)) :
    ∀ m k n su G x, k + m = 12 → m < n → (∀ i, i < k → mc_LG c F T W G i) → (∀ i, i < k → mc_st G mc_tt i M = false) → x = nI (if k = 0 then 0 else mc_wt W c (G (k - 1))) → mc_A 4096 su (fun s => (mc_st G mc_tt k s).toNat) →
    wY_level_19 post (nI M) n x (nI k) (nI c) (mc_f F) (mc_f T) (mc_f W) su cl := by
  have hM4 := mc_cl_lt hG hM
  intro m
  induction m with
  | zero =>
    intro k n su G x hk hn hL hI hx hA
    obtain ⟨n, rfl⟩ := mc_pre n _ hn
    have e1 : k = 12 := by omega
    subst e1
    rw [hx]
    refine br_t (nI_le (a := 12) (b := 12) (Nat.le_refl _) (by decide)) (hp su G 12 hL ?_ hI)
    have h1 := mc_cnt_pow (C := G) (n := 12) (fun j hj => mc_cl_lt hG (hL j hj).1) (fun j hj => (hL j hj).2.1)
    exact mc_cnt_full (n := 4096) (Nat.le_of_eq h1.symm) M hM4
  | succ m ih =>
    intro k n su G x hk hn hL hI hx hA
    obtain ⟨n, rfl⟩ := mc_pre n _ hn
    have e1 := mc_b01 (hA M hM4)
    refine pk_le 12 k (fun h => absurd h (by omega)) (fun _ => And.intro (vp_in_nI hM4 (by decide)) ?_)
    rw [nI_clamp (by omega)]
    refine br_c (fun h => ?_) (fun h => ?_)
    · have hMk := e1.mp h
      refine mc_ly hG hcl hA (fun hall => ?_) (fun g g1 g2 g3 => ?_)
      · rw [hall M hM] at hMk
        cases hMk
      · have hg4 := mc_cl_lt hG g1
        obtain ⟨u1, u2, u3⟩ := mc_G_up hL g1 g2 g3
        refine And.intro (vp_in_nI hg4 (by decide)) (nm_e (mc_take hg4 hA (fun su hsu => nm_r (nI_1 k) (ih (k + 1) n su (mc_up G k g) _ (by omega) (by omega) u1 (fun i hi => ?_) ?_ (fun s hs => ?_)))))
        · rw [u2 i M (by omega)]
          by_cases e2 : i = k
          · rw [e2]; exact hMk
          · exact hI i (by omega)
        · rw [nI_clamp (by omega), hcl g hg4, mc_cv_t g1, if_neg (by omega), Nat.add_sub_cancel, mc_up_at]
        · rw [hsu s hs]
          dsimp only
          rw [u3 s]
    · rw [hx]
      exact hp su G k hL (mc_nf (fun z => h (e1.mpr z))) hI
theorem mc_levelY (hG : mc_G c F T W) (hcl : mc_CW c F T W cl) {post : Int32 → SY → Prop} {v : Int32} {su : Nat → Int32} (h0 : (∀ M, M < 2 ^ 31 → v = nI M → ¬ mc_cl F T c M) → post (-5) (nI c, mc_f F, mc_f T, mc_f W, su, cl))
    (hp : ∀ su M G k, v = nI M → mc_cl F T c M → (∀ i, i < k → mc_LG c F T W G i) → mc_st G mc_tt k M = true → (∀ i, i < k → mc_st G mc_tt i M = false) → post (nI (if k = 0 then 0 else mc_wt W c (G (k - 1)))) (nI c, mc_f F, mc_f T, mc_f W, su, cl)) : wpY_level post (nI c, mc_f F, mc_f T, mc_f W, su, cl) v := by
  unfold wpY_level
  dsimp only
  refine mc_closedY hG hcl ?_ ?_
  · intro M ev hM
    refine br_f (by decide) ?_
    refine mc_forget (fun su hsu => ?_)
    rw [ev]
    exact ⟨13, mc_lvl19 hG hcl hM (fun su G k => hp su M G k ev hM) 12 0 13 su (fun _ => 0) 0 (by omega) (by omega) (fun i hi => absurd hi (Nat.not_lt_zero i)) (fun i hi => absurd hi (Nat.not_lt_zero i)) rfl hsu⟩
  · intro h
    exact br_t rfl (h0 h)
end
end
section
/-! ===== X: closed, rank, total, part ===== -/
section
variable {c : Nat} {F T W : Nat → Nat} {rk fo bw bs : Int32} {gr wi cy cw di wa dn pi : Nat → Int32}
theorem mc_two (e y : Nat) : (2 ^ e).testBit y = decide (y = e) := by
  rw [Nat.testBit_two_pow]
  exact decide_eq_decide.mpr ⟨fun h => h.symm, fun h => h.symm⟩
theorem mc_cx19 (hG : mc_G c F T W) {post : Int32 → Prop} {M : Nat} (hM : M < 4096) (h1 : (∀ v, v < 7 → mc_bd F T c M v = false) → post 1) (h0 : ∀ v, v < 7 → mc_bd F T c M v = true → post 0) :
    ∀ m e n o, e + m = c → m < n → o < 128 → (∀ y, y < 7 → o.testBit y = mc_bd F T e M y) → wX_closed_19 post (nI M) (nI c) rk fo bw bs (mc_f F) (mc_f T) (mc_f W) gr wi cy cw di wa dn pi n (nI o) (nI e) := by
  have hc := hG.1
  intro m
  induction m with
  | zero =>
    intro e n o he hn ho hI
    obtain ⟨n, rfl⟩ := mc_pre n _ hn
    have e1 : e = c := by omega
    subst e1
    refine br_t (nI_le (Nat.le_refl _) (by omega)) (pk_eq o 0 (fun h => h1 (fun v hv => ?_)) (fun h => ?_))
    · rw [← hI v hv, h, Nat.zero_testBit]
    · obtain ⟨i, hi⟩ := Nat.exists_testBit_of_ne_zero h
      have hi7 : i < 7 := mc_bit_lt (c := 7) ho hi
      exact h0 i hi7 (by rw [← hI i hi7]; exact hi)
  | succ m ih =>
    intro e n o hem hn ho hI
    obtain ⟨n, rfl⟩ := mc_pre n _ hn
    have he : e < c := by omega
    obtain ⟨hF, hT, hW⟩ := hG.2.1 e
    have ve : vp_in (nI e) 12 := vp_in_nI (by omega) (by decide)
    have eF := mc_fr F (e := e) (by omega)
    have eT := mc_fr T (e := e) (by omega)
    have hb := mc_bit1 (s := M) (e := e) (by omega) (by omega)
    have hst : ∀ y, mc_bd F T (e + 1) M y = (mc_bd F T e M y ^^ (M.testBit e && mc_dl (F e) (T e) y)) := fun y => rfl
    refine pk_le c e (fun h => absurd h (by omega)) (fun _ => br_c (fun h => And.intro ve (And.intro ve (nm_r (e' := nI (o ^^^ (2 ^ F e ^^^ 2 ^ T e))) ?_ (nm_r (nI_1 e) (ih (e + 1) n _ (by omega) (by omega) ?_ (fun y hy => ?_)))))) (fun h => nm_r (nI_1 e) (ih (e + 1) n o (by omega) (by omega) ho (fun y hy => ?_))))
    · rw [eF, eT, mc_shl (by omega), mc_shl (by omega), nx_xor, nx_xor]
    · exact Nat.xor_lt_two_pow (n := 7) ho (Nat.xor_lt_two_pow (mc_pow_lt hF) (mc_pow_lt hT))
    · rw [hst y, hb.mp h, Bool.true_and, Nat.testBit_xor, Nat.testBit_xor, hI y hy, mc_two, mc_two]
      rfl
    · rw [hst y, mc_nt (fun z => h (hb.mpr z)), Bool.false_and, Bool.xor_false]
      exact hI y hy
theorem mc_closedX (hG : mc_G c F T W) {post : Int32 → Prop} {v : Int32} (h1 : ∀ M, v = nI M → mc_cl F T c M → post 1) (h0 : (∀ M, M < 2 ^ 31 → v = nI M → ¬ mc_cl F T c M) → post 0) : wpX_closed post (nI c, rk, fo, bw, bs, mc_f F, mc_f T, mc_f W, gr, wi, cy, cw, di, wa, dn, pi) v := by
  have hc := hG.1
  by_cases h : v < 0
  · exact br_t h (h0 (fun M hM e => absurd h (by rw [e]; exact nI_pos hM)))
  · obtain ⟨M, hM, rfl⟩ := nI_of h
    have h0' : ¬ mc_cl F T c M → post 0 := fun z => h0 (fun M' hM' e y => z (by
      rw [(nI_eq hM hM').mp e]
      exact y))
    refine br_f h ?_
    rw [pk_shrN hM _ c (s_l c (by omega))]
    have hle := Nat.div_le_self M (2 ^ c)
    refine pk_eq (M / 2 ^ c) 0 (fun h2 => ?_) (fun h2 => h0' (fun z => h2 (Nat.div_eq_of_lt z.1)))
    have hlt : M < 2 ^ c := by
      rcases Nat.div_eq_zero_iff.mp h2 with h3 | h3
      · exact absurd h3 (Nat.ne_of_gt (Nat.two_pow_pos c))
      · exact h3
    refine ⟨c + 1, mc_cx19 hG (mc_p12 hc hlt) (fun h3 => h1 M rfl ⟨hlt, h3⟩) (fun y hy h3 => h0' (fun z => ?_)) c 0 (c + 1) 0 (by omega) (by omega) (by decide) (fun y _ => Nat.zero_testBit y)⟩
    rw [z.2 y hy] at h3
    cases h3
theorem mc_tx8 {post : Int32 → SX → Prop} {C : Nat → Nat} {r : Nat} (hr : r ≤ 12) (hcw : mc_A r cw C) (hp : post (nI (mc_ns C r)) (nI c, rk, nI r, bw, bs, mc_f F, mc_f T, mc_f W, gr, wi, cy, cw, di, wa, dn, pi)) :
    ∀ m k n, k + m = r → m < n → wX_total_8 post (nI c) rk (nI r) bw bs (mc_f F) (mc_f T) (mc_f W) gr wi cy cw di wa dn pi n (nI (mc_ns C k)) (nI k) := by
  intro m
  induction m with
  | zero =>
    intro k n hk hn
    obtain ⟨n, rfl⟩ := mc_pre n _ hn
    have e1 : k = r := by omega
    subst e1
    exact br_t (nI_le (Nat.le_refl _) (by omega)) hp
  | succ m ih =>
    intro k n hk hn
    obtain ⟨n, rfl⟩ := mc_pre n _ hn
    refine pk_le r k (fun h => absurd h (by omega)) (fun _ => And.intro (vp_in_nI (by omega) (by decide)) (nm_r (e' := nI (mc_ns C (k + 1))) ?_ (nm_r (nI_1 k) (ih (k + 1) n (by omega) (by omega)))))
    rw [nI_clamp (by omega), hcw k (by omega), nI_add]
    rfl
theorem mc_totalX (hG : mc_G c F T W) {post : Int32 → SX → Prop}
    (hp : ∀ rk fo bw bs gr wi cy cw di wa dn C r, mc_XF c F T W C r → post (nI (mc_ns (fun k => mc_wt W c (C k)) r)) (nI c, rk, fo, bw, bs, mc_f F, mc_f T, mc_f W, gr, wi, cy, cw, di, wa, dn, pi)) : wpX_total post (nI c, rk, fo, bw, bs, mc_f F, mc_f T, mc_f W, gr, wi, cy, cw, di, wa, dn, pi) := by
  unfold wpX_total
  dsimp only
  refine mc_solve hG (fun bw bs gr wi cy cw di wa dn C r hX hcy hcw => ?_)
  exact ⟨r + 1, mc_tx8 hX.1 hcw (hp _ _ bw bs gr wi cy cw di wa dn C r hX) r 0 (r + 1) (by omega) (by omega)⟩
theorem mc_partX (hG : mc_G c F T W) {post : Int32 → SX → Prop} {v : Int32}
    (h1 : ∀ rk fo bw bs gr wi cy cw di wa dn C r k, mc_XF c F T W C r → k < r → v = nI k → post (nI (mc_wt W c (C k))) (nI c, rk, fo, bw, bs, mc_f F, mc_f T, mc_f W, gr, wi, cy, cw, di, wa, dn, pi))
    (h0 : ∀ rk fo bw bs gr wi cy cw di wa dn C r, mc_XF c F T W C r → (v < 0 ∨ nI r ≤ v) → post (-5) (nI c, rk, fo, bw, bs, mc_f F, mc_f T, mc_f W, gr, wi, cy, cw, di, wa, dn, pi)) : wpX_part post (nI c, rk, fo, bw, bs, mc_f F, mc_f T, mc_f W, gr, wi, cy, cw, di, wa, dn, pi) v := by
  unfold wpX_part
  dsimp only
  refine mc_solve hG (fun bw bs gr wi cy cw di wa dn C r hX hcy hcw => ?_)
  dsimp only
  have hr := hX.1
  rcases pk_ix v (n := r) (by omega) with h | h | ⟨k, hk, rfl⟩
  · exact br_t h (h0 _ _ bw bs gr wi cy cw di wa dn C r hX (Or.inl h))
  · have h2 := h0 (nI r) (nI r) bw bs gr wi cy cw di wa dn C r hX (Or.inr h)
    exact br_c (fun _ => h2) (fun _ => br_f (Int32.not_lt.mpr h) h2)
  · refine br_f (nI_pos (by omega)) (br_t (nI_lt hk (by omega)) (And.intro (vp_in_nI (by omega) (by decide)) ?_))
    rw [nI_clamp (by omega), hcw k hk]
    exact h1 _ _ bw bs gr wi cy cw di wa dn C r k hX hk rfl
theorem mc_rankX (hG : mc_G c F T W) {post : Int32 → SX → Prop} (hp : ∀ rk gr wi r, r ≤ 12 → mc_cnt (mc_clb F T c) 4096 = 2 ^ r → post (nI r) (nI c, rk, fo, bw, bs, mc_f F, mc_f T, mc_f W, gr, wi, cy, cw, di, wa, dn, pi)) : wpX_rank post (nI c, rk, fo, bw, bs, mc_f F, mc_f T, mc_f W, gr, wi, cy, cw, di, wa, dn, pi) := by
  unfold wpX_rank
  dsimp only
  refine mc_start hG (fun gr wi r x U hU hA => ?_)
  exact hp _ gr wi r (Nat.le_trans hU.1 hG.1) (mc_SF_cnt hG hU)
/-! ===== X: level ===== -/
theorem mc_rd5 {post : Int32 → Prop} {p : Nat → Nat} (hpi : mc_A 12 pi p) (hp4 : ∀ e, e < 12 → p e < 4096) :
    ∀ k n s x, k < n → k ≤ 12 → x = nI k + (-1) → s < 4096 → post (nI (mc_rd p k s)) → wX_reduce_5 post (nI c) rk fo bw bs (mc_f F) (mc_f T) (mc_f W) gr wi cy cw di wa dn pi n (nI s) x := by
  intro k
  induction k with
  | zero =>
    intro n s x hn _ hx hs hp
    obtain ⟨n, rfl⟩ := mc_pre n _ hn
    exact br_t (by rw [hx]; decide) hp
  | succ k ih =>
    intro n s x hn hk hx hs hp
    obtain ⟨n, rfl⟩ := mc_pre n _ hn
    rw [pk_m1] at hx
    subst hx
    have vk : vp_in (nI k) 12 := vp_in_nI (by omega) (by decide)
    have ek : (nI k).toNatClampNeg = k := nI_clamp (by omega)
    have hb := mc_bit1 (s := s) (e := k) (by omega) (by omega)
    have hpk := hp4 k (by omega)
    rw [mc_rd_s] at hp
    refine br_f (nI_pos (by omega)) (br_c (fun h => And.intro vk ?_) (fun h => nm_e (ih n s _ (by omega) (by omega) rfl hs ?_)))
    · rw [ek, hpi k (by omega)]
      refine pk_eq (p k) 0 (fun h2 => nm_e (ih n s _ (by omega) (by omega) rfl hs ?_)) (fun h2 => And.intro vk (nm_r (nx_xor s (p k)) (nm_e (ih n (s ^^^ p k) _ (by omega) (by omega) rfl (Nat.xor_lt_two_pow (n := 12) hs hpk) ?_))))
      · rw [if_neg (fun z => z.2 h2)] at hp
        exact hp
      · rw [if_pos ⟨hb.mp h, h2⟩] at hp
        exact hp
    · rw [if_neg (fun z => h (hb.mpr z.1))] at hp
      exact hp
theorem mc_reduce {post : Int32 → Prop} {p : Nat → Nat} (hpi : mc_A 12 pi p) (hp4 : ∀ e, e < 12 → p e < 4096) {s : Nat} (hs : s < 4096) (hp : post (nI (mc_rd p 12 s))) : wpX_reduce post (nI c, rk, fo, bw, bs, mc_f F, mc_f T, mc_f W, gr, wi, cy, cw, di, wa, dn, pi) (nI s) :=
  ⟨13, mc_rd5 hpi hp4 12 13 s 11 (by omega) (by omega) (by decide) hs hp⟩
end
theorem mc_hi3 {post : Int32 → Prop} {s : Nat} (hs : s < 4096) (h1 : s = 0 → post (-1)) (h2 : ∀ k, k < 12 → s.testBit k = true → s < 2 ^ (k + 1) → post (nI k)) :
    ∀ k n x, k < n → k ≤ 12 → x = nI k + (-1) → s < 2 ^ k → wX_highest_3 post (nI s) n x := by
  intro k
  induction k with
  | zero =>
    intro n x hn _ hx hI
    obtain ⟨n, rfl⟩ := mc_pre n _ hn
    rw [Nat.pow_zero] at hI
    have e : x = -1 := by rw [hx]; decide
    rw [e]
    exact br_t (by decide) (h1 (by omega))
  | succ k ih =>
    intro n x hn hk hx hI
    obtain ⟨n, rfl⟩ := mc_pre n _ hn
    rw [pk_m1] at hx
    subst hx
    have hb := mc_bit0 (s := s) (e := k) (by omega) (by omega)
    exact br_f (nI_pos (by omega)) (br_c (fun h => nm_e (ih n _ (by omega) (by omega) rfl (mc_lt_of_bit hI (hb.mp h)))) (fun h => h2 k (by omega) (mc_nf (fun z => h (hb.mpr z))) hI))
theorem mc_highest {post : Int32 → Prop} {s : Nat} (hs : s < 4096) (h1 : s = 0 → post (-1)) (h2 : ∀ k, k < 12 → s.testBit k = true → s < 2 ^ (k + 1) → post (nI k)) : wpX_highest post (nI s) :=
  ⟨13, mc_hi3 hs h1 h2 12 13 11 (by omega) (by omega) (by decide) hs⟩
theorem mc_PA_4 {p : Nat → Nat} {V : Nat → Prop} (h : mc_PA p V) : ∀ e, e < 12 → p e < 4096 := fun e he => by
  by_cases z : p e = 0
  · omega
  · exact Nat.lt_of_lt_of_le (h e he z).2.1 (Nat.pow_le_pow_right (by decide) (by omega) : 2 ^ (e + 1) ≤ 2 ^ 12)
section
variable {c : Nat} {F T W : Nat → Nat} {rk fo bw bs : Int32} {gr wi cy cw di wa dn : Nat → Int32}
theorem mc_l87 {post : Int32 → SX → Prop} {J : Int32 → (Nat → Int32) → (Nat → Int32) → (Nat → Int32) → (Nat → Int32) → (Nat → Int32) → (Nat → Int32) → (Nat → Int32) → (Nat → Int32) → (Nat → Int32) → (Nat → Int32) → (Nat → Int32) → Prop}
    {C p : Nat → Nat} {M i w : Nat} {pi : Nat → Int32} (hM : M < 4096) (hi : i < 12) (hw : cw i = nI w) (hpi : mc_A 12 pi p) (hA : mc_PA p (fun m => mc_st C mc_tt (i + 1) m = true)) (hB : mc_PB p (fun m => mc_st C mc_tt (i + 1) m = true))
    (h1 : mc_st C mc_tt (i + 1) M = true → post (nI w) (nI c, rk, fo, bw, bs, mc_f F, mc_f T, mc_f W, gr, wi, cy, cw, di, wa, dn, pi)) (h0 : mc_st C mc_tt (i + 1) M = false → J (nI (i + 1)) (mc_f F) (mc_f T) (mc_f W) gr wi cy cw di wa dn pi) : wX_level_87 post J (nI M) (nI i) (nI c) rk fo bw bs (mc_f F) (mc_f T) (mc_f W) gr wi cy cw di wa dn pi := by
  unfold wX_level_87
  have hr := mc_rd_0 (V := fun m => mc_st C mc_tt (i + 1) m = true) (mc_st_zero C mc_tt (i + 1)) (fun _ _ => mc_st_xor) hA hB hM
  have hlt := mc_rd_lt hA hM
  refine mc_reduce hpi (mc_PA_4 hA) hM ?_
  refine pk_eq (mc_rd p 12 M) 0 (fun h => And.intro (vp_in_nI hi (by decide)) ?_) (fun h => nm_r (nI_1 i) (h0 (mc_nt (fun z => h (hr.mpr z)))))
  rw [nI_clamp (by omega), hw]
  exact h1 (hr.mp h)
theorem mc_l46 (hG : mc_G c F T W) {post : Int32 → SX → Prop} {C : Nat → Nat} {M r : Nat} (hM : mc_cl F T c M) (hX : mc_XF c F T W C r) (hcy : mc_A r cy C) (hcw : mc_A r cw (fun k => mc_wt W c (C k)))
    (hp : ∀ pi i, i < r → mc_st C mc_tt (i + 1) M = true → mc_st C mc_tt i M = false → post (nI (mc_wt W c (C i))) (nI c, rk, nI r, bw, bs, mc_f F, mc_f T, mc_f W, gr, wi, cy, cw, di, wa, dn, pi)) :
    ∀ m i n pi p, i + m = r → m < n → mc_A 12 pi p → mc_PA p (fun m => mc_st C mc_tt i m = true) → mc_PB p (fun m => mc_st C mc_tt i m = true) → mc_st C mc_tt i M = false →
    wX_level_46 post (nI M) (nI c) rk (nI r) bw bs n (nI i) (mc_f F) (mc_f T) (mc_f W) gr wi cy cw di wa dn pi := by
  have hr := hX.1
  have hM4 := mc_cl_lt hG hM
  intro m
  induction m with
  | zero =>
    intro i n pi p hi hn hpi hA hB hI
    have e1 : i = r := by omega
    subst e1
    rw [hX.2.2.2.2 M hM i (Nat.le_refl i) (fun k h1 h2 => absurd h2 (Nat.not_lt.mpr h1))] at hI
    cases hI
  | succ m ih =>
    intro i n pi p him hn hpi hA hB hI
    obtain ⟨n, rfl⟩ := mc_pre n _ hn
    have hi : i < r := by omega
    have hC4 := mc_cl_lt hG (hX.2.1 i hi)
    have hV : ∀ m, mc_st C mc_tt (i + 1) m = true ↔ mc_st C mc_tt i m = true ∨ mc_st C mc_tt i (m ^^^ C i) = true := fun m => by
      rw [mc_st_t, Bool.or_eq_true]
    have z0 := mc_st_zero C mc_tt i
    have zx : ∀ a b, mc_st C mc_tt i a = true → mc_st C mc_tt i b = true → mc_st C mc_tt i (a ^^^ b) = true := fun _ _ => mc_st_xor
    have hlt := mc_rd_lt hA hC4
    refine pk_le r i (fun h => absurd h (by omega)) (fun _ => And.intro (vp_in_nI (by omega) (by decide)) ?_)
    rw [nI_clamp (by omega), hcy i hi]
    refine mc_reduce hpi (mc_PA_4 hA) hC4 ?_
    refine mc_highest hlt (fun h => ?_) (fun k hk hb hl => ?_)
    · obtain ⟨hA', hB'⟩ := mc_P_z (V' := fun m => mc_st C mc_tt (i + 1) m = true) z0 zx hA hB hV h
      refine br_t (by decide) (mc_l87 (w := mc_wt W c (C i)) hM4 (by omega) (hcw i hi) hpi hA' hB' (fun h1 => hp pi i hi h1 hI) (fun h1 => ih (i + 1) n pi p (by omega) (by omega) hpi hA' hB' h1))
    · obtain ⟨hA', hB'⟩ := mc_P_s (q := mc_up p k (mc_rd p 12 (C i))) (V' := fun m => mc_st C mc_tt (i + 1) m = true) z0 zx hA hB hV hC4 hk hb hl (fun j => rfl)
      refine br_f (nI_pos (by omega)) (And.intro (vp_in_nI hk (by decide)) (nm_r (e' := upd pi k (nI (mc_rd p 12 (C i)))) (by rw [nI_clamp (by omega)]) ?_))
      have hpi' := mc_A_up hpi k (mc_rd p 12 (C i)) rfl
      exact mc_l87 (w := mc_wt W c (C i)) hM4 (by omega) (hcw i hi) hpi' hA' hB' (fun h1 => hp _ i hi h1 hI) (fun h1 => ih (i + 1) n _ _ (by omega) (by omega) hpi' hA' hB' h1)
theorem mc_l25 (hG : mc_G c F T W) {post : Int32 → SX → Prop} {C : Nat → Nat} {M r : Nat} (hM : mc_cl F T c M) (hM0 : M ≠ 0) (hX : mc_XF c F T W C r) (hcy : mc_A r cy C) (hcw : mc_A r cw (fun k => mc_wt W c (C k)))
    (hp : ∀ pi i, i < r → mc_st C mc_tt (i + 1) M = true → mc_st C mc_tt i M = false → post (nI (mc_wt W c (C i))) (nI c, rk, nI r, bw, bs, mc_f F, mc_f T, mc_f W, gr, wi, cy, cw, di, wa, dn, pi)) :
    ∀ m k n pi, k + m = 12 → m < n → mc_A k pi (fun _ => 0) → wX_level_25 post (nI M) (nI c) rk (nI r) bw bs n (nI k) (mc_f F) (mc_f T) (mc_f W) gr wi cy cw di wa dn pi := by
  intro m
  induction m with
  | zero =>
    intro k n pi hk hn hI
    obtain ⟨n, rfl⟩ := mc_pre n _ hn
    have e1 : k = 12 := by omega
    subst e1
    refine br_t (nI_le (a := 12) (b := 12) (Nat.le_refl _) (by decide)) ⟨r + 1, mc_l46 hG hM hX hcy hcw hp r 0 (r + 1) pi (fun _ => 0) (by omega) (by omega) hI (fun e _ z => absurd rfl z) (fun m _ hm _ => of_decide_eq_true hm) (decide_eq_false hM0)⟩
  | succ m ih =>
    intro k n pi hk hn hI
    obtain ⟨n, rfl⟩ := mc_pre n _ hn
    have ek : (nI k).toNatClampNeg = k := nI_clamp (by omega)
    exact pk_le 12 k (fun h => absurd h (by omega)) (fun _ => And.intro (vp_in_nI (by omega) (by decide)) (nm_e (nm_r (nI_1 k) (ih (k + 1) n _ (by omega) (by omega) (mc_A_ext hI ek rfl)))))
theorem mc_levelX (hG : mc_G c F T W) {post : Int32 → SX → Prop} {v : Int32} {pi : Nat → Int32} (h0 : (∀ M, M < 2 ^ 31 → v = nI M → ¬ mc_cl F T c M) → post (-5) (nI c, rk, fo, bw, bs, mc_f F, mc_f T, mc_f W, gr, wi, cy, cw, di, wa, dn, pi)) (hz : v = nI 0 → post 0 (nI c, rk, fo, bw, bs, mc_f F, mc_f T, mc_f W, gr, wi, cy, cw, di, wa, dn, pi))
    (hp : ∀ rk fo bw bs gr wi cy cw di wa dn pi M C r i, v = nI M → mc_cl F T c M → M ≠ 0 → mc_XF c F T W C r → i < r → mc_st C mc_tt (i + 1) M = true → mc_st C mc_tt i M = false → post (nI (mc_wt W c (C i))) (nI c, rk, fo, bw, bs, mc_f F, mc_f T, mc_f W, gr, wi, cy, cw, di, wa, dn, pi)) : wpX_level post (nI c, rk, fo, bw, bs, mc_f F, mc_f T, mc_f W, gr, wi, cy, cw, di, wa, dn, pi) v := by
  unfold wpX_level
  dsimp only
  refine mc_closedX hG ?_ ?_
  · intro M ev hM
    refine br_f (by decide) ?_
    subst ev
    have hM4 := mc_cl_lt hG hM
    refine pk_eq M 0 (fun h => hz (by rw [h])) (fun h => ?_)
    refine mc_solve hG (fun bw bs gr wi cy cw di wa dn C r hX hcy hcw => ?_)
    exact ⟨13, mc_l25 hG hM h hX hcy hcw (fun pi i hi => hp _ _ bw bs gr wi cy cw di wa dn pi M C r i rfl hM h hX hi) 12 0 13 pi (by omega) (by omega) (fun x hx => absurd hx (Nat.not_lt_zero x))⟩
  · intro h
    exact br_t rfl (h0 h)
end
end
section
/-! ===== both: edge, reweigh, dropLast ===== -/
theorem mc_f_up (F : Nat → Nat) (k v : Nat) : upd (mc_f F) k (nI v) = mc_f (mc_up F k v) := by
  funext j
  unfold upd mc_f mc_up
  by_cases h : j = k
  · rw [if_pos h, if_pos h]
  · rw [if_neg h, if_neg h]
def mc_gv (v1 v2 : Int32) : Prop := ∃ a b, a < 7 ∧ b < 7 ∧ a ≠ b ∧ v1 = nI a ∧ v2 = nI b
def mc_gw (v : Int32) : Prop := ∃ w, 1 ≤ w ∧ w ≤ 100 ∧ v = nI w
theorem mc_gw_f {v : Int32} (h : ¬ mc_gw v) : v < 1 ∨ ¬ v ≤ 100 := by
  by_cases h1 : v < 1
  · exact Or.inl h1
  · refine Or.inr (fun h2 => h ?_)
    have h0 : ¬ v < 0 := fun z => h1 (Int32.lt_trans z (by decide))
    obtain ⟨w, hw, rfl⟩ := nI_of h0
    refine ⟨w, ?_, (nI_leI hw (by decide : 100 < 2 ^ 31)).mp h2, rfl⟩
    have h3 : ¬ w < 1 := fun z => h1 ((nI_ltI hw (by decide : 1 < 2 ^ 31)).mpr z)
    omega
theorem mc_gw_b {A B : Prop} {v : Int32} (f : ∀ w, 1 ≤ w → w ≤ 100 → v = nI w → A) (g : ¬ mc_gw v → B) : (v < 1 → B) ∧ (¬ v < 1 → ((v ≤ 100 → A) ∧ (¬ v ≤ 100 → B))) := by
  by_cases h : mc_gw v
  · obtain ⟨w, h1, h2, rfl⟩ := h
    exact br_f (nI_nlt (a := w) (b := 1) h1 (by omega)) (br_t (nI_le (b := 100) h2 (by decide)) (f w h1 h2 rfl))
  · rcases mc_gw_f h with h1 | h1
    · exact br_t h1 (g h)
    · exact br_c (fun _ => g h) (fun _ => br_f h1 (g h))
theorem mc_bad {post : Int32 → Prop} {v : Int32} (h1 : (∀ a, a < 7 → v ≠ nI a) → post 1) (h0 : ∀ a, a < 7 → v = nI a → post 0) : wpX_badVertex post v := by
  rcases pk_ix v (n := 7) (by decide) with h | h | ⟨a, ha, rfl⟩
  · exact br_t h (h1 (fun a ha e => absurd h (by rw [e]; exact nI_pos (by omega))))
  · have h2 := h1 (fun a ha e => absurd h (by rw [e]; exact nI_ge ha (by decide)))
    exact br_c (fun _ => h2) (fun _ => br_f (Int32.not_lt.mpr h) h2)
  · exact br_f (nI_pos (by omega)) (br_t (nI_lt (b := 7) ha (by decide)) (h0 a ha rfl))
section
variable {c : Nat} {F T W : Nat → Nat} {su cl : Nat → Int32}
theorem mc_isV {post : Int32 → Prop} {v : Int32} (h1 : (∀ a, a < 7 → v ≠ nI a) → post 0) (h0 : ∀ a, a < 7 → v = nI a → post 1) : wpY_isVertex post (nI c, mc_f F, mc_f T, mc_f W, su, cl) v := by
  by_cases h : v < 0
  · exact br_t h (h1 (fun a ha e => absurd h (by rw [e]; exact nI_pos (by omega))))
  · obtain ⟨a, ha, rfl⟩ := nI_of h
    refine br_f h (pk_lt 6 a (fun h2 => h1 (fun b hb e => ?_)) (fun h2 => h0 a (by omega) rfl))
    have := (nI_eq ha (by omega)).mp e
    omega
theorem mc_edgeY {post : Int32 → SY → Prop} {v1 v2 v3 : Int32} (hc : c ≤ 12) (k1 : ¬ mc_gv v1 v2 → post (-1) (nI c, mc_f F, mc_f T, mc_f W, su, cl)) (k2 : mc_gv v1 v2 → ¬ mc_gw v3 → post (-2) (nI c, mc_f F, mc_f T, mc_f W, su, cl)) (k3 : mc_gv v1 v2 → mc_gw v3 → c = 12 → post (-3) (nI c, mc_f F, mc_f T, mc_f W, su, cl))
    (k4 : ∀ a b w, a < 7 → b < 7 → a ≠ b → 1 ≤ w → w ≤ 100 → c < 12 → v1 = nI a → v2 = nI b → v3 = nI w →
      wpY_refresh (fun u => match u with | (f, a1, a2, a3, a4, a5) => post (f - 1) (f, a1, a2, a3, a4, a5)) (nI (c + 1), mc_f (mc_up F c a), mc_f (mc_up T c b), mc_f (mc_up W c w), su, cl)) : wpY_edge post (nI c, mc_f F, mc_f T, mc_f W, su, cl) v1 v2 v3 := by
  have ec : (nI c).toNatClampNeg = c := nI_clamp (by omega)
  unfold wpY_edge
  dsimp only
  refine mc_isV ?_ ?_
  · intro h
    exact br_t rfl (k1 (fun ⟨a, b, ha, hb, hne, e1, e2⟩ => h a ha e1))
  intro a ha e1
  refine br_f (by decide) ?_
  refine mc_isV ?_ ?_
  · intro h
    exact br_t rfl (k1 (fun ⟨a, b, ha, hb, hne, e1, e2⟩ => h b hb e2))
  intro b hb e2
  refine br_f (by decide) ?_
  subst e1 e2
  refine pk_eq a b (fun h => k1 (fun ⟨a', b', ha', hb', hne, e1, e2⟩ => ?_)) (fun hne => ?_)
  · have h1 := (nI_eq (by omega) (by omega)).mp e1
    have h2 := (nI_eq (by omega) (by omega)).mp e2
    omega
  · have hv : mc_gv (nI a) (nI b) := ⟨a, b, ha, hb, hne, rfl, rfl⟩
    refine mc_gw_b (fun w w1 w2 ew => ?_) (fun h => k2 hv h)
    subst ew
    refine pk_eq c 12 (fun h => k3 hv ⟨w, w1, w2, rfl⟩ h) (fun h => ?_)
    have vc : vp_in (nI c) 12 := vp_in_nI (by omega) (by decide)
    rw [ec]
    exact And.intro vc (nm_r (mc_f_up F c a) (And.intro vc (nm_r (mc_f_up T c b) (And.intro vc (nm_r (mc_f_up W c w) (nm_r (nI_1 c) (k4 a b w ha hb hne w1 w2 (by omega) rfl rfl rfl)))))))
end
section
variable {c : Nat} {F T W : Nat → Nat} {rk fo bw bs : Int32} {gr wi cy cw di wa dn pi : Nat → Int32}
theorem mc_edgeX {post : Int32 → SX → Prop} {v1 v2 v3 : Int32} (hc : c ≤ 12) (k1 : ¬ mc_gv v1 v2 → post (-1) (nI c, rk, fo, bw, bs, mc_f F, mc_f T, mc_f W, gr, wi, cy, cw, di, wa, dn, pi)) (k2 : mc_gv v1 v2 → ¬ mc_gw v3 → post (-2) (nI c, rk, fo, bw, bs, mc_f F, mc_f T, mc_f W, gr, wi, cy, cw, di, wa, dn, pi)) (k3 : mc_gv v1 v2 → mc_gw v3 → c = 12 → post (-3) (nI c, rk, fo, bw, bs, mc_f F, mc_f T, mc_f W, gr, wi, cy, cw, di, wa, dn, pi))
    (k4 : ∀ a b w, a < 7 → b < 7 → a ≠ b → 1 ≤ w → w ≤ 100 → c < 12 → v1 = nI a → v2 = nI b → v3 = nI w →
      post (nI c) (nI (c + 1), rk, fo, bw, bs, mc_f (mc_up F c a), mc_f (mc_up T c b), mc_f (mc_up W c w), gr, wi, cy, cw, di, wa, dn, pi)) : wpX_edge post (nI c, rk, fo, bw, bs, mc_f F, mc_f T, mc_f W, gr, wi, cy, cw, di, wa, dn, pi) v1 v2 v3 := by
  have ec : (nI c).toNatClampNeg = c := nI_clamp (by omega)
  unfold wpX_edge
  dsimp only
  refine mc_bad ?_ ?_
  · intro h
    exact br_f (by decide) (k1 (fun ⟨a, b, ha, hb, hne, e1, e2⟩ => h a ha e1))
  intro a ha e1
  refine br_t rfl ?_
  refine mc_bad ?_ ?_
  · intro h
    exact br_f (by decide) (k1 (fun ⟨a, b, ha, hb, hne, e1, e2⟩ => h b hb e2))
  intro b hb e2
  refine br_t rfl ?_
  subst e1 e2
  refine pk_eq a b (fun h => k1 (fun ⟨a', b', ha', hb', hne, e1, e2⟩ => ?_)) (fun hne => ?_)
  · have h1 := (nI_eq (by omega) (by omega)).mp e1
    have h2 := (nI_eq (by omega) (by omega)).mp e2
    omega
  · have hv : mc_gv (nI a) (nI b) := ⟨a, b, ha, hb, hne, rfl, rfl⟩
    refine mc_gw_b (fun w w1 w2 ew => ?_) (fun h => k2 hv h)
    subst ew
    refine pk_lt c 12 (fun h => ?_) (fun h => k3 hv ⟨w, w1, w2, rfl⟩ (by omega))
    have vc : vp_in (nI c) 12 := vp_in_nI (by omega) (by decide)
    rw [ec]
    exact And.intro vc (nm_r (mc_f_up F c a) (And.intro vc (nm_r (mc_f_up T c b) (And.intro vc (nm_r (mc_f_up W c w) (nm_r (nI_1 c) (k4 a b w ha hb hne w1 w2 (by omega) rfl rfl rfl)))))))
theorem mc_reweighX {post : Int32 → SX → Prop} {v1 v2 : Int32} (hc : c ≤ 12) (k1 : (v1 < 0 ∨ nI c ≤ v1) → post (-4) (nI c, rk, fo, bw, bs, mc_f F, mc_f T, mc_f W, gr, wi, cy, cw, di, wa, dn, pi)) (k2 : ∀ e, e < c → v1 = nI e → ¬ mc_gw v2 → post (-2) (nI c, rk, fo, bw, bs, mc_f F, mc_f T, mc_f W, gr, wi, cy, cw, di, wa, dn, pi))
    (k3 : ∀ e w, e < c → v1 = nI e → 1 ≤ w → w ≤ 100 → v2 = nI w → post (nI (W e)) (nI c, rk, fo, bw, bs, mc_f F, mc_f T, mc_f (mc_up W e w), gr, wi, cy, cw, di, wa, dn, pi)) : wpX_reweigh post (nI c, rk, fo, bw, bs, mc_f F, mc_f T, mc_f W, gr, wi, cy, cw, di, wa, dn, pi) v1 v2 := by
  unfold wpX_reweigh
  dsimp only
  refine mc_noEdge hc ?_ ?_
  · intro h
    exact br_f (by decide) (k1 h)
  intro e he ev
  refine br_t rfl ?_
  subst ev
  refine mc_gw_b (fun w w1 w2 ew => ?_) (fun h => k2 e he rfl h)
  subst ew
  have ve : vp_in (nI e) 12 := vp_in_nI (by omega) (by decide)
  rw [nI_clamp (by omega : e < 2 ^ 31)]
  exact And.intro ve (nm_e (And.intro ve (nm_r (mc_f_up W e w) (k3 e w he rfl w1 w2 rfl))))
theorem mc_dropX {post : Int32 → SX → Prop} (hc : c ≤ 12) (k1 : c = 0 → post (-4) (nI c, rk, fo, bw, bs, mc_f F, mc_f T, mc_f W, gr, wi, cy, cw, di, wa, dn, pi)) (k2 : ∀ d, c = d + 1 → post (nI d) (nI d, rk, fo, bw, bs, mc_f F, mc_f T, mc_f W, gr, wi, cy, cw, di, wa, dn, pi)) : wpX_dropLast post (nI c, rk, fo, bw, bs, mc_f F, mc_f T, mc_f W, gr, wi, cy, cw, di, wa, dn, pi) := by
  refine pk_eq c 0 (fun h => k1 h) (fun h => ?_)
  obtain ⟨d, rfl⟩ : ∃ d, c = d + 1 := ⟨c - 1, by omega⟩
  exact nm_r (nI_pred d) (k2 d rfl)
end
section
variable {c : Nat} {F T W : Nat → Nat} {su cl : Nat → Int32}
theorem mc_reweighY {post : Int32 → SY → Prop} {v1 v2 : Int32} (hc : c ≤ 12) (k1 : (v1 < 0 ∨ nI c ≤ v1) → post (-4) (nI c, mc_f F, mc_f T, mc_f W, su, cl)) (k2 : ∀ e, e < c → v1 = nI e → ¬ mc_gw v2 → post (-2) (nI c, mc_f F, mc_f T, mc_f W, su, cl))
    (k3 : ∀ e w, e < c → v1 = nI e → 1 ≤ w → w ≤ 100 → v2 = nI w → wpY_refresh (fun u => match u with | (f, a1, a2, a3, a4, a5) => post (nI (W e)) (f, a1, a2, a3, a4, a5)) (nI c, mc_f F, mc_f T, mc_f (mc_up W e w), su, cl)) : wpY_reweigh post (nI c, mc_f F, mc_f T, mc_f W, su, cl) v1 v2 := by
  unfold wpY_reweigh
  dsimp only
  refine mc_isEdge hc ?_ ?_
  · intro h
    exact br_t rfl (k1 h)
  intro e he ev
  refine br_f (by decide) ?_
  subst ev
  refine mc_gw_b (fun w w1 w2 ew => ?_) (fun h => k2 e he rfl h)
  subst ew
  have ve : vp_in (nI e) 12 := vp_in_nI (by omega) (by decide)
  rw [nI_clamp (by omega : e < 2 ^ 31)]
  exact And.intro ve (nm_r (e' := nI (W e)) rfl (And.intro ve (nm_r (mc_f_up W e w) (k3 e w he rfl w1 w2 rfl))))
theorem mc_dropY {post : Int32 → SY → Prop} (hc : c ≤ 12) (k1 : c = 0 → post (-4) (nI c, mc_f F, mc_f T, mc_f W, su, cl)) (k2 : ∀ d, c = d + 1 → wpY_refresh (fun u => match u with | (f, a1, a2, a3, a4, a5) => post f (f, a1, a2, a3, a4, a5)) (nI d, mc_f F, mc_f T, mc_f W, su, cl)) : wpY_dropLast post (nI c, mc_f F, mc_f T, mc_f W, su, cl) := by
  refine pk_eq c 0 (fun h => k1 h) (fun h => ?_)
  obtain ⟨d, rfl⟩ : ∃ d, c = d + 1 := ⟨c - 1, by omega⟩
  exact nm_r (nI_pred d) (k2 d rfl)
end
end
section
/-! ===== what is owed ===== -/
/-- one graph on both sides; the reference's weights of closed sets are right; all else is anything -/
def i_Rel (k : Nat) (u : SX) (v : SY) : Prop := match u, v with
  | (co, _, _, _, _, fr, to, we, _, _, _, _, _, _, _, _), (co', us, vs, we', _, cl) =>
    ∃ c F T W, mc_G c F T W ∧ mc_CW c F T W cl ∧ co = nI c ∧ fr = mc_f F ∧ to = mc_f T ∧ we = mc_f W ∧ co' = nI c ∧ us = mc_f F ∧ vs = mc_f T ∧ we' = mc_f W
theorem mc_el {k : Nat} {P : SX → SY → Prop} (h : ∀ c F T W rk fo bw bs gr wi cy cw di wa dn pi su cl, mc_G c F T W → mc_CW c F T W cl → P (nI c, rk, fo, bw, bs, mc_f F, mc_f T, mc_f W, gr, wi, cy, cw, di, wa, dn, pi) (nI c, mc_f F, mc_f T, mc_f W, su, cl)) {u : SX} {v : SY} (I : i_Rel k u v) : P u v := by
  obtain ⟨co, rk, fo, bw, bs, fr, to, we, gr, wi, cy, cw, di, wa, dn, pi⟩ := u
  obtain ⟨co', us, vs, we', su, cl⟩ := v
  obtain ⟨c, F, T, W, hG, hcl, e1, e2, e3, e4, e5, e6, e7, e8⟩ := I
  subst e1 e2 e3 e4 e5 e6 e7 e8
  exact h c F T W rk fo bw bs gr wi cy cw di wa dn pi su cl hG hcl
section
variable {c k : Nat} {F T W : Nat → Nat} {rk fo bw bs : Int32} {gr wi cy cw di wa dn pi su cl : Nat → Int32}
theorem mc_in (hG : mc_G c F T W) (hcl : mc_CW c F T W cl) : i_Rel k (nI c, rk, fo, bw, bs, mc_f F, mc_f T, mc_f W, gr, wi, cy, cw, di, wa, dn, pi) (nI c, mc_f F, mc_f T, mc_f W, su, cl) := ⟨c, F, T, W, hG, hcl, rfl, rfl, rfl, rfl, rfl, rfl, rfl, rfl⟩
end
theorem i_up {k : Nat} {u : SX} {v : SY} (h : i_Rel k u v) : i_Rel (k + 4) u v := h
theorem mc_G_0 : mc_G 0 (fun _ => 0) (fun _ => 0) (fun _ => 0) :=
  ⟨Nat.zero_le _, fun _ => ⟨(by decide : 0 < 7), (by decide : 0 < 7), (by decide : 0 ≤ 100)⟩, fun e he => absurd he (Nat.not_lt_zero e)⟩
theorem i_vc0 : wpX_init (fun u => wpY_init (fun v => i_Rel 0 u v)) := by
  unfold wpX_init wpY_init
  exact mc_refresh mc_G_0 (fun cl hcl => mc_in (rk := 0) (fo := 0) (bw := 0) (bs := 0) mc_G_0 hcl)
theorem mc_G_add {c a b w : Nat} {F T W : Nat → Nat} (hG : mc_G c F T W) (ha : a < 7) (hb : b < 7) (hne : a ≠ b) (w1 : 1 ≤ w) (w2 : w ≤ 100) (hc : c < 12) : mc_G (c + 1) (mc_up F c a) (mc_up T c b) (mc_up W c w) := by
  refine ⟨hc, fun e => ?_, fun e he => ?_⟩
  · by_cases h : e = c
    · rw [h, mc_up_at, mc_up_at, mc_up_at]; exact ⟨ha, hb, w2⟩
    · rw [mc_up_ne F h, mc_up_ne T h, mc_up_ne W h]; exact hG.2.1 e
  · by_cases h : e = c
    · rw [h, mc_up_at, mc_up_at, mc_up_at]; exact ⟨hne, w1⟩
    · rw [mc_up_ne F h, mc_up_ne T h, mc_up_ne W h]; exact hG.2.2 e (by omega)
theorem mc_G_rew {c i w : Nat} {F T W : Nat → Nat} (hG : mc_G c F T W) (w1 : 1 ≤ w) (w2 : w ≤ 100) : mc_G c F T (mc_up W i w) := by
  refine ⟨hG.1, fun e => ?_, fun e he => ?_⟩
  · by_cases h : e = i
    · rw [h, mc_up_at]; exact ⟨(hG.2.1 i).1, (hG.2.1 i).2.1, w2⟩
    · rw [mc_up_ne W h]; exact hG.2.1 e
  · by_cases h : e = i
    · rw [h] at he ⊢; rw [mc_up_at]; exact ⟨(hG.2.2 i he).1, w1⟩
    · rw [mc_up_ne W h]; exact hG.2.2 e he
theorem mc_G_drop {d : Nat} {F T W : Nat → Nat} (hG : mc_G (d + 1) F T W) : mc_G d F T W :=
  ⟨by have := hG.1; omega, hG.2.1, fun e he => hG.2.2 e (by omega)⟩
theorem i_vc_edge {k : Nat} {u : SX} {v : SY} (I : i_Rel k u v) (hk : k + 4 ≤ 2048) (v1 : Int32) (v2 : Int32) (v3 : Int32) : wpX_edge (fun r u' => wpY_edge (fun r' v' => r' = r ∧ i_Rel (k + 4) u' v') v v1 v2 v3) u v1 v2 v3 := by
  refine mc_el (P := fun u v => wpX_edge (fun r u' => wpY_edge (fun r' v' => r' = r ∧ i_Rel (k + 4) u' v') v v1 v2 v3) u v1 v2 v3) ?_ I
  intro c F T W rk fo bw bs gr wi cy cw di wa dn pi su cl hG hcl
  have hc := hG.1
  refine mc_edgeX hc (fun h => ?_) (fun h h2 => ?_) (fun h h2 h3 => ?_) (fun a b w ha hb hne w1 w2 hc' e1 e2 e3 => ?_)
  · exact mc_edgeY hc (fun _ => ⟨rfl, mc_in hG hcl⟩) (fun z => absurd z h) (fun z => absurd z h) (fun a b w ha hb hne w1 w2 hc' e1 e2 e3 => absurd ⟨a, b, ha, hb, hne, e1, e2⟩ h)
  · exact mc_edgeY hc (fun z => absurd h z) (fun _ _ => ⟨rfl, mc_in hG hcl⟩) (fun _ z => absurd z h2) (fun a b w ha hb hne w1 w2 hc' e1 e2 e3 => absurd ⟨w, w1, w2, e3⟩ h2)
  · exact mc_edgeY hc (fun z => absurd h z) (fun _ z => absurd h2 z) (fun _ _ _ => ⟨rfl, mc_in hG hcl⟩) (fun a b w ha hb hne w1 w2 hc' e1 e2 e3 => absurd h3 (by omega))
  · refine mc_edgeY hc (fun z => absurd ⟨a, b, ha, hb, hne, e1, e2⟩ z) (fun _ z => absurd ⟨w, w1, w2, e3⟩ z) (fun _ _ z => absurd z (by omega)) (fun a' b' w' ha' hb' hne' w1' w2' hc'' e1' e2' e3' => ?_)
    have q1 : a' = a := (nI_eq (by omega) (by omega)).mp (e1'.symm.trans e1)
    have q2 : b' = b := (nI_eq (by omega) (by omega)).mp (e2'.symm.trans e2)
    have q3 : w' = w := (nI_eq (by omega) (by omega)).mp (e3'.symm.trans e3)
    subst q1 q2 q3
    have hG' := mc_G_add hG ha hb hne w1 w2 hc'
    exact mc_refresh hG' (fun cl hcl' => ⟨nI_pred c, mc_in hG' hcl'⟩)
theorem i_vc_reweigh {k : Nat} {u : SX} {v : SY} (I : i_Rel k u v) (hk : k + 4 ≤ 2048) (v1 : Int32) (v2 : Int32) : wpX_reweigh (fun r u' => wpY_reweigh (fun r' v' => r' = r ∧ i_Rel (k + 4) u' v') v v1 v2) u v1 v2 := by
  refine mc_el (P := fun u v => wpX_reweigh (fun r u' => wpY_reweigh (fun r' v' => r' = r ∧ i_Rel (k + 4) u' v') v v1 v2) u v1 v2) ?_ I
  intro c F T W rk fo bw bs gr wi cy cw di wa dn pi su cl hG hcl
  have hc := hG.1
  have out : ∀ e, e < c → v1 = nI e → ¬ (v1 < 0 ∨ nI c ≤ v1) := fun e he ev z => by
    rw [ev] at z
    rcases z with z | z
    · exact nI_pos (by omega) z
    · exact nI_ge he (by omega) z
  refine mc_reweighX hc (fun h => ?_) (fun e he ev h2 => ?_) (fun e w he ev w1 w2 ew => ?_)
  · exact mc_reweighY hc (fun _ => ⟨rfl, mc_in hG hcl⟩) (fun e he ev => absurd h (out e he ev)) (fun e w he ev => absurd h (out e he ev))
  · exact mc_reweighY hc (fun z => absurd z (out e he ev)) (fun _ _ _ _ => ⟨rfl, mc_in hG hcl⟩) (fun e w he ev w1 w2 ew => absurd ⟨w, w1, w2, ew⟩ h2)
  · refine mc_reweighY hc (fun z => absurd z (out e he ev)) (fun _ _ _ z => absurd ⟨w, w1, w2, ew⟩ z) (fun e' w' he' ev' w1' w2' ew' => ?_)
    have q1 : e' = e := (nI_eq (by omega) (by omega)).mp (ev'.symm.trans ev)
    have q2 : w' = w := (nI_eq (by omega) (by omega)).mp (ew'.symm.trans ew)
    subst q1 q2
    have hG' := mc_G_rew (i := e') hG w1 w2
    exact mc_refresh hG' (fun cl hcl' => ⟨rfl, mc_in hG' hcl'⟩)
theorem i_vc_dropLast {k : Nat} {u : SX} {v : SY} (I : i_Rel k u v) (hk : k + 4 ≤ 2048) : wpX_dropLast (fun r u' => wpY_dropLast (fun r' v' => r' = r ∧ i_Rel (k + 4) u' v') v) u := by
  refine mc_el (P := fun u v => wpX_dropLast (fun r u' => wpY_dropLast (fun r' v' => r' = r ∧ i_Rel (k + 4) u' v') v) u) ?_ I
  intro c F T W rk fo bw bs gr wi cy cw di wa dn pi su cl hG hcl
  have hc := hG.1
  refine mc_dropX hc (fun h => ?_) (fun d hd => ?_)
  · exact mc_dropY hc (fun _ => ⟨rfl, mc_in hG hcl⟩) (fun d hd => absurd h (by omega))
  · refine mc_dropY hc (fun h => absurd h (by omega)) (fun d' hd' => ?_)
    have e : d' = d := by omega
    subst e
    subst hd
    have hG' := mc_G_drop hG
    exact mc_refresh hG' (fun cl hcl' => ⟨rfl, mc_in hG' hcl'⟩)
theorem i_vc_rank {k : Nat} {u : SX} {v : SY} (I : i_Rel k u v) (hk : k + 4 ≤ 2048) : wpX_rank (fun r u' => wpY_rank (fun r' => r' = r ∧ i_Rel (k + 4) u' v) v) u := by
  refine mc_el (P := fun u v => wpX_rank (fun r u' => wpY_rank (fun r' => r' = r ∧ i_Rel (k + 4) u' v) v) u) ?_ I
  intro c F T W rk fo bw bs gr wi cy cw di wa dn pi su cl hG hcl
  exact mc_rankX hG (fun rk gr wi r hr hcn => mc_rankY hG hcl hr hcn ⟨rfl, mc_in hG hcl⟩)
theorem i_vc_total {k : Nat} {u : SX} {v : SY} (I : i_Rel k u v) (hk : k + 4 ≤ 2048) : wpX_total (fun r u' => wpY_total (fun r' v' => r' = r ∧ i_Rel (k + 4) u' v') v) u := by
  refine mc_el (P := fun u v => wpX_total (fun r u' => wpY_total (fun r' v' => r' = r ∧ i_Rel (k + 4) u' v') v) u) ?_ I
  intro c F T W rk fo bw bs gr wi cy cw di wa dn pi su cl hG hcl
  refine mc_totalX hG (fun rk fo bw bs gr wi cy cw di wa dn C r hX => mc_totalY hG hcl (fun su G j hL hj => ⟨?_, mc_in hG hcl⟩))
  have hr := hX.1
  have e : r = j := by
    rcases hj with h | h
    · have h1 := (mc_P1 (k := 11) hG hX (fun i hi => hL i (by omega))).1
      omega
    · exact mc_P2 hG hX hL h
  subst e
  exact congrArg nI (mc_ns_congr (fun i hi => (mc_P1 (k := i) hG hX (fun j hj => hL j (by omega))).2))
theorem i_vc_part {k : Nat} {u : SX} {v : SY} (I : i_Rel k u v) (hk : k + 4 ≤ 2048) (v1 : Int32) : wpX_part (fun r u' => wpY_part (fun r' v' => r' = r ∧ i_Rel (k + 4) u' v') v v1) u v1 := by
  refine mc_el (P := fun u v => wpX_part (fun r u' => wpY_part (fun r' v' => r' = r ∧ i_Rel (k + 4) u' v') v v1) u v1) ?_ I
  intro c F T W rk fo bw bs gr wi cy cw di wa dn pi su cl hG hcl
  refine mc_partX hG (fun rk fo bw bs gr wi cy cw di wa dn C r i hX hi ev => ?_) (fun rk fo bw bs gr wi cy cw di wa dn C r hX hv => ?_)
  · have hr := hX.1
    refine mc_partY hG hcl (fun su G j hL hj ej => ⟨?_, mc_in hG hcl⟩) (fun su G j hL hj12 hj hne => ?_)
    · have q1 : j = i := (nI_eq (by omega) (by omega)).mp (ej.symm.trans ev)
      subst q1
      rw [(mc_P1 hG hX hL).2]
    · have e : r = j ∨ r ≤ j := by
        rcases hj with h | h
        · exact Or.inr (by omega)
        · exact Or.inl (mc_P2 hG hX hL h)
      exact absurd ev (hne i (by omega))
  · have hr := hX.1
    refine mc_partY hG hcl (fun su G j hL hj ej => ?_) (fun su G j hL hj12 hj hne => ⟨rfl, mc_in hG hcl⟩)
    have h1 := (mc_P1 hG hX hL).1
    rw [ej] at hv
    rcases hv with hv | hv
    · exact absurd hv (nI_pos (by omega))
    · exact absurd hv (nI_ge h1 (by omega))
theorem i_vc_through {k : Nat} {u : SX} {v : SY} (I : i_Rel k u v) (hk : k + 4 ≤ 2048) (v1 : Int32) : wpX_through (fun r u' => wpY_through (fun r' => r' = r ∧ i_Rel (k + 4) u' v) v v1) u v1 := by
  refine mc_el (P := fun u v => wpX_through (fun r u' => wpY_through (fun r' => r' = r ∧ i_Rel (k + 4) u' v) v v1) u v1) ?_ I
  intro c F T W rk fo bw bs gr wi cy cw di wa dn pi su cl hG hcl
  have hc := hG.1
  have out : ∀ e, e < c → v1 = nI e → ¬ (v1 < 0 ∨ nI c ≤ v1) := fun e he ev z => by
    rw [ev] at z
    rcases z with z | z
    · exact nI_pos (by omega) z
    · exact nI_ge he (by omega) z
  refine mc_throughX hG (fun h => ?_) (fun e r di wa dn he ev hr => ?_)
  · exact mc_throughY hG hcl (fun _ => ⟨rfl, mc_in hG hcl⟩) (fun e r he ev => absurd h (out e he ev))
  · refine mc_throughY hG hcl (fun z => absurd z (out e he ev)) (fun e' r' he' ev' hr' => ⟨?_, mc_in hG hcl⟩)
    have q1 : e' = e := (nI_eq (by omega) (by omega)).mp (ev'.symm.trans ev)
    subst q1
    exact mc_TH_u hr hr'
theorem i_vc_closed {k : Nat} {u : SX} {v : SY} (I : i_Rel k u v) (hk : k + 4 ≤ 2048) (v1 : Int32) : wpX_closed (fun r => wpY_closed (fun r' => r' = r ∧ i_Rel (k + 4) u v) v v1) u v1 := by
  refine mc_el (P := fun u v => wpX_closed (fun r => wpY_closed (fun r' => r' = r ∧ i_Rel (k + 4) u v) v v1) u v1) ?_ I
  intro c F T W rk fo bw bs gr wi cy cw di wa dn pi su cl hG hcl
  refine mc_closedX hG (fun M ev hM => ?_) (fun h => ?_)
  · exact mc_closedY hG hcl (fun _ _ _ => ⟨rfl, mc_in hG hcl⟩) (fun z => absurd hM (z M (by have := mc_cl_lt hG hM; omega) ev))
  · exact mc_closedY hG hcl (fun M ev hM => absurd hM (h M (by have := mc_cl_lt hG hM; omega) ev)) (fun _ => ⟨rfl, mc_in hG hcl⟩)
theorem i_vc_level {k : Nat} {u : SX} {v : SY} (I : i_Rel k u v) (hk : k + 4 ≤ 2048) (v1 : Int32) : wpX_level (fun r u' => wpY_level (fun r' v' => r' = r ∧ i_Rel (k + 4) u' v') v v1) u v1 := by
  refine mc_el (P := fun u v => wpX_level (fun r u' => wpY_level (fun r' v' => r' = r ∧ i_Rel (k + 4) u' v') v v1) u v1) ?_ I
  intro c F T W rk fo bw bs gr wi cy cw di wa dn pi su cl hG hcl
  refine mc_levelX hG (fun h => ?_) (fun ev => ?_) (fun rk fo bw bs gr wi cy cw di wa dn pi M C r i ev hM hM0 hX hi c1 c2 => ?_)
  · exact mc_levelY hG hcl (fun _ => ⟨rfl, mc_in hG hcl⟩) (fun su M G j ev hM => absurd hM (h M (by have := mc_cl_lt hG hM; omega) ev))
  · refine mc_levelY hG hcl (fun z => absurd (mc_cl_zero F T c) (z 0 (by decide) ev)) (fun su M G j ev' hM hL g1 g2 => ⟨?_, mc_in hG hcl⟩)
    have hM4 := mc_cl_lt hG hM
    have q1 : M = 0 := (nI_eq (by omega) (by omega)).mp (ev'.symm.trans ev)
    subst q1
    by_cases e : j = 0
    · rw [if_pos e]; rfl
    · have := g2 0 (by omega)
      cases this
  · have hM4 := mc_cl_lt hG hM
    refine mc_levelY hG hcl (fun z => absurd hM (z M (by omega) ev)) (fun su M' G j ev' hM' hL g1 g2 => ⟨?_, mc_in hG hcl⟩)
    have hM4' := mc_cl_lt hG hM'
    have q1 : M' = M := (nI_eq (by omega) (by omega)).mp (ev'.symm.trans ev)
    subst q1
    by_cases e : j = 0
    · rw [e] at g1
      exact absurd (of_decide_eq_true g1) hM0
    · obtain ⟨j, rfl⟩ := mc_pre j 0 (by omega)
      rw [if_neg e, Nat.add_sub_cancel, mc_P3 hX (fun i hi => hL i (by omega)) hi c1 c2 g1 (g2 j (by omega))]
theorem i_vc_bridges {k : Nat} {u : SX} {v : SY} (I : i_Rel k u v) (hk : k + 4 ≤ 2048) : wpX_bridges (fun r u' => wpY_bridges (fun r' => r' = r ∧ i_Rel (k + 4) u' v) v) u := by
  refine mc_el (P := fun u v => wpX_bridges (fun r u' => wpY_bridges (fun r' => r' = r ∧ i_Rel (k + 4) u' v) v) u) ?_ I
  intro c F T W rk fo bw bs gr wi cy cw di wa dn pi su cl hG hcl
  exact mc_bridgesX hG (fun di wa dn => mc_bridgesY hG hcl ⟨rfl, mc_in hG hcl⟩)
end
