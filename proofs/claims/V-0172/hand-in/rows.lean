section
theorem pk_us {f : Nat → Int32} {k : Nat} {x : Int32} : upd f k x k = x := if_pos rfl
theorem pk_un {f : Nat → Int32} {k j : Nat} {x : Int32} (h : j ≠ k) : upd f k x j = f j := if_neg h
theorem pk_uLs {f : Nat → Int64} {k : Nat} {x : Int64} : vp_updL f k x k = x := if_pos rfl
theorem pk_uLn {f : Nat → Int64} {k j : Nat} {x : Int64} (h : j ≠ k) : vp_updL f k x j = f j := if_neg h
theorem pk_sub {a b : Nat} (h : b ≤ a) : nI a - nI b = nI (a - b) := by
  obtain ⟨c, rfl⟩ : ∃ c, a = c + b := ⟨a - b, by omega⟩
  rw [← nI_add, Int32.add_sub_cancel, Nat.add_sub_cancel]
theorem pk_m1 (n : Nat) : nI (n + 1) + (-1) = nI n := by
  rw [← nI_1, Int32.add_assoc, show (1 : Int32) + (-1) = 0 from rfl, Int32.add_zero]
theorem pk_mul (a b : Nat) : nI a * nI b = nI (a * b) := (Int32.ofNat_mul a b).symm
theorem pk_div {a d : Nat} (ha : a < 2 ^ 31) (h0 : 0 < d) (hd : d < 2 ^ 31) : nI a / nI d = nI (a / d) := by
  apply Int32.toInt_inj.mp
  rw [lg_idiv_nonneg (by rw [nI_toInt ha]; omega) (by rw [nI_toInt hd]; omega), nI_toInt ha, nI_toInt hd, nI_toInt (Nat.lt_of_le_of_lt (Nat.div_le_self a d) ha)]
  first | rfl | exact (Int.natCast_ediv _ _).symm
theorem pk_rem {a d : Nat} (ha : a < 2 ^ 31) (h0 : 0 < d) (hd : d < 2 ^ 31) : nI a - nI a / nI d * nI d = nI (a % d) := by
  rw [pk_div ha h0 hd, pk_mul, pk_sub (Nat.div_mul_le_self a d)]
  exact congrArg nI (by have := Nat.div_add_mod' a d; omega)
theorem pk_sub_toInt {a b : Nat} (ha : a < 2 ^ 30) (hb : b < 2 ^ 30) : (nI a - nI b).toInt = (a : Int) - b := by
  rw [Int32.toInt_sub, nI_toInt (by omega), nI_toInt (by omega)]
  exact Int.bmod_eq_of_le (by omega) (by omega)
theorem pk_sneg {a b : Nat} (hb : b < 2 ^ 30) (h : a < b) : nI a - nI b < 0 := by
  rw [Int32.lt_iff_toInt_lt, pk_sub_toInt (by omega) hb, show (0 : Int32).toInt = 0 from by decide]
  omega
theorem pk_ix (x : Int32) {n : Nat} (hn : n < 2 ^ 31) : x < 0 ∨ nI n ≤ x ∨ ∃ j : Nat, j < n ∧ x = nI j := by
  by_cases h : x < 0
  · exact Or.inl h
  · obtain ⟨j, hj, rfl⟩ := nI_of h
    by_cases h2 : j < n
    · exact Or.inr (Or.inr ⟨j, h2, rfl⟩)
    · exact Or.inr (Or.inl (nI_le (by omega) hj))
theorem pk_le {x y : Int32} {A B : Prop} (a b : Nat) (f : a ≤ b → A) (g : b < a → B) (hx : x = nI a := by rfl) (hy : y = nI b := by rfl) (ha : a < 2 ^ 31 := by omega) (hb : b < 2 ^ 31 := by omega) : (x ≤ y → A) ∧ (¬ x ≤ y → B) := by
  subst hx hy
  rw [nI_leI ha hb]
  exact ⟨f, fun z => g (by omega)⟩
theorem pk_lt {x y : Int32} {A B : Prop} (a b : Nat) (f : a < b → A) (g : b ≤ a → B) (hx : x = nI a := by rfl) (hy : y = nI b := by rfl) (ha : a < 2 ^ 31 := by omega) (hb : b < 2 ^ 31 := by omega) : (x < y → A) ∧ (¬ x < y → B) := by
  subst hx hy
  rw [nI_ltI ha hb]
  exact ⟨f, fun z => g (by omega)⟩
theorem pk_eq {x y : Int32} {A B : Prop} (a b : Nat) (f : a = b → A) (g : a ≠ b → B) (hx : x = nI a := by rfl) (hy : y = nI b := by rfl) (ha : a < 2 ^ 31 := by omega) (hb : b < 2 ^ 31 := by omega) : (x = y → A) ∧ (¬ x = y → B) := by
  subst hx hy
  rw [nI_eq ha hb]
  exact ⟨f, g⟩
theorem pk_in {x : Int32} (n N : Nat) (h : n < N) (hx : x = nI n := by rfl) (hN : N < 2 ^ 31 := by omega) : vp_in x N := by
  subst hx
  exact vp_in_nI h hN
theorem pk_cl {x : Int32} (n : Nat) (hx : x = nI n := by rfl) (h : n < 2 ^ 31 := by omega) : x.toNatClampNeg = n := by
  subst hx
  exact nI_clamp h
theorem pk_tn {n : Nat} (h : n < 2 ^ 32) : (nI n).toBitVec.toNat = n := Nat.mod_eq_of_lt h
theorem pk_and (x : Int32) {m : Int32} (k : Nat) (hm : m.toBitVec.toNat = 2 ^ k - 1) : x &&& m = nI (x.toBitVec.toNat % 2 ^ k) := by
  apply Int32.toBitVec_inj.mp
  apply BitVec.eq_of_toNat_eq
  rw [Int32.toBitVec_and, BitVec.toNat_and, hm, Nat.and_two_pow_sub_one_eq_mod]
  show _ = (BitVec.ofNat 32 _).toNat
  rw [BitVec.toNat_ofNat]
  exact (Nat.mod_eq_of_lt (Nat.lt_of_le_of_lt (Nat.mod_le _ _) x.toBitVec.isLt)).symm
theorem pk_andN {n : Nat} (h : n < 2 ^ 32) {m : Int32} (k : Nat) (hm : m.toBitVec.toNat = 2 ^ k - 1) : nI n &&& m = nI (n % 2 ^ k) := by
  rw [pk_and _ k hm, pk_tn h]
theorem pk_andE (x : Int32) {m : Int32} (k : Nat) (hm : m.toBitVec.toNat = 2 ^ k - 1) : ∃ j : Nat, j < 2 ^ k ∧ x &&& m = nI j := ⟨_, Nat.mod_lt _ (Nat.two_pow_pos k), pk_and x k hm⟩
theorem pk_andIn (x : Int32) {m : Int32} (k : Nat) (hm : m.toBitVec.toNat = 2 ^ k - 1) (hk : k ≤ 30) : vp_in (x &&& m) (2 ^ k) := by
  obtain ⟨j, hj, e⟩ := pk_andE x k hm
  rw [e]
  exact vp_in_nI hj (Nat.lt_of_le_of_lt (Nat.pow_le_pow_right (by decide) hk) (by decide))
theorem pk_shl (a s : Int32) (k : Nat) (hs : (s.toBitVec.smod 32).toNat = k) : (a <<< s).toBitVec.toNat = a.toBitVec.toNat * 2 ^ k % 2 ^ 32 := by
  show (a.toBitVec <<< (s.toBitVec.smod 32).toNat).toNat = _
  rw [hs, BitVec.toNat_shiftLeft, Nat.shiftLeft_eq]
theorem pk_shlN {n : Nat} (s : Int32) (k : Nat) (hs : (s.toBitVec.smod 32).toNat = k) (h : n * 2 ^ k < 2 ^ 32) : nI n <<< s = nI (n * 2 ^ k) := by
  apply Int32.toBitVec_inj.mp
  apply BitVec.eq_of_toNat_eq
  have hn : n < 2 ^ 32 := Nat.lt_of_le_of_lt (Nat.le_mul_of_pos_right n (Nat.two_pow_pos k)) h
  rw [pk_shl _ _ k hs, pk_tn hn, pk_tn h, Nat.mod_eq_of_lt h]
theorem pk_shr (a s : Int32) (k : Nat) (hs : (s.toBitVec.smod 32).toNat = k) : (a >>> s).toInt = a.toInt >>> k := by
  show (a.toBitVec.sshiftRight (s.toBitVec.smod 32).toNat).toInt = _
  rw [hs, BitVec.toInt_sshiftRight]
  rfl
theorem pk_shrN {n : Nat} (h : n < 2 ^ 31) (s : Int32) (k : Nat) (hs : (s.toBitVec.smod 32).toNat = k) : nI n >>> s = nI (n / 2 ^ k) := by
  apply Int32.toInt_inj.mp
  have h2 : n / 2 ^ k ≤ n := Nat.div_le_self _ _
  rw [pk_shr _ _ k hs, nI_toInt h, nI_toInt (by omega), Int.shiftRight_eq_div_pow]
  rfl
theorem pk_ushr (x s : Int32) (k : Nat) (hs : ((s.toUInt32 &&& Int32.toUInt32 31).toBitVec % 32).toNat = k) : (x.toUInt32 >>> (s.toUInt32 &&& Int32.toUInt32 31)).toInt32.toBitVec.toNat = x.toBitVec.toNat / 2 ^ k := by
  have e : (x.toUInt32 >>> (s.toUInt32 &&& Int32.toUInt32 31)).toInt32.toBitVec = x.toBitVec >>> k := by
    rw [← hs]
    exact UInt32.toBitVec_shiftRight _ _
  rw [e, BitVec.toNat_ushiftRight, Nat.shiftRight_eq_div_pow]
theorem pk_ushrN {n : Nat} (hn : n < 2 ^ 32) (s : Int32) (k : Nat) (hs : ((s.toUInt32 &&& Int32.toUInt32 31).toBitVec % 32).toNat = k) : ((nI n).toUInt32 >>> (s.toUInt32 &&& Int32.toUInt32 31)).toInt32 = nI (n / 2 ^ k) := by
  apply Int32.toBitVec_inj.mp
  apply BitVec.eq_of_toNat_eq
  rw [pk_ushr _ s k hs, pk_tn hn, pk_tn (Nat.lt_of_le_of_lt (Nat.div_le_self _ _) hn)]
theorem pk_nb (z : Int32) : narrow .byte (.int z.toInt8.toInt32) = .int z.toInt8.toInt32 := congrArg Value.int (by simp)
theorem pk_ns (z : Int32) : narrow .short (.int z.toInt16.toInt32) = .int z.toInt16.toInt32 := congrArg Value.int (by simp)
theorem pk_fb (r : Int32) : fits .byte (.int r.toInt8.toInt32) = true := by
  have ⟨a, b⟩ := lg_i2b_range r
  have h1 : (-128 : Int32).toInt = -128 := by decide
  have h2 : (127 : Int32).toInt = 127 := by decide
  simp only [fits, Bool.and_eq_true, decide_eq_true_eq, Int32.le_iff_toInt_le, h1, h2]
  omega
theorem pk_fs (r : Int32) : fits .short (.int r.toInt16.toInt32) = true := by
  have ⟨a, b⟩ := lg_i2s_range r
  have h1 : (-32768 : Int32).toInt = -32768 := by decide
  have h2 : (32767 : Int32).toInt = 32767 := by decide
  simp only [fits, Bool.and_eq_true, decide_eq_true_eq, Int32.le_iff_toInt_le, h1, h2]
  omega
theorem pk_charN {q : Nat} (hq : q < 65536) : narrow .char (.int (nI q)) = .int (nI q) ∧ fits .char (.int (nI q)) = true := by
  constructor
  · have e : (nI q).toUInt32.toUInt16.toUInt32.toInt32 = nI q := by
      apply Int32.toBitVec_inj.mp
      apply BitVec.eq_of_toNat_eq
      show (nI q).toUInt32.toUInt16.toUInt32.toNat = q % 2 ^ 32
      rw [UInt16.toNat_toUInt32, UInt32.toNat_toUInt16, show (nI q).toUInt32.toNat = q % 2 ^ 32 from rfl]
      omega
    exact congrArg Value.int e
  · have a : (0 : Int32) ≤ nI q := nI_pos' (by omega)
    have b : nI q ≤ 65535 := nI_le (b := 65535) (by omega) (by decide)
    show (decide ((0 : Int32) ≤ nI q) && decide (nI q ≤ 65535)) = true
    rw [decide_eq_true a, decide_eq_true b]
    rfl
theorem pk_char (x : Int32) : (x.toUInt32 % 65536).toInt32 = nI (x.toBitVec.toNat % 65536) := by
  apply Int32.toBitVec_inj.mp
  apply BitVec.eq_of_toNat_eq
  rw [pk_tn (by omega)]
  show (x.toUInt32 % 65536).toNat = _
  rw [UInt32.toNat_mod]
  rfl
theorem pk_nc (x : Int32) : narrow .char (.int (x.toUInt32 % 65536).toInt32) = .int (x.toUInt32 % 65536).toInt32 := by
  rw [pk_char]
  exact (pk_charN (Nat.mod_lt _ (by decide))).1
theorem pk_fc (x : Int32) : fits .char (.int (x.toUInt32 % 65536).toInt32) = true := by
  rw [pk_char]
  exact (pk_charN (Nat.mod_lt _ (by decide))).2
theorem pk_vb (z : Int32) : vp_nar .byte z.toInt8.toInt32 = z.toInt8.toInt32 := by rw [vp_nar_byte]; simp
theorem pk_vs (z : Int32) : vp_nar .short z.toInt16.toInt32 = z.toInt16.toInt32 := by rw [vp_nar_short]; simp
theorem pk_vc (z : Int32) : vp_nar .char (z.toUInt32 % 65536).toInt32 = (z.toUInt32 % 65536).toInt32 := Value.int.inj (pk_nc z)
/-! ===== Int32 by its bits: bt x i ===== -/
def bt (x : Int32) (i : Nat) : Bool := x.toBitVec.getLsbD i
theorem b_ext {x y : Int32} (h : ∀ i, i < 32 → bt x i = bt y i) : x = y := Int32.toBitVec_inj.mp (BitVec.eq_of_getLsbD_eq (fun i hi => h i hi))
theorem b_or (x y : Int32) (i : Nat) : bt (x ||| y) i = (bt x i || bt y i) := by unfold bt; rw [Int32.toBitVec_or, BitVec.getLsbD_or]
theorem b_and (x y : Int32) (i : Nat) : bt (x &&& y) i = (bt x i && bt y i) := by unfold bt; rw [Int32.toBitVec_and, BitVec.getLsbD_and]
theorem b_xor (x y : Int32) (i : Nat) : bt (x ^^^ y) i = (bt x i ^^ bt y i) := by unfold bt; rw [Int32.toBitVec_xor, BitVec.getLsbD_xor]
theorem b_big {x : Int32} {i : Nat} (h : 32 ≤ i) : bt x i = false := BitVec.getLsbD_of_ge _ _ h
theorem b_255 (i : Nat) : bt 255 i = decide (i < 8) := by
  rcases Nat.lt_or_ge i 32 with h | h
  · exact (by decide +kernel : ∀ i, i < 32 → bt 255 i = decide (i < 8)) i h
  · rw [b_big h, decide_eq_false (by omega)]
theorem b_65535 (i : Nat) : bt 65535 i = decide (i < 16) := by
  rcases Nat.lt_or_ge i 32 with h | h
  · exact (by decide +kernel : ∀ i, i < 32 → bt 65535 i = decide (i < 16)) i h
  · rw [b_big h, decide_eq_false (by omega)]
theorem b_m1 : ∀ i, i < 32 → bt (-1) i = true := by decide +kernel
theorem b_0 (i : Nat) : bt 0 i = false := BitVec.getLsbD_zero
theorem s_l : ∀ n, n < 32 → ((nI n &&& 31).toBitVec.smod 32).toNat = n := by decide +kernel
theorem s_u : ∀ n, n < 32 → (((nI n).toUInt32 &&& Int32.toUInt32 31).toBitVec % 32).toNat = n := by decide +kernel
theorem b_shl (n : Nat) (hn : n < 32) (x : Int32) {i : Nat} (hi : i < 32) : bt (x <<< (nI n &&& 31)) i = (decide (n ≤ i) && bt x (i - n)) := by
  unfold bt
  rw [Int32.toBitVec_shiftLeft]
  show (x.toBitVec <<< ((nI n &&& 31).toBitVec.smod 32).toNat).getLsbD i = _
  rw [s_l n hn, BitVec.getLsbD_shiftLeft]
  rcases Nat.lt_or_ge i n with h | h
  · simp [h, Nat.not_le.mpr h]
  · simp [hi, h, Nat.not_lt.mpr h]
theorem b_ushr (n : Nat) (hn : n < 32) (x : Int32) (i : Nat) : bt ((x.toUInt32 >>> ((nI n).toUInt32 &&& Int32.toUInt32 31)).toInt32) i = bt x (n + i) := by
  show (x.toUInt32 >>> ((nI n).toUInt32 &&& Int32.toUInt32 31)).toBitVec.getLsbD i = x.toUInt32.toBitVec.getLsbD (n + i)
  rw [UInt32.toBitVec_shiftRight]
  show (x.toUInt32.toBitVec >>> (((nI n).toUInt32 &&& Int32.toUInt32 31).toBitVec % 32).toNat).getLsbD i = _
  rw [s_u n hn, BitVec.getLsbD_ushiftRight]
theorem b_sshr (n : Nat) (hn : n < 32) (x : Int32) {i : Nat} (hi : i < 32) : bt (x >>> (nI n &&& 31)) i = if n + i < 32 then bt x (n + i) else bt x 31 := by
  unfold bt
  rw [Int32.toBitVec_shiftRight]
  show (x.toBitVec.sshiftRight ((nI n &&& 31).toBitVec.smod 32).toNat).getLsbD i = _
  rw [s_l n hn, BitVec.getLsbD_sshiftRight, BitVec.msb_eq_getLsbD_last]
  simp [hi]
theorem b_shl8 (x : Int32) {i : Nat} (hi : i < 32) : bt (x <<< ((8 : Int32) &&& 31)) i = (decide (8 ≤ i) && bt x (i - 8)) := b_shl 8 (by omega) x hi
theorem b_shl16 (x : Int32) {i : Nat} (hi : i < 32) : bt (x <<< ((16 : Int32) &&& 31)) i = (decide (16 ≤ i) && bt x (i - 16)) := b_shl 16 (by omega) x hi
theorem b_shl24 (x : Int32) {i : Nat} (hi : i < 32) : bt (x <<< ((24 : Int32) &&& 31)) i = (decide (24 ≤ i) && bt x (i - 24)) := b_shl 24 (by omega) x hi
theorem b_sshr8 (x : Int32) {i : Nat} (hi : i < 32) : bt (x >>> ((8 : Int32) &&& 31)) i = if 8 + i < 32 then bt x (8 + i) else bt x 31 := b_sshr 8 (by omega) x hi
/-! ===== the char cast and 65535 ===== -/
theorem em_w (v : Int32) : ∃ w : Nat, w < 65536 ∧ (v.toUInt32 % 65536).toInt32 = nI w ∧ v &&& 65535 = nI w := by
  have hr := lw_u16_r v
  have h0 : (0 : Int32).toInt = 0 := by decide
  obtain ⟨w, h1, h2⟩ := nI_of (x := lw_u16 v) (by rw [Int32.lt_iff_toInt_lt]; omega)
  have h3 : (v.toUInt32 % 65536).toInt32 = nI w := h2
  rw [h2, nI_toInt h1] at hr
  exact ⟨w, by omega, h3, by rw [← lg_i2c_mask, ← lg_i2c_nf, h3]⟩
end
section
/-! fields of a word: rc_fd x h l (bits h..l), rc_sl x k (shift left), unsigned value rc_uv -/
def rc_uv (x : Int32) : Nat := x.toBitVec.toNat
def rc_fd (x : Int32) (h l : Nat) : Int32 := (x >>> (nI l &&& 31)) &&& (((1 : Int32) <<< (((nI h - nI l) + 1) &&& 31)) - 1)
def rc_sl (x : Int32) (k : Nat) : Int32 := x <<< (nI k &&& 31)
def rc_sg (v : Int32) (w : Nat) : Int32 := (v <<< ((32 - nI w) &&& 31)) >>> ((32 - nI w) &&& 31)
theorem rc_mk_b : ∀ k, k < 32 → ∀ i, i < 32 → bt (((1 : Int32) <<< (nI k &&& 31)) - 1) i = decide (i < k) := by decide +kernel
def rc_fo (h l : Nat) : Prop := l ≤ h ∧ h < 32 ∧ h - l < 31
theorem rc_fd_b (x : Int32) {h l : Nat} (hc : rc_fo h l) {i : Nat} (hi : i < 32) : bt (rc_fd x h l) i = (decide (i ≤ h - l) && bt x (l + i)) := by
  obtain ⟨h1, h2, h3⟩ := hc
  unfold rc_fd
  rw [b_and, b_sshr l (by omega) x hi, pk_sub h1, nI_1, rc_mk_b (h - l + 1) (by omega) i hi]
  by_cases c : i ≤ h - l
  · rw [if_pos (by omega), decide_eq_true (show i < h - l + 1 by omega), decide_eq_true c, Bool.and_true, Bool.true_and]
  · rw [decide_eq_false (show ¬ i < h - l + 1 by omega), decide_eq_false c, Bool.and_false, Bool.false_and]
theorem rc_sl_b (x : Int32) {k : Nat} (hk : k < 32) {i : Nat} (hi : i < 32) : bt (rc_sl x k) i = (decide (k ≤ i) && bt x (i - k)) := b_shl k hk x hi
theorem rc_uv_b {x : Int32} {w i : Nat} (hx : rc_uv x < 2 ^ w) (hi : w ≤ i) : bt x i = false := by
  unfold bt
  exact Nat.testBit_lt_two_pow (Nat.lt_of_lt_of_le hx (Nat.pow_le_pow_right (by decide) hi))
theorem rc_uv_of {x : Int32} {w : Nat} (h : ∀ i, i < 32 → w ≤ i → bt x i = false) : rc_uv x < 2 ^ w := by
  apply Nat.lt_pow_two_of_testBit
  intro i hi
  by_cases c : i < 32
  · exact h i c hi
  · exact b_big (x := x) (by omega)
theorem rc_uv_le {x : Int32} {w v : Nat} (h : rc_uv x < 2 ^ w) (hw : w ≤ v) : rc_uv x < 2 ^ v := Nat.lt_of_lt_of_le h (Nat.pow_le_pow_right (by decide) hw)
theorem rc_fd_w (x : Int32) {h l : Nat} (hc : rc_fo h l) : rc_uv (rc_fd x h l) < 2 ^ (h + 1 - l) := by
  apply rc_uv_of
  intro i hi hw
  obtain ⟨h1, h2, h3⟩ := hc
  rw [rc_fd_b x ⟨h1, h2, h3⟩ hi, decide_eq_false (by omega), Bool.false_and]
theorem rc_fd_or (x y : Int32) {h l : Nat} (hc : rc_fo h l) : rc_fd (x ||| y) h l = rc_fd x h l ||| rc_fd y h l := by
  apply b_ext
  intro i hi
  rw [b_or, rc_fd_b _ hc hi, rc_fd_b _ hc hi, rc_fd_b _ hc hi, b_or, Bool.and_or_distrib_left]
theorem rc_fd_in {x : Int32} (w : Nat) (hx : rc_uv x < 2 ^ w) {h l : Nat} (hc : rc_fo h l) (hw : w + l ≤ h + 1) : rc_fd (rc_sl x l) h l = x := by
  apply b_ext
  intro i hi
  rw [rc_fd_b _ hc hi]
  obtain ⟨h1, h2, h3⟩ := hc
  by_cases c : i ≤ h - l
  · rw [rc_sl_b _ (by omega) (by omega), decide_eq_true c, decide_eq_true (show l ≤ l + i by omega), Nat.add_sub_cancel_left, Bool.true_and, Bool.true_and]
  · rw [decide_eq_false c, Bool.false_and, rc_uv_b hx (by omega)]
theorem rc_fd_lo {x : Int32} (w : Nat) (hx : rc_uv x < 2 ^ w) {k h l : Nat} (hc : rc_fo h l) (hw : k + w ≤ l) : rc_fd (rc_sl x k) h l = 0 := by
  apply b_ext
  intro i hi
  rw [rc_fd_b _ hc hi, b_0]
  obtain ⟨h1, h2, h3⟩ := hc
  by_cases c : i ≤ h - l
  · rw [rc_sl_b _ (by omega) (by omega), rc_uv_b hx (by omega), Bool.and_false, Bool.and_false]
  · rw [decide_eq_false c, Bool.false_and]
theorem rc_fd_hi {x : Int32} {k h l : Nat} (hc : rc_fo h l) (hw : h < k) (hk : k < 32) : rc_fd (rc_sl x k) h l = 0 := by
  apply b_ext
  intro i hi
  rw [rc_fd_b _ hc hi, b_0]
  obtain ⟨h1, h2, h3⟩ := hc
  by_cases c : i ≤ h - l
  · rw [rc_sl_b _ (by omega) (by omega), decide_eq_false (show ¬ k ≤ l + i by omega), Bool.false_and, Bool.and_false]
  · rw [decide_eq_false c, Bool.false_and]
theorem rc_fo_l {x y p : Int32} {h l : Nat} (hc : rc_fo h l) (e1 : rc_fd x h l = p) (e2 : rc_fd y h l = 0) : rc_fd (x ||| y) h l = p := by
  rw [rc_fd_or x y hc, e1, e2, Int32.or_zero]
theorem rc_fo_r {x y p : Int32} {h l : Nat} (hc : rc_fo h l) (e1 : rc_fd x h l = 0) (e2 : rc_fd y h l = p) : rc_fd (x ||| y) h l = p := by
  rw [rc_fd_or x y hc, e1, e2, Int32.zero_or]
theorem rc_uv_or {x y : Int32} {w : Nat} (h1 : rc_uv x < 2 ^ w) (h2 : rc_uv y < 2 ^ w) : rc_uv (x ||| y) < 2 ^ w := by
  apply rc_uv_of
  intro i hi hw
  rw [b_or, rc_uv_b h1 hw, rc_uv_b h2 hw, Bool.or_false]
theorem rc_uv_sl {x : Int32} (w : Nat) (hx : rc_uv x < 2 ^ w) {k v : Nat} (hc : w + k ≤ v) (hk : k < 32) : rc_uv (rc_sl x k) < 2 ^ v := by
  apply rc_uv_of
  intro i hi hw
  rw [rc_sl_b _ hk hi, rc_uv_b hx (show w ≤ i - k by omega), Bool.and_false]
theorem rc_an_3 (x : Int32) : x &&& 3 = rc_fd x 1 0 := by
  apply b_ext
  intro i hi
  rw [b_and, rc_fd_b x (by unfold rc_fo; decide) hi, Nat.zero_add, (by decide +kernel : ∀ i, i < 32 → bt 3 i = decide (i ≤ 1 - 0)) i hi, Bool.and_comm]
theorem rc_an_127 (x : Int32) : x &&& 127 = rc_fd x 6 0 := by
  apply b_ext
  intro i hi
  rw [b_and, rc_fd_b x (by unfold rc_fo; decide) hi, Nat.zero_add, (by decide +kernel : ∀ i, i < 32 → bt 127 i = decide (i ≤ 6 - 0)) i hi, Bool.and_comm]
theorem rc_uv_nI {x : Int32} {w : Nat} (h : rc_uv x < 2 ^ w) : ∃ m, m < 2 ^ w ∧ x = nI m := by
  refine ⟨rc_uv x, h, ?_⟩
  apply Int32.toBitVec_inj.mp
  apply BitVec.eq_of_toNat_eq
  show rc_uv x = (BitVec.ofNat 32 (rc_uv x)).toNat
  rw [BitVec.toNat_ofNat]
  exact (Nat.mod_eq_of_lt x.toBitVec.isLt).symm
theorem rc_nI_uv {m w : Nat} (h : m < 2 ^ w) (hw : w ≤ 32) : rc_uv (nI m) < 2 ^ w := by
  unfold rc_uv
  rw [pk_tn (Nat.lt_of_lt_of_le h (Nat.pow_le_pow_right (by decide) hw))]
  exact h
theorem rc_uv_pos {x : Int32} {w : Nat} (h : rc_uv x < 2 ^ w) (hw : w ≤ 31) : 0 ≤ x := by
  obtain ⟨m, hm, rfl⟩ := rc_uv_nI h
  exact nI_pos' (Nat.lt_of_lt_of_le hm (Nat.pow_le_pow_right (by decide) hw))
/-! sign extension -/
theorem rc_sx_shr (x : Int32) {k : Nat} (hk : k < 31) (h1 : -(2 ^ (31 - k) : Int) ≤ x.toInt) (h2 : x.toInt < (2 ^ (31 - k) : Int)) : x >>> (nI (31 - k) &&& 31) = 0 ∨ x >>> (nI (31 - k) &&& 31) = -1 := by
  have e : (x >>> (nI (31 - k) &&& 31)).toInt = x.toInt >>> (31 - k) := pk_shr x _ (31 - k) (s_l _ (by omega))
  rw [Int.shiftRight_eq_div_pow] at e
  have hp : (0 : Int) < ((2 ^ (31 - k) : Nat) : Int) := by exact_mod_cast Nat.two_pow_pos (31 - k)
  have e2 : ((2 ^ (31 - k) : Nat) : Int) = (2 ^ (31 - k) : Int) := by norm_cast
  rw [← e2] at h1 h2
  generalize ((2 ^ (31 - k) : Nat) : Int) = P at *
  by_cases c : 0 ≤ x.toInt
  · left
    apply Int32.toInt_inj.mp
    rw [e, Int.ediv_eq_zero_of_lt c h2]
    rfl
  · right
    apply Int32.toInt_inj.mp
    rw [e, show (-1 : Int32).toInt = -1 from by decide]
    have : x.toInt / P = -1 := by
      apply Int.le_antisymm
      · have := Int.ediv_lt_of_lt_mul hp (show x.toInt < 0 * P by omega)
        omega
      · exact Int.le_ediv_of_mul_le hp (by omega)
    exact this
theorem rc_sx_t (x : Int32) {k : Nat} (hk : k < 31) (h1 : -(2 ^ (31 - k) : Int) ≤ x.toInt) (h2 : x.toInt < (2 ^ (31 - k) : Int)) : (x <<< (nI k &&& 31)) >>> (nI k &&& 31) = x := by
  have key : ∀ i, i < 32 → 31 - k ≤ i → bt x i = bt x (31 - k) := by
    intro i hi hk2
    have hb : ∀ j, j < 32 → bt (x >>> (nI (31 - k) &&& 31)) j = bt (x >>> (nI (31 - k) &&& 31)) 0 := by
      rcases rc_sx_shr x hk h1 h2 with e | e
      · rw [e]; intro j hj; rw [b_0, b_0]
      · rw [e]; intro j hj; rw [b_m1 j hj, b_m1 0 (by omega)]
    have h3 := hb (i - (31 - k)) (by omega)
    rw [b_sshr (31 - k) (by omega) x (by omega), b_sshr (31 - k) (by omega) x (by omega), if_pos (by omega), if_pos (by omega)] at h3
    rw [show 31 - k + (i - (31 - k)) = i by omega] at h3
    exact h3
  apply b_ext
  intro i hi
  rw [b_sshr k (by omega) _ hi]
  by_cases c : k + i < 32
  · rw [if_pos c, b_shl k (by omega) x c, decide_eq_true (by omega), Bool.true_and, Nat.add_sub_cancel_left]
  · rw [if_neg c, b_shl k (by omega) x (by omega), decide_eq_true (by omega), Bool.true_and, key i hi (by omega)]
theorem rc_sl_fd (x : Int32) {k : Nat} (hk : 1 ≤ k) (hk2 : k < 32) : rc_sl (rc_fd x (31 - k) 0) k = x <<< (nI k &&& 31) := by
  apply b_ext
  intro i hi
  rw [rc_sl_b _ hk2 hi, b_shl k hk2 x hi]
  by_cases c : k ≤ i
  · rw [rc_fd_b x (by unfold rc_fo; omega) (by omega), decide_eq_true (show i - k ≤ 31 - k - 0 by omega), Bool.true_and, Nat.zero_add]
  · rw [decide_eq_false c, Bool.false_and, Bool.false_and]
/-- the arithmetic shift is linear -/
theorem rc_sr_or (x y : Int32) {k : Nat} (hk : k < 32) : (x ||| y) >>> (nI k &&& 31) = (x >>> (nI k &&& 31)) ||| (y >>> (nI k &&& 31)) := by
  apply b_ext
  intro i hi
  rw [b_or, b_sshr k hk _ hi, b_sshr k hk _ hi, b_sshr k hk _ hi]
  by_cases c : k + i < 32
  · rw [if_pos c, if_pos c, if_pos c, b_or]
  · rw [if_neg c, if_neg c, if_neg c, b_or]
theorem rc_sr_lo {x : Int32} (w : Nat) (hx : rc_uv x < 2 ^ w) {j k : Nat} (hw : w + j ≤ k) (hk : k < 32) : (rc_sl x j) >>> (nI k &&& 31) = 0 := by
  apply b_ext
  intro i hi
  rw [b_sshr k hk _ hi, b_0]
  by_cases c : k + i < 32
  · rw [if_pos c, rc_sl_b _ (by omega) c, rc_uv_b hx (by omega), Bool.and_false]
  · rw [if_neg c, rc_sl_b _ (by omega) (by omega), rc_uv_b hx (by omega), Bool.and_false]
theorem rc_sr_c {x : Int32} (w : Nat) (hx : rc_uv x < 2 ^ w) {k : Nat} (hw : w ≤ k) (hk : k < 32) : x >>> (nI k &&& 31) = 0 := by
  apply b_ext
  intro i hi
  rw [b_sshr k hk _ hi, b_0]
  by_cases c : k + i < 32
  · rw [if_pos c, rc_uv_b hx (by omega)]
  · rw [if_neg c, rc_uv_b hx (by omega)]
theorem rc_so_l {x y p : Int32} {k : Nat} (hk : k < 32) (e1 : x >>> (nI k &&& 31) = p) (e2 : y >>> (nI k &&& 31) = 0) : (x ||| y) >>> (nI k &&& 31) = p := by
  rw [rc_sr_or x y hk, e1, e2, Int32.or_zero]
/-! halves of a word -/
def rc_wlo (w : Int32) : Int32 := (w.toUInt32 % 65536).toInt32
def rc_whi (w : Int32) : Int32 := (w.toUInt32 >>> ((16 : Int32).toUInt32 &&& Int32.toUInt32 31)).toInt32
theorem rc_wlo_and (w : Int32) : rc_wlo w = w &&& 65535 := by
  obtain ⟨m, _, e1, e2⟩ := em_w w
  unfold rc_wlo
  rw [e1, e2]
theorem rc_wlo_id {w : Int32} (h : rc_uv w < 2 ^ 16) : rc_wlo w = w := by
  obtain ⟨m, hm, rfl⟩ := rc_uv_nI h
  unfold rc_wlo
  rw [pk_char, pk_tn (by omega), Nat.mod_eq_of_lt (by omega)]
theorem rc_whi_uv (w : Int32) : rc_uv (rc_whi w) < 2 ^ 16 := by
  apply rc_uv_of
  intro i h hw
  unfold rc_whi
  have := b_ushr 16 (by omega) w i
  exact this.trans (b_big (by omega))
theorem rc_wlo_uv (w : Int32) : rc_uv (rc_wlo w) < 2 ^ 16 := by
  rw [rc_wlo_and]
  apply rc_uv_of
  intro i h hw
  rw [b_and, b_65535, decide_eq_false (by omega), Bool.and_false]
theorem rc_wlo_whi (w : Int32) : rc_wlo w ||| rc_sl (rc_whi w) 16 = w := by
  apply b_ext
  intro i h
  rw [b_or, rc_wlo_and, b_and, b_65535, rc_sl_b _ (by omega) h]
  have e : bt (rc_whi w) (i - 16) = bt w (16 + (i - 16)) := b_ushr 16 (by omega) w (i - 16)
  rw [e]
  by_cases c : 16 ≤ i
  · rw [decide_eq_true c, decide_eq_false (show ¬ i < 16 by omega), Bool.and_false, Bool.true_and, Bool.false_or, show 16 + (i - 16) = i by omega]
  · rw [decide_eq_false c, decide_eq_true (show i < 16 by omega), Bool.and_true, Bool.false_and, Bool.or_false]
end
section
/-! the short and the long form as pure functions, op by op -/
abbrev rc_lw (x : Int32) : Prop := ¬ x < 8 ∧ ¬ 15 < x
abbrev rc_sx (x : Int32) : Prop := ¬ x < (-32) ∧ ¬ 31 < x
abbrev rc_wo (x g : Int32) : Prop := ¬ x < 0 ∧ ¬ g < x ∧ (x &&& 3) = 0
def rc_pk6 (k r v : Int32) : Int32 := ((k ||| rc_sl (rc_fd v 5 5) 12) ||| rc_sl r 7) ||| rc_sl (rc_fd v 4 0) 2
def rc_cAc (k a c : Int32) : Int32 := (k ||| rc_sl a 7) ||| rc_sl c 2
def rc_cSp (c : Int32) : Int32 := ((((24833 ||| rc_sl (rc_fd c 9 9) 12) ||| rc_sl (rc_fd c 4 4) 6) ||| rc_sl (rc_fd c 6 6) 5) ||| rc_sl (rc_fd c 8 7) 3) ||| rc_sl (rc_fd c 5 5) 2
def rc_cA4 (a c : Int32) : Int32 := (((rc_sl (rc_fd c 5 4) 11 ||| rc_sl (rc_fd c 9 6) 7) ||| rc_sl (rc_fd c 2 2) 6) ||| rc_sl (rc_fd c 3 3) 5) ||| rc_sl (a - 8) 2
def rc_cMm (k a b c : Int32) : Int32 := ((((k ||| rc_sl (rc_fd c 5 3) 10) ||| rc_sl (b - 8) 7) ||| rc_sl (rc_fd c 2 2) 6) ||| rc_sl (rc_fd c 6 6) 5) ||| rc_sl (a - 8) 2
def rc_cLw (a c : Int32) : Int32 := (((16386 ||| rc_sl (rc_fd c 5 5) 12) ||| rc_sl a 7) ||| rc_sl (rc_fd c 4 2) 4) ||| rc_sl (rc_fd c 7 6) 2
def rc_cSw (a c : Int32) : Int32 := ((49154 ||| rc_sl (rc_fd c 5 2) 9) ||| rc_sl (rc_fd c 7 6) 7) ||| rc_sl a 2
def rc_cJr (k b : Int32) : Int32 := k ||| rc_sl b 7
def rc_cJm (k d : Int32) : Int32 := (((((((k ||| rc_sl (rc_fd d 11 11) 12) ||| rc_sl (rc_fd d 4 4) 11) ||| rc_sl (rc_fd d 9 8) 9) ||| rc_sl (rc_fd d 10 10) 8) ||| rc_sl (rc_fd d 6 6) 7) ||| rc_sl (rc_fd d 7 7) 6) ||| rc_sl (rc_fd d 3 1) 3) ||| rc_sl (rc_fd d 5 5) 2
def rc_cBr (k a d : Int32) : Int32 := (((((k ||| rc_sl (rc_fd d 8 8) 12) ||| rc_sl (rc_fd d 4 3) 10) ||| rc_sl (a - 8) 7) ||| rc_sl (rc_fd d 7 6) 5) ||| rc_sl (rc_fd d 2 1) 3) ||| rc_sl (rc_fd d 5 5) 2
def rc_sAdd (a b c : Int32) : Int32 := if a = 0 then -1 else if c = 0 then -1 else if a = b then rc_cAc 36866 a c else if b = 0 then rc_cAc 32770 a c else -1
def rc_sAr (k a b c : Int32) : Int32 := if a = b then if rc_lw a then if rc_lw c then rc_cAc k (a - 8) (c - 8) else -1 else -1 else -1
def rc_sAi4 (a b c : Int32) : Int32 := if rc_lw a then if b = 2 then if c = 0 then -1 else if rc_wo c 1020 then rc_cA4 a c else -1 else -1 else -1
def rc_sAi3 (a b c : Int32) : Int32 := if a = 2 then if b = 2 then if c = 0 then rc_sAi4 a b c else if c < (-512) then rc_sAi4 a b c else if 496 < c then rc_sAi4 a b c else if (c &&& 15) = 0 then rc_cSp c else rc_sAi4 a b c else rc_sAi4 a b c else rc_sAi4 a b c
def rc_sAi2 (a b c : Int32) : Int32 := if b = 0 then if a = 0 then rc_sAi3 a b c else if rc_sx c then rc_pk6 16385 a c else rc_sAi3 a b c else rc_sAi3 a b c
def rc_sAi1 (a b c : Int32) : Int32 := if a = b then if a = 0 then rc_sAi2 a b c else if c = 0 then rc_sAi2 a b c else if rc_sx c then rc_pk6 1 a c else rc_sAi2 a b c else rc_sAi2 a b c
def rc_sAi (a b c : Int32) : Int32 := if a = 0 then if b = 0 then if c = 0 then 1 else rc_sAi1 a b c else rc_sAi1 a b c else rc_sAi1 a b c
def rc_sAn (a b c : Int32) : Int32 := if a = b then if rc_lw a then if rc_sx c then rc_pk6 34817 (a - 8) c else -1 else -1 else -1
def rc_sSl (a b c : Int32) : Int32 := if a = b then if a = 0 then -1 else if c = 0 then -1 else rc_pk6 2 a c else -1
def rc_sSr (k a b c : Int32) : Int32 := if a = b then if rc_lw a then if c = 0 then -1 else rc_cAc k (a - 8) c else -1 else -1
def rc_sMm (k a b c : Int32) : Int32 := if rc_lw a then if rc_lw b then if rc_wo c 124 then rc_cMm k a b c else -1 else -1 else -1
def rc_sLw (a b c : Int32) : Int32 := if b = 2 then if a = 0 then rc_sMm 16384 a b c else if rc_wo c 252 then rc_cLw a c else rc_sMm 16384 a b c else rc_sMm 16384 a b c
def rc_sSw (a b c : Int32) : Int32 := if b = 2 then if rc_wo c 252 then rc_cSw a c else rc_sMm 49152 a b c else rc_sMm 49152 a b c
def rc_sLu (a b : Int32) : Int32 := if a = 0 then -1 else if a = 2 then -1 else if b = 0 then -1 else if rc_sx b then rc_pk6 24577 a b else -1
def rc_sJr (a b c : Int32) : Int32 := if 1 < a then -1 else if b = 0 then -1 else if c = 0 then if a = 0 then rc_cJr 32770 b else rc_cJr 36866 b else -1
def rc_sJm (a d : Int32) : Int32 := if 1 < a then -1 else if d < (-2048) then -1 else if d ≤ 2046 then if a = 0 then rc_cJm 40961 d else rc_cJm 8193 d else -1
def rc_sBr (k a b d : Int32) : Int32 := if rc_lw a then if b = 0 then if d < (-256) then -1 else if d ≤ 254 then rc_cBr k a d else -1 else -1 else -1
def rc_cRg (g f a b c : Int32) : Int32 := ((((rc_sl g 25 ||| rc_sl c 20) ||| rc_sl b 15) ||| rc_sl f 12) ||| rc_sl a 7) ||| 51
def rc_cIm (k f a b c : Int32) : Int32 := (((rc_sl (rc_fd c 11 0) 20 ||| rc_sl b 15) ||| rc_sl f 12) ||| rc_sl a 7) ||| k
def rc_cSh (g f a b c : Int32) : Int32 := ((((rc_sl g 25 ||| rc_sl c 20) ||| rc_sl b 15) ||| rc_sl f 12) ||| rc_sl a 7) ||| 19
def rc_cSt (a b c : Int32) : Int32 := ((((rc_sl (rc_fd c 11 5) 25 ||| rc_sl a 20) ||| rc_sl b 15) ||| rc_sl 2 12) ||| rc_sl (rc_fd c 4 0) 7) ||| 35
def rc_cLu (a b : Int32) : Int32 := (rc_sl (rc_fd b 19 0) 12 ||| rc_sl a 7) ||| 55
def rc_cJl (a d : Int32) : Int32 := ((((rc_sl (rc_fd d 20 20) 31 ||| rc_sl (rc_fd d 10 1) 21) ||| rc_sl (rc_fd d 11 11) 20) ||| rc_sl (rc_fd d 19 12) 12) ||| rc_sl a 7) ||| 111
def rc_cBl (f a b d : Int32) : Int32 := ((((((rc_sl (rc_fd d 12 12) 31 ||| rc_sl (rc_fd d 10 5) 25) ||| rc_sl b 20) ||| rc_sl a 15) ||| rc_sl f 12) ||| rc_sl (rc_fd d 4 1) 8) ||| rc_sl (rc_fd d 11 11) 7) ||| 99
def rc_sf (op a b c d : Int32) : Int32 := if op = 1 then rc_sAdd a b c else if op = 2 then rc_sAr 35841 a b c else if op = 3 then rc_sAr 35873 a b c else if op = 4 then rc_sAr 35905 a b c else if op = 5 then rc_sAr 35937 a b c else if op = 6 then -1 else if op = 7 then rc_sAi a b c else if op = 8 then rc_sAn a b c else if op = 9 then -1 else if op = 10 then rc_sSl a b c else if op = 11 then rc_sSr 32769 a b c else if op = 12 then rc_sSr 33793 a b c else if op = 13 then rc_sLw a b c else if op = 14 then rc_sSw a b c else if op = 15 then rc_sLu a b else if op = 16 then rc_sJr a b c else if op = 17 then rc_sJm a d else if op = 18 then rc_sBr 49153 a b d else if op = 19 then rc_sBr 57345 a b d else if op = 20 then -1 else if op = 21 then 36866 else -1
def rc_lf (op a b c d : Int32) : Int32 := if op = 0 then 0 else if op = 1 then rc_cRg 0 0 a b c else if op = 2 then rc_cRg 32 0 a b c else if op = 3 then rc_cRg 0 4 a b c else if op = 4 then rc_cRg 0 6 a b c else if op = 5 then rc_cRg 0 7 a b c else if op = 6 then rc_cRg 0 2 a b c else if op = 7 then rc_cIm 19 0 a b c else if op = 8 then rc_cIm 19 7 a b c else if op = 9 then rc_cIm 19 4 a b c else if op = 10 then rc_cIm 19 1 a b c else if op = 11 then rc_cIm 19 5 a b c else if op = 12 then rc_cIm 19 5 a b (c ||| 1024) else if op = 13 then rc_cIm 3 2 a b c else if op = 14 then rc_cSt a b c else if op = 15 then rc_cLu a b else if op = 16 then rc_cIm 103 0 a b c else if op = 17 then rc_cJl a d else if op = 18 then rc_cBl 0 a b d else if op = 19 then rc_cBl 1 a b d else if op = 20 then rc_cBl 4 a b d else if op = 21 then 1048691 else 0
theorem rc_sf_0 (a b c d : Int32) : rc_sf 0 a b c d = -1 := by unfold rc_sf; rw [if_neg (by decide), if_neg (by decide), if_neg (by decide), if_neg (by decide), if_neg (by decide), if_neg (by decide), if_neg (by decide), if_neg (by decide), if_neg (by decide), if_neg (by decide), if_neg (by decide), if_neg (by decide), if_neg (by decide), if_neg (by decide), if_neg (by decide), if_neg (by decide), if_neg (by decide), if_neg (by decide), if_neg (by decide), if_neg (by decide), if_neg (by decide)]
theorem rc_sf_1 (a b c d : Int32) : rc_sf 1 a b c d = rc_sAdd a b c := by unfold rc_sf; rw [if_pos rfl]
theorem rc_lf_1 (a b c d : Int32) : rc_lf 1 a b c d = rc_cRg 0 0 a b c := by unfold rc_lf; rw [if_neg (by decide), if_pos rfl]
theorem rc_sf_2 (a b c d : Int32) : rc_sf 2 a b c d = rc_sAr 35841 a b c := by unfold rc_sf; rw [if_neg (by decide), if_pos rfl]
theorem rc_lf_2 (a b c d : Int32) : rc_lf 2 a b c d = rc_cRg 32 0 a b c := by unfold rc_lf; rw [if_neg (by decide), if_neg (by decide), if_pos rfl]
theorem rc_sf_3 (a b c d : Int32) : rc_sf 3 a b c d = rc_sAr 35873 a b c := by unfold rc_sf; rw [if_neg (by decide), if_neg (by decide), if_pos rfl]
theorem rc_lf_3 (a b c d : Int32) : rc_lf 3 a b c d = rc_cRg 0 4 a b c := by unfold rc_lf; rw [if_neg (by decide), if_neg (by decide), if_neg (by decide), if_pos rfl]
theorem rc_sf_4 (a b c d : Int32) : rc_sf 4 a b c d = rc_sAr 35905 a b c := by unfold rc_sf; rw [if_neg (by decide), if_neg (by decide), if_neg (by decide), if_pos rfl]
theorem rc_lf_4 (a b c d : Int32) : rc_lf 4 a b c d = rc_cRg 0 6 a b c := by unfold rc_lf; rw [if_neg (by decide), if_neg (by decide), if_neg (by decide), if_neg (by decide), if_pos rfl]
theorem rc_sf_5 (a b c d : Int32) : rc_sf 5 a b c d = rc_sAr 35937 a b c := by unfold rc_sf; rw [if_neg (by decide), if_neg (by decide), if_neg (by decide), if_neg (by decide), if_pos rfl]
theorem rc_lf_5 (a b c d : Int32) : rc_lf 5 a b c d = rc_cRg 0 7 a b c := by unfold rc_lf; rw [if_neg (by decide), if_neg (by decide), if_neg (by decide), if_neg (by decide), if_neg (by decide), if_pos rfl]
theorem rc_sf_6 (a b c d : Int32) : rc_sf 6 a b c d = -1 := by unfold rc_sf; rw [if_neg (by decide), if_neg (by decide), if_neg (by decide), if_neg (by decide), if_neg (by decide), if_pos rfl]
theorem rc_lf_6 (a b c d : Int32) : rc_lf 6 a b c d = rc_cRg 0 2 a b c := by unfold rc_lf; rw [if_neg (by decide), if_neg (by decide), if_neg (by decide), if_neg (by decide), if_neg (by decide), if_neg (by decide), if_pos rfl]
theorem rc_sf_7 (a b c d : Int32) : rc_sf 7 a b c d = rc_sAi a b c := by unfold rc_sf; rw [if_neg (by decide), if_neg (by decide), if_neg (by decide), if_neg (by decide), if_neg (by decide), if_neg (by decide), if_pos rfl]
theorem rc_lf_7 (a b c d : Int32) : rc_lf 7 a b c d = rc_cIm 19 0 a b c := by unfold rc_lf; rw [if_neg (by decide), if_neg (by decide), if_neg (by decide), if_neg (by decide), if_neg (by decide), if_neg (by decide), if_neg (by decide), if_pos rfl]
theorem rc_sf_8 (a b c d : Int32) : rc_sf 8 a b c d = rc_sAn a b c := by unfold rc_sf; rw [if_neg (by decide), if_neg (by decide), if_neg (by decide), if_neg (by decide), if_neg (by decide), if_neg (by decide), if_neg (by decide), if_pos rfl]
theorem rc_lf_8 (a b c d : Int32) : rc_lf 8 a b c d = rc_cIm 19 7 a b c := by unfold rc_lf; rw [if_neg (by decide), if_neg (by decide), if_neg (by decide), if_neg (by decide), if_neg (by decide), if_neg (by decide), if_neg (by decide), if_neg (by decide), if_pos rfl]
theorem rc_sf_9 (a b c d : Int32) : rc_sf 9 a b c d = -1 := by unfold rc_sf; rw [if_neg (by decide), if_neg (by decide), if_neg (by decide), if_neg (by decide), if_neg (by decide), if_neg (by decide), if_neg (by decide), if_neg (by decide), if_pos rfl]
theorem rc_lf_9 (a b c d : Int32) : rc_lf 9 a b c d = rc_cIm 19 4 a b c := by unfold rc_lf; rw [if_neg (by decide), if_neg (by decide), if_neg (by decide), if_neg (by decide), if_neg (by decide), if_neg (by decide), if_neg (by decide), if_neg (by decide), if_neg (by decide), if_pos rfl]
theorem rc_sf_10 (a b c d : Int32) : rc_sf 10 a b c d = rc_sSl a b c := by unfold rc_sf; rw [if_neg (by decide), if_neg (by decide), if_neg (by decide), if_neg (by decide), if_neg (by decide), if_neg (by decide), if_neg (by decide), if_neg (by decide), if_neg (by decide), if_pos rfl]
theorem rc_lf_10 (a b c d : Int32) : rc_lf 10 a b c d = rc_cIm 19 1 a b c := by unfold rc_lf; rw [if_neg (by decide), if_neg (by decide), if_neg (by decide), if_neg (by decide), if_neg (by decide), if_neg (by decide), if_neg (by decide), if_neg (by decide), if_neg (by decide), if_neg (by decide), if_pos rfl]
theorem rc_sf_11 (a b c d : Int32) : rc_sf 11 a b c d = rc_sSr 32769 a b c := by unfold rc_sf; rw [if_neg (by decide), if_neg (by decide), if_neg (by decide), if_neg (by decide), if_neg (by decide), if_neg (by decide), if_neg (by decide), if_neg (by decide), if_neg (by decide), if_neg (by decide), if_pos rfl]
theorem rc_lf_11 (a b c d : Int32) : rc_lf 11 a b c d = rc_cIm 19 5 a b c := by unfold rc_lf; rw [if_neg (by decide), if_neg (by decide), if_neg (by decide), if_neg (by decide), if_neg (by decide), if_neg (by decide), if_neg (by decide), if_neg (by decide), if_neg (by decide), if_neg (by decide), if_neg (by decide), if_pos rfl]
theorem rc_sf_12 (a b c d : Int32) : rc_sf 12 a b c d = rc_sSr 33793 a b c := by unfold rc_sf; rw [if_neg (by decide), if_neg (by decide), if_neg (by decide), if_neg (by decide), if_neg (by decide), if_neg (by decide), if_neg (by decide), if_neg (by decide), if_neg (by decide), if_neg (by decide), if_neg (by decide), if_pos rfl]
theorem rc_lf_12 (a b c d : Int32) : rc_lf 12 a b c d = rc_cIm 19 5 a b (c ||| 1024) := by unfold rc_lf; rw [if_neg (by decide), if_neg (by decide), if_neg (by decide), if_neg (by decide), if_neg (by decide), if_neg (by decide), if_neg (by decide), if_neg (by decide), if_neg (by decide), if_neg (by decide), if_neg (by decide), if_neg (by decide), if_pos rfl]
theorem rc_sf_13 (a b c d : Int32) : rc_sf 13 a b c d = rc_sLw a b c := by unfold rc_sf; rw [if_neg (by decide), if_neg (by decide), if_neg (by decide), if_neg (by decide), if_neg (by decide), if_neg (by decide), if_neg (by decide), if_neg (by decide), if_neg (by decide), if_neg (by decide), if_neg (by decide), if_neg (by decide), if_pos rfl]
theorem rc_lf_13 (a b c d : Int32) : rc_lf 13 a b c d = rc_cIm 3 2 a b c := by unfold rc_lf; rw [if_neg (by decide), if_neg (by decide), if_neg (by decide), if_neg (by decide), if_neg (by decide), if_neg (by decide), if_neg (by decide), if_neg (by decide), if_neg (by decide), if_neg (by decide), if_neg (by decide), if_neg (by decide), if_neg (by decide), if_pos rfl]
theorem rc_sf_14 (a b c d : Int32) : rc_sf 14 a b c d = rc_sSw a b c := by unfold rc_sf; rw [if_neg (by decide), if_neg (by decide), if_neg (by decide), if_neg (by decide), if_neg (by decide), if_neg (by decide), if_neg (by decide), if_neg (by decide), if_neg (by decide), if_neg (by decide), if_neg (by decide), if_neg (by decide), if_neg (by decide), if_pos rfl]
theorem rc_lf_14 (a b c d : Int32) : rc_lf 14 a b c d = rc_cSt a b c := by unfold rc_lf; rw [if_neg (by decide), if_neg (by decide), if_neg (by decide), if_neg (by decide), if_neg (by decide), if_neg (by decide), if_neg (by decide), if_neg (by decide), if_neg (by decide), if_neg (by decide), if_neg (by decide), if_neg (by decide), if_neg (by decide), if_neg (by decide), if_pos rfl]
theorem rc_sf_15 (a b c d : Int32) : rc_sf 15 a b c d = rc_sLu a b := by unfold rc_sf; rw [if_neg (by decide), if_neg (by decide), if_neg (by decide), if_neg (by decide), if_neg (by decide), if_neg (by decide), if_neg (by decide), if_neg (by decide), if_neg (by decide), if_neg (by decide), if_neg (by decide), if_neg (by decide), if_neg (by decide), if_neg (by decide), if_pos rfl]
theorem rc_lf_15 (a b c d : Int32) : rc_lf 15 a b c d = rc_cLu a b := by unfold rc_lf; rw [if_neg (by decide), if_neg (by decide), if_neg (by decide), if_neg (by decide), if_neg (by decide), if_neg (by decide), if_neg (by decide), if_neg (by decide), if_neg (by decide), if_neg (by decide), if_neg (by decide), if_neg (by decide), if_neg (by decide), if_neg (by decide), if_neg (by decide), if_pos rfl]
theorem rc_sf_16 (a b c d : Int32) : rc_sf 16 a b c d = rc_sJr a b c := by unfold rc_sf; rw [if_neg (by decide), if_neg (by decide), if_neg (by decide), if_neg (by decide), if_neg (by decide), if_neg (by decide), if_neg (by decide), if_neg (by decide), if_neg (by decide), if_neg (by decide), if_neg (by decide), if_neg (by decide), if_neg (by decide), if_neg (by decide), if_neg (by decide), if_pos rfl]
theorem rc_lf_16 (a b c d : Int32) : rc_lf 16 a b c d = rc_cIm 103 0 a b c := by unfold rc_lf; rw [if_neg (by decide), if_neg (by decide), if_neg (by decide), if_neg (by decide), if_neg (by decide), if_neg (by decide), if_neg (by decide), if_neg (by decide), if_neg (by decide), if_neg (by decide), if_neg (by decide), if_neg (by decide), if_neg (by decide), if_neg (by decide), if_neg (by decide), if_neg (by decide), if_pos rfl]
theorem rc_sf_17 (a b c d : Int32) : rc_sf 17 a b c d = rc_sJm a d := by unfold rc_sf; rw [if_neg (by decide), if_neg (by decide), if_neg (by decide), if_neg (by decide), if_neg (by decide), if_neg (by decide), if_neg (by decide), if_neg (by decide), if_neg (by decide), if_neg (by decide), if_neg (by decide), if_neg (by decide), if_neg (by decide), if_neg (by decide), if_neg (by decide), if_neg (by decide), if_pos rfl]
theorem rc_lf_17 (a b c d : Int32) : rc_lf 17 a b c d = rc_cJl a d := by unfold rc_lf; rw [if_neg (by decide), if_neg (by decide), if_neg (by decide), if_neg (by decide), if_neg (by decide), if_neg (by decide), if_neg (by decide), if_neg (by decide), if_neg (by decide), if_neg (by decide), if_neg (by decide), if_neg (by decide), if_neg (by decide), if_neg (by decide), if_neg (by decide), if_neg (by decide), if_neg (by decide), if_pos rfl]
theorem rc_sf_18 (a b c d : Int32) : rc_sf 18 a b c d = rc_sBr 49153 a b d := by unfold rc_sf; rw [if_neg (by decide), if_neg (by decide), if_neg (by decide), if_neg (by decide), if_neg (by decide), if_neg (by decide), if_neg (by decide), if_neg (by decide), if_neg (by decide), if_neg (by decide), if_neg (by decide), if_neg (by decide), if_neg (by decide), if_neg (by decide), if_neg (by decide), if_neg (by decide), if_neg (by decide), if_pos rfl]
theorem rc_lf_18 (a b c d : Int32) : rc_lf 18 a b c d = rc_cBl 0 a b d := by unfold rc_lf; rw [if_neg (by decide), if_neg (by decide), if_neg (by decide), if_neg (by decide), if_neg (by decide), if_neg (by decide), if_neg (by decide), if_neg (by decide), if_neg (by decide), if_neg (by decide), if_neg (by decide), if_neg (by decide), if_neg (by decide), if_neg (by decide), if_neg (by decide), if_neg (by decide), if_neg (by decide), if_neg (by decide), if_pos rfl]
theorem rc_sf_19 (a b c d : Int32) : rc_sf 19 a b c d = rc_sBr 57345 a b d := by unfold rc_sf; rw [if_neg (by decide), if_neg (by decide), if_neg (by decide), if_neg (by decide), if_neg (by decide), if_neg (by decide), if_neg (by decide), if_neg (by decide), if_neg (by decide), if_neg (by decide), if_neg (by decide), if_neg (by decide), if_neg (by decide), if_neg (by decide), if_neg (by decide), if_neg (by decide), if_neg (by decide), if_neg (by decide), if_pos rfl]
theorem rc_lf_19 (a b c d : Int32) : rc_lf 19 a b c d = rc_cBl 1 a b d := by unfold rc_lf; rw [if_neg (by decide), if_neg (by decide), if_neg (by decide), if_neg (by decide), if_neg (by decide), if_neg (by decide), if_neg (by decide), if_neg (by decide), if_neg (by decide), if_neg (by decide), if_neg (by decide), if_neg (by decide), if_neg (by decide), if_neg (by decide), if_neg (by decide), if_neg (by decide), if_neg (by decide), if_neg (by decide), if_neg (by decide), if_pos rfl]
theorem rc_sf_20 (a b c d : Int32) : rc_sf 20 a b c d = -1 := by unfold rc_sf; rw [if_neg (by decide), if_neg (by decide), if_neg (by decide), if_neg (by decide), if_neg (by decide), if_neg (by decide), if_neg (by decide), if_neg (by decide), if_neg (by decide), if_neg (by decide), if_neg (by decide), if_neg (by decide), if_neg (by decide), if_neg (by decide), if_neg (by decide), if_neg (by decide), if_neg (by decide), if_neg (by decide), if_neg (by decide), if_pos rfl]
theorem rc_lf_20 (a b c d : Int32) : rc_lf 20 a b c d = rc_cBl 4 a b d := by unfold rc_lf; rw [if_neg (by decide), if_neg (by decide), if_neg (by decide), if_neg (by decide), if_neg (by decide), if_neg (by decide), if_neg (by decide), if_neg (by decide), if_neg (by decide), if_neg (by decide), if_neg (by decide), if_neg (by decide), if_neg (by decide), if_neg (by decide), if_neg (by decide), if_neg (by decide), if_neg (by decide), if_neg (by decide), if_neg (by decide), if_neg (by decide), if_pos rfl]
theorem rc_sf_21 (a b c d : Int32) : rc_sf 21 a b c d = 36866 := by unfold rc_sf; rw [if_neg (by decide), if_neg (by decide), if_neg (by decide), if_neg (by decide), if_neg (by decide), if_neg (by decide), if_neg (by decide), if_neg (by decide), if_neg (by decide), if_neg (by decide), if_neg (by decide), if_neg (by decide), if_neg (by decide), if_neg (by decide), if_neg (by decide), if_neg (by decide), if_neg (by decide), if_neg (by decide), if_neg (by decide), if_neg (by decide), if_pos rfl]
theorem rc_lf_21 (a b c d : Int32) : rc_lf 21 a b c d = 1048691 := by unfold rc_lf; rw [if_neg (by decide), if_neg (by decide), if_neg (by decide), if_neg (by decide), if_neg (by decide), if_neg (by decide), if_neg (by decide), if_neg (by decide), if_neg (by decide), if_neg (by decide), if_neg (by decide), if_neg (by decide), if_neg (by decide), if_neg (by decide), if_neg (by decide), if_neg (by decide), if_neg (by decide), if_neg (by decide), if_neg (by decide), if_neg (by decide), if_neg (by decide), if_pos rfl]
theorem rc_lf_0 (a b c d : Int32) : rc_lf 0 a b c d = 0 := by unfold rc_lf; rw [if_pos rfl]
/-! combinators: a branch against an 'if' -/
theorem rc_ib {α : Type} {c A B : Prop} {P : α → Prop} {x y : α} {hd : Decidable c} (h : P (@ite α c hd x y)) (f : P x → A) (g : P y → B) : (c → A) ∧ (¬ c → B) :=
  ⟨fun e => f (by rw [if_pos e] at h; exact h), fun e => g (by rw [if_neg e] at h; exact h)⟩
theorem rc_i2 {α : Type} {c1 c2 A B : Prop} {P : α → Prop} {x y : α} {hd : Decidable (¬ c1 ∧ ¬ c2)} (h : P (@ite α (¬ c1 ∧ ¬ c2) hd x y)) (f : P x → B) (g : P y → A) : (c1 → A) ∧ (¬ c1 → ((c2 → A) ∧ (¬ c2 → B))) :=
  ⟨fun e => g (by rw [if_neg (fun z => z.1 e)] at h; exact h), fun e => ⟨fun e2 => g (by rw [if_neg (fun z => z.2 e2)] at h; exact h), fun e2 => f (by rw [if_pos ⟨e, e2⟩] at h; exact h)⟩⟩
theorem rc_i3 {α : Type} {c1 c2 c3 A B : Prop} {P : α → Prop} {x y : α} {hd : Decidable (¬ c1 ∧ ¬ c2 ∧ c3)} (h : P (@ite α (¬ c1 ∧ ¬ c2 ∧ c3) hd x y)) (f : P x → B) (g : P y → A) : (c1 → A) ∧ (¬ c1 → ((c2 → A) ∧ (¬ c2 → ((c3 → B) ∧ (¬ c3 → A))))) :=
  ⟨fun e => g (by rw [if_neg (fun z => z.1 e)] at h; exact h), fun e => ⟨fun e2 => g (by rw [if_neg (fun z => z.2.1 e2)] at h; exact h), fun e2 => ⟨fun e3 => f (by rw [if_pos ⟨e, e2, e3⟩] at h; exact h), fun e3 => g (by rw [if_neg (fun z => e3 z.2.2)] at h; exact h)⟩⟩⟩
theorem rc_n10 : ¬ (1 : Int32) = 0 := by decide
section
variable {mI mL mS it rs ii iB gr uo ua ub uc : Int32} {so sa sb sc lp ln im ad lb : Nat → Int32} {post : Int32 → Prop} {a b c d : Int32}
theorem rc_x_lw {α : Type} {P : α → Prop} {y z : α} {x : Int32} {hd : Decidable (rc_lw x)} (h : P (@ite α (rc_lw x) hd y z)) (f : P y → post 1) (g : P z → post 0) : wpX_isLow post (mI, mL, mS, it, rs, ii, iB, gr, uo, ua, ub, uc, so, sa, sb, sc, lp, ln, im, ad, lb) x := rc_i2 (c1 := x < 8) (c2 := 15 < x) (hd := hd) h f g
theorem rc_x_sx {α : Type} {P : α → Prop} {y z : α} {x : Int32} {hd : Decidable (rc_sx x)} (h : P (@ite α (rc_sx x) hd y z)) (f : P y → post 1) (g : P z → post 0) : wpX_isSix post (mI, mL, mS, it, rs, ii, iB, gr, uo, ua, ub, uc, so, sa, sb, sc, lp, ln, im, ad, lb) x := rc_i2 (c1 := x < (-32)) (c2 := 31 < x) (hd := hd) h f g
theorem rc_x_wo {α : Type} {P : α → Prop} {y z : α} {x v : Int32} {hd : Decidable (rc_wo x v)} (h : P (@ite α (rc_wo x v) hd y z)) (f : P y → post 1) (g : P z → post 0) : wpX_isWordOffset post (mI, mL, mS, it, rs, ii, iB, gr, uo, ua, ub, uc, so, sa, sb, sc, lp, ln, im, ad, lb) x v := rc_i3 (c1 := x < 0) (c2 := v < x) (c3 := (x &&& 3) = 0) (hd := hd) h f g
theorem rc_x_pk6 {k r v : Int32} (h : post (rc_pk6 k r v)) : wpX_packSix post (mI, mL, mS, it, rs, ii, iB, gr, uo, ua, ub, uc, so, sa, sb, sc, lp, ln, im, ad, lb) k r v := h
theorem rc_x_sAdd (h : post (rc_sAdd a b c)) : wpX_shortAdd post (mI, mL, mS, it, rs, ii, iB, gr, uo, ua, ub, uc, so, sa, sb, sc, lp, ln, im, ad, lb) a b c := rc_ib h id fun h => rc_ib h id fun h => rc_ib h id fun h => rc_ib h id id
theorem rc_x_sAr {op k : Int32} (hk : 35841 + ((op - 2) <<< ((5 : Int32) &&& 31)) = k) (h : post (rc_sAr k a b c)) : wpX_shortArithmetic post (mI, mL, mS, it, rs, ii, iB, gr, uo, ua, ub, uc, so, sa, sb, sc, lp, ln, im, ad, lb) op a b c :=
  rc_ib h (fun h => rc_x_lw h (fun h => br_f rc_n10 (rc_x_lw h (fun h => br_f rc_n10 (nm_r hk h)) (fun h => br_t rfl h))) (fun h => br_t rfl h)) id
theorem rc_x_sAi4 (h : post (rc_sAi4 a b c)) : wX_shortAddi_166 post a b c mI mL mS it rs ii iB gr uo ua ub uc so sa sb sc lp ln im ad lb :=
  rc_x_lw h (fun h => br_f rc_n10 (rc_ib h (fun h => rc_ib h id fun h => rc_x_wo h (fun h => br_f rc_n10 h) (fun h => br_t rfl h)) id)) (fun h => br_t rfl h)
theorem rc_x_sAi3 (h : post (rc_sAi3 a b c)) : wX_shortAddi_69 post a b c mI mL mS it rs ii iB gr uo ua ub uc so sa sb sc lp ln im ad lb :=
  rc_ib h (fun h => rc_ib h (fun h => rc_ib h rc_x_sAi4 fun h => rc_ib h rc_x_sAi4 fun h => rc_ib h rc_x_sAi4 fun h => rc_ib h id rc_x_sAi4) rc_x_sAi4) rc_x_sAi4
theorem rc_x_sAi2 (h : post (rc_sAi2 a b c)) : wX_shortAddi_43 post a b c mI mL mS it rs ii iB gr uo ua ub uc so sa sb sc lp ln im ad lb :=
  rc_ib h (fun h => rc_ib h rc_x_sAi3 fun h => rc_x_sx h (fun h => br_f rc_n10 (rc_x_pk6 h)) (fun h => br_t rfl (rc_x_sAi3 h))) rc_x_sAi3
theorem rc_x_sAi1 (h : post (rc_sAi1 a b c)) : wX_shortAddi_14 post a b c mI mL mS it rs ii iB gr uo ua ub uc so sa sb sc lp ln im ad lb :=
  rc_ib h (fun h => rc_ib h rc_x_sAi2 fun h => rc_ib h rc_x_sAi2 fun h => rc_x_sx h (fun h => br_f rc_n10 (rc_x_pk6 h)) (fun h => br_t rfl (rc_x_sAi2 h))) rc_x_sAi2
theorem rc_x_sAi (h : post (rc_sAi a b c)) : wpX_shortAddi post (mI, mL, mS, it, rs, ii, iB, gr, uo, ua, ub, uc, so, sa, sb, sc, lp, ln, im, ad, lb) a b c :=
  rc_ib h (fun h => rc_ib h (fun h => rc_ib h id rc_x_sAi1) rc_x_sAi1) rc_x_sAi1
theorem rc_x_sMm {k : Int32} (h : post (rc_sMm k a b c)) : wpX_shortMemory post (mI, mL, mS, it, rs, ii, iB, gr, uo, ua, ub, uc, so, sa, sb, sc, lp, ln, im, ad, lb) k a b c := by
  unfold wpX_shortMemory
  exact rc_x_lw h (fun h => br_f rc_n10 (rc_x_lw h (fun h => br_f rc_n10 (rc_x_wo h (fun h => br_f rc_n10 h) (fun h => br_t rfl h))) (fun h => br_t rfl h))) (fun h => br_t rfl h)
theorem rc_x_sLw (h : post (rc_sLw a b c)) : wpX_shortLoad post (mI, mL, mS, it, rs, ii, iB, gr, uo, ua, ub, uc, so, sa, sb, sc, lp, ln, im, ad, lb) a b c :=
  rc_ib h (fun h => rc_ib h (fun h => rc_x_sMm h) fun h => rc_x_wo h (fun h => br_f rc_n10 h) (fun h => br_t rfl (rc_x_sMm h))) (fun h => rc_x_sMm h)
theorem rc_x_sSw (h : post (rc_sSw a b c)) : wpX_shortStore post (mI, mL, mS, it, rs, ii, iB, gr, uo, ua, ub, uc, so, sa, sb, sc, lp, ln, im, ad, lb) a b c :=
  rc_ib h (fun h => rc_x_wo h (fun h => br_f rc_n10 h) (fun h => br_t rfl (rc_x_sMm h))) (fun h => rc_x_sMm h)
theorem rc_x_sJr (h : post (rc_sJr a b c)) : wpX_shortJalr post (mI, mL, mS, it, rs, ii, iB, gr, uo, ua, ub, uc, so, sa, sb, sc, lp, ln, im, ad, lb) a b c :=
  rc_ib h id fun h => rc_ib h id fun h => rc_ib h (fun h => rc_ib h id id) id
theorem rc_x_sJm (h : post (rc_sJm a d)) : wpX_shortJump post (mI, mL, mS, it, rs, ii, iB, gr, uo, ua, ub, uc, so, sa, sb, sc, lp, ln, im, ad, lb) a d :=
  rc_ib h id fun h => rc_ib h id fun h => rc_ib h (fun h => rc_ib h id id) id
theorem rc_x_sBr {k : Int32} (h : post (rc_sBr k a b d)) : wpX_shortBranch post (mI, mL, mS, it, rs, ii, iB, gr, uo, ua, ub, uc, so, sa, sb, sc, lp, ln, im, ad, lb) k a b d := by
  unfold wpX_shortBranch
  exact rc_x_lw h (fun h => br_f rc_n10 (rc_ib h (fun h => rc_ib h id fun h => rc_ib h id id) id)) (fun h => br_t rfl h)
theorem rc_x_sf0 (h : post (rc_sf 0 a b c d)) : wpX_shortForm post (mI, mL, mS, it, rs, ii, iB, gr, uo, ua, ub, uc, so, sa, sb, sc, lp, ln, im, ad, lb) 0 a b c d := by
  rw [rc_sf_0] at h
  exact br_t (by decide) h
theorem rc_x_sf1 (h : post (rc_sf 1 a b c d)) : wpX_shortForm post (mI, mL, mS, it, rs, ii, iB, gr, uo, ua, ub, uc, so, sa, sb, sc, lp, ln, im, ad, lb) 1 a b c d := by
  rw [rc_sf_1] at h
  exact (br_f (by decide) (br_f (by decide) (br_t rfl (rc_x_sAdd h))))
theorem rc_x_sf2 (h : post (rc_sf 2 a b c d)) : wpX_shortForm post (mI, mL, mS, it, rs, ii, iB, gr, uo, ua, ub, uc, so, sa, sb, sc, lp, ln, im, ad, lb) 2 a b c d := by
  rw [rc_sf_2] at h
  exact (br_f (by decide) (br_f (by decide) (br_f (by decide) (br_t rfl (rc_x_sAr (by decide) h)))))
theorem rc_x_sf3 (h : post (rc_sf 3 a b c d)) : wpX_shortForm post (mI, mL, mS, it, rs, ii, iB, gr, uo, ua, ub, uc, so, sa, sb, sc, lp, ln, im, ad, lb) 3 a b c d := by
  rw [rc_sf_3] at h
  exact (br_f (by decide) (br_f (by decide) (br_f (by decide) (br_f (by decide) (br_t rfl (rc_x_sAr (by decide) h))))))
theorem rc_x_sf4 (h : post (rc_sf 4 a b c d)) : wpX_shortForm post (mI, mL, mS, it, rs, ii, iB, gr, uo, ua, ub, uc, so, sa, sb, sc, lp, ln, im, ad, lb) 4 a b c d := by
  rw [rc_sf_4] at h
  exact (br_f (by decide) (br_f (by decide) (br_f (by decide) (br_f (by decide) (br_f (by decide) (br_t rfl (rc_x_sAr (by decide) h)))))))
theorem rc_x_sf5 (h : post (rc_sf 5 a b c d)) : wpX_shortForm post (mI, mL, mS, it, rs, ii, iB, gr, uo, ua, ub, uc, so, sa, sb, sc, lp, ln, im, ad, lb) 5 a b c d := by
  rw [rc_sf_5] at h
  exact (br_f (by decide) (br_f (by decide) (br_f (by decide) (br_f (by decide) (br_f (by decide) (br_f (by decide) (br_t rfl (rc_x_sAr (by decide) h))))))))
theorem rc_x_sf6 (h : post (rc_sf 6 a b c d)) : wpX_shortForm post (mI, mL, mS, it, rs, ii, iB, gr, uo, ua, ub, uc, so, sa, sb, sc, lp, ln, im, ad, lb) 6 a b c d := by
  rw [rc_sf_6] at h
  exact (br_f (by decide) (br_f (by decide) (br_f (by decide) (br_f (by decide) (br_f (by decide) (br_f (by decide) (br_f (by decide) (br_t rfl (h)))))))))
theorem rc_x_sf7 (h : post (rc_sf 7 a b c d)) : wpX_shortForm post (mI, mL, mS, it, rs, ii, iB, gr, uo, ua, ub, uc, so, sa, sb, sc, lp, ln, im, ad, lb) 7 a b c d := by
  rw [rc_sf_7] at h
  exact (br_f (by decide) (br_f (by decide) (br_f (by decide) (br_f (by decide) (br_f (by decide) (br_f (by decide) (br_f (by decide) (br_f (by decide) (br_t rfl (rc_x_sAi h))))))))))
theorem rc_x_sf8 (h : post (rc_sf 8 a b c d)) : wpX_shortForm post (mI, mL, mS, it, rs, ii, iB, gr, uo, ua, ub, uc, so, sa, sb, sc, lp, ln, im, ad, lb) 8 a b c d := by
  rw [rc_sf_8] at h
  exact (br_f (by decide) (br_f (by decide) (br_f (by decide) (br_f (by decide) (br_f (by decide) (br_f (by decide) (br_f (by decide) (br_f (by decide) (br_f (by decide) (br_t rfl (rc_ib h (fun h => rc_x_lw h (fun h => br_f rc_n10 (rc_x_sx h (fun h => br_f rc_n10 (rc_x_pk6 h)) (fun h => br_t rfl h))) (fun h => br_t rfl h)) id)))))))))))
theorem rc_x_sf9 (h : post (rc_sf 9 a b c d)) : wpX_shortForm post (mI, mL, mS, it, rs, ii, iB, gr, uo, ua, ub, uc, so, sa, sb, sc, lp, ln, im, ad, lb) 9 a b c d := by
  rw [rc_sf_9] at h
  exact (br_f (by decide) (br_f (by decide) (br_f (by decide) (br_f (by decide) (br_f (by decide) (br_f (by decide) (br_f (by decide) (br_f (by decide) (br_f (by decide) (br_f (by decide) (br_t rfl (h))))))))))))
theorem rc_x_sf10 (h : post (rc_sf 10 a b c d)) : wpX_shortForm post (mI, mL, mS, it, rs, ii, iB, gr, uo, ua, ub, uc, so, sa, sb, sc, lp, ln, im, ad, lb) 10 a b c d := by
  rw [rc_sf_10] at h
  exact (br_f (by decide) (br_f (by decide) (br_f (by decide) (br_f (by decide) (br_f (by decide) (br_f (by decide) (br_f (by decide) (br_f (by decide) (br_f (by decide) (br_f (by decide) (br_f (by decide) (br_t rfl (rc_ib h (fun h => rc_ib h id fun h => rc_ib h id fun h => rc_x_pk6 h) id)))))))))))))
theorem rc_x_sf11 (h : post (rc_sf 11 a b c d)) : wpX_shortForm post (mI, mL, mS, it, rs, ii, iB, gr, uo, ua, ub, uc, so, sa, sb, sc, lp, ln, im, ad, lb) 11 a b c d := by
  rw [rc_sf_11] at h
  exact (br_f (by decide) (br_f (by decide) (br_f (by decide) (br_f (by decide) (br_f (by decide) (br_f (by decide) (br_f (by decide) (br_f (by decide) (br_f (by decide) (br_f (by decide) (br_f (by decide) (br_f (by decide) (br_t rfl (rc_ib h (fun h => rc_x_lw h (fun h => br_f rc_n10 (rc_ib h id id)) (fun h => br_t rfl h)) id))))))))))))))
theorem rc_x_sf12 (h : post (rc_sf 12 a b c d)) : wpX_shortForm post (mI, mL, mS, it, rs, ii, iB, gr, uo, ua, ub, uc, so, sa, sb, sc, lp, ln, im, ad, lb) 12 a b c d := by
  rw [rc_sf_12] at h
  exact (br_f (by decide) (br_f (by decide) (br_f (by decide) (br_f (by decide) (br_f (by decide) (br_f (by decide) (br_f (by decide) (br_f (by decide) (br_f (by decide) (br_f (by decide) (br_f (by decide) (br_f (by decide) (br_f (by decide) (br_t rfl (rc_ib h (fun h => rc_x_lw h (fun h => br_f rc_n10 (rc_ib h id id)) (fun h => br_t rfl h)) id)))))))))))))))
theorem rc_x_sf13 (h : post (rc_sf 13 a b c d)) : wpX_shortForm post (mI, mL, mS, it, rs, ii, iB, gr, uo, ua, ub, uc, so, sa, sb, sc, lp, ln, im, ad, lb) 13 a b c d := by
  rw [rc_sf_13] at h
  exact (br_f (by decide) (br_f (by decide) (br_f (by decide) (br_f (by decide) (br_f (by decide) (br_f (by decide) (br_f (by decide) (br_f (by decide) (br_f (by decide) (br_f (by decide) (br_f (by decide) (br_f (by decide) (br_f (by decide) (br_f (by decide) (br_t rfl (rc_x_sLw h))))))))))))))))
theorem rc_x_sf14 (h : post (rc_sf 14 a b c d)) : wpX_shortForm post (mI, mL, mS, it, rs, ii, iB, gr, uo, ua, ub, uc, so, sa, sb, sc, lp, ln, im, ad, lb) 14 a b c d := by
  rw [rc_sf_14] at h
  exact (br_f (by decide) (br_f (by decide) (br_f (by decide) (br_f (by decide) (br_f (by decide) (br_f (by decide) (br_f (by decide) (br_f (by decide) (br_f (by decide) (br_f (by decide) (br_f (by decide) (br_f (by decide) (br_f (by decide) (br_f (by decide) (br_f (by decide) (br_t rfl (rc_x_sSw h)))))))))))))))))
theorem rc_x_sf15 (h : post (rc_sf 15 a b c d)) : wpX_shortForm post (mI, mL, mS, it, rs, ii, iB, gr, uo, ua, ub, uc, so, sa, sb, sc, lp, ln, im, ad, lb) 15 a b c d := by
  rw [rc_sf_15] at h
  exact (br_f (by decide) (br_f (by decide) (br_f (by decide) (br_f (by decide) (br_f (by decide) (br_f (by decide) (br_f (by decide) (br_f (by decide) (br_f (by decide) (br_f (by decide) (br_f (by decide) (br_f (by decide) (br_f (by decide) (br_f (by decide) (br_f (by decide) (br_f (by decide) (br_t rfl (rc_ib h id fun h => rc_ib h id fun h => rc_ib h id fun h => rc_x_sx h (fun h => br_f rc_n10 (rc_x_pk6 h)) (fun h => br_t rfl h)))))))))))))))))))
theorem rc_x_sf16 (h : post (rc_sf 16 a b c d)) : wpX_shortForm post (mI, mL, mS, it, rs, ii, iB, gr, uo, ua, ub, uc, so, sa, sb, sc, lp, ln, im, ad, lb) 16 a b c d := by
  rw [rc_sf_16] at h
  exact (br_f (by decide) (br_f (by decide) (br_f (by decide) (br_f (by decide) (br_f (by decide) (br_f (by decide) (br_f (by decide) (br_f (by decide) (br_f (by decide) (br_f (by decide) (br_f (by decide) (br_f (by decide) (br_f (by decide) (br_f (by decide) (br_f (by decide) (br_f (by decide) (br_f (by decide) (br_t rfl (rc_x_sJr h)))))))))))))))))))
theorem rc_x_sf17 (h : post (rc_sf 17 a b c d)) : wpX_shortForm post (mI, mL, mS, it, rs, ii, iB, gr, uo, ua, ub, uc, so, sa, sb, sc, lp, ln, im, ad, lb) 17 a b c d := by
  rw [rc_sf_17] at h
  exact (br_f (by decide) (br_f (by decide) (br_f (by decide) (br_f (by decide) (br_f (by decide) (br_f (by decide) (br_f (by decide) (br_f (by decide) (br_f (by decide) (br_f (by decide) (br_f (by decide) (br_f (by decide) (br_f (by decide) (br_f (by decide) (br_f (by decide) (br_f (by decide) (br_f (by decide) (br_f (by decide) (br_t rfl (rc_x_sJm h))))))))))))))))))))
theorem rc_x_sf18 (h : post (rc_sf 18 a b c d)) : wpX_shortForm post (mI, mL, mS, it, rs, ii, iB, gr, uo, ua, ub, uc, so, sa, sb, sc, lp, ln, im, ad, lb) 18 a b c d := by
  rw [rc_sf_18] at h
  exact (br_f (by decide) (br_f (by decide) (br_f (by decide) (br_f (by decide) (br_f (by decide) (br_f (by decide) (br_f (by decide) (br_f (by decide) (br_f (by decide) (br_f (by decide) (br_f (by decide) (br_f (by decide) (br_f (by decide) (br_f (by decide) (br_f (by decide) (br_f (by decide) (br_f (by decide) (br_f (by decide) (br_f (by decide) (br_t rfl (rc_x_sBr h)))))))))))))))))))))
theorem rc_x_sf19 (h : post (rc_sf 19 a b c d)) : wpX_shortForm post (mI, mL, mS, it, rs, ii, iB, gr, uo, ua, ub, uc, so, sa, sb, sc, lp, ln, im, ad, lb) 19 a b c d := by
  rw [rc_sf_19] at h
  exact (br_f (by decide) (br_f (by decide) (br_f (by decide) (br_f (by decide) (br_f (by decide) (br_f (by decide) (br_f (by decide) (br_f (by decide) (br_f (by decide) (br_f (by decide) (br_f (by decide) (br_f (by decide) (br_f (by decide) (br_f (by decide) (br_f (by decide) (br_f (by decide) (br_f (by decide) (br_f (by decide) (br_f (by decide) (br_f (by decide) (br_t rfl (rc_x_sBr h))))))))))))))))))))))
theorem rc_x_sf20 (h : post (rc_sf 20 a b c d)) : wpX_shortForm post (mI, mL, mS, it, rs, ii, iB, gr, uo, ua, ub, uc, so, sa, sb, sc, lp, ln, im, ad, lb) 20 a b c d := by
  rw [rc_sf_20] at h
  exact (br_f (by decide) (br_f (by decide) (br_f (by decide) (br_f (by decide) (br_f (by decide) (br_f (by decide) (br_f (by decide) (br_f (by decide) (br_f (by decide) (br_f (by decide) (br_f (by decide) (br_f (by decide) (br_f (by decide) (br_f (by decide) (br_f (by decide) (br_f (by decide) (br_f (by decide) (br_f (by decide) (br_f (by decide) (br_f (by decide) (br_f (by decide) (br_t rfl (h)))))))))))))))))))))))
theorem rc_x_sf21 (h : post (rc_sf 21 a b c d)) : wpX_shortForm post (mI, mL, mS, it, rs, ii, iB, gr, uo, ua, ub, uc, so, sa, sb, sc, lp, ln, im, ad, lb) 21 a b c d := by
  rw [rc_sf_21] at h
  exact (br_f (by decide) (br_f (by decide) (br_f (by decide) (br_f (by decide) (br_f (by decide) (br_f (by decide) (br_f (by decide) (br_f (by decide) (br_f (by decide) (br_f (by decide) (br_f (by decide) (br_f (by decide) (br_f (by decide) (br_f (by decide) (br_f (by decide) (br_f (by decide) (br_f (by decide) (br_f (by decide) (br_f (by decide) (br_f (by decide) (br_f (by decide) (br_f (by decide) (br_t rfl (h))))))))))))))))))))))))
theorem rc_x_f3_1 (h : post 0) : wpX_funct3 post (mI, mL, mS, it, rs, ii, iB, gr, uo, ua, ub, uc, so, sa, sb, sc, lp, ln, im, ad, lb) 1 := br_t (by decide) h
theorem rc_x_f3_2 (h : post 0) : wpX_funct3 post (mI, mL, mS, it, rs, ii, iB, gr, uo, ua, ub, uc, so, sa, sb, sc, lp, ln, im, ad, lb) 2 := br_t (by decide) h
theorem rc_x_f3_3 (h : post 4) : wpX_funct3 post (mI, mL, mS, it, rs, ii, iB, gr, uo, ua, ub, uc, so, sa, sb, sc, lp, ln, im, ad, lb) 3 := (br_f (by decide) (br_f (by decide) (br_t rfl (h))))
theorem rc_x_f3_4 (h : post 6) : wpX_funct3 post (mI, mL, mS, it, rs, ii, iB, gr, uo, ua, ub, uc, so, sa, sb, sc, lp, ln, im, ad, lb) 4 := (br_f (by decide) (br_f (by decide) (br_f (by decide) (br_t rfl (h)))))
theorem rc_x_f3_5 (h : post 7) : wpX_funct3 post (mI, mL, mS, it, rs, ii, iB, gr, uo, ua, ub, uc, so, sa, sb, sc, lp, ln, im, ad, lb) 5 := (br_f (by decide) (br_f (by decide) (br_f (by decide) (br_f (by decide) (br_t rfl (h))))))
theorem rc_x_f3_6 (h : post 2) : wpX_funct3 post (mI, mL, mS, it, rs, ii, iB, gr, uo, ua, ub, uc, so, sa, sb, sc, lp, ln, im, ad, lb) 6 := (br_f (by decide) (br_f (by decide) (br_f (by decide) (br_f (by decide) (br_f (by decide) (br_t rfl (h)))))))
theorem rc_x_f3_7 (h : post 0) : wpX_funct3 post (mI, mL, mS, it, rs, ii, iB, gr, uo, ua, ub, uc, so, sa, sb, sc, lp, ln, im, ad, lb) 7 := (br_f (by decide) (br_f (by decide) (br_f (by decide) (br_f (by decide) (br_f (by decide) (br_f (by decide) (br_t rfl (h))))))))
theorem rc_x_f3_8 (h : post 7) : wpX_funct3 post (mI, mL, mS, it, rs, ii, iB, gr, uo, ua, ub, uc, so, sa, sb, sc, lp, ln, im, ad, lb) 8 := (br_f (by decide) (br_f (by decide) (br_f (by decide) (br_f (by decide) (br_f (by decide) (br_f (by decide) (br_f (by decide) (br_t rfl (h)))))))))
theorem rc_x_f3_9 (h : post 4) : wpX_funct3 post (mI, mL, mS, it, rs, ii, iB, gr, uo, ua, ub, uc, so, sa, sb, sc, lp, ln, im, ad, lb) 9 := (br_f (by decide) (br_f (by decide) (br_f (by decide) (br_f (by decide) (br_f (by decide) (br_f (by decide) (br_f (by decide) (br_f (by decide) (br_t rfl (h))))))))))
theorem rc_x_f3_10 (h : post 1) : wpX_funct3 post (mI, mL, mS, it, rs, ii, iB, gr, uo, ua, ub, uc, so, sa, sb, sc, lp, ln, im, ad, lb) 10 := (br_f (by decide) (br_f (by decide) (br_f (by decide) (br_f (by decide) (br_f (by decide) (br_f (by decide) (br_f (by decide) (br_f (by decide) (br_f (by decide) (br_t rfl (h)))))))))))
theorem rc_x_f3_11 (h : post 5) : wpX_funct3 post (mI, mL, mS, it, rs, ii, iB, gr, uo, ua, ub, uc, so, sa, sb, sc, lp, ln, im, ad, lb) 11 := (br_f (by decide) (br_f (by decide) (br_f (by decide) (br_f (by decide) (br_f (by decide) (br_f (by decide) (br_f (by decide) (br_f (by decide) (br_f (by decide) (br_f (by decide) (br_t rfl (h))))))))))))
theorem rc_x_f3_12 (h : post 5) : wpX_funct3 post (mI, mL, mS, it, rs, ii, iB, gr, uo, ua, ub, uc, so, sa, sb, sc, lp, ln, im, ad, lb) 12 := (br_f (by decide) (br_f (by decide) (br_f (by decide) (br_f (by decide) (br_f (by decide) (br_f (by decide) (br_f (by decide) (br_f (by decide) (br_f (by decide) (br_f (by decide) (br_f (by decide) (br_t rfl (h)))))))))))))
theorem rc_x_f3_13 (h : post 2) : wpX_funct3 post (mI, mL, mS, it, rs, ii, iB, gr, uo, ua, ub, uc, so, sa, sb, sc, lp, ln, im, ad, lb) 13 := (br_f (by decide) (br_f (by decide) (br_f (by decide) (br_f (by decide) (br_f (by decide) (br_f (by decide) (br_f (by decide) (br_f (by decide) (br_f (by decide) (br_f (by decide) (br_f (by decide) (br_f (by decide) (br_t rfl (h))))))))))))))
theorem rc_x_f3_14 (h : post 2) : wpX_funct3 post (mI, mL, mS, it, rs, ii, iB, gr, uo, ua, ub, uc, so, sa, sb, sc, lp, ln, im, ad, lb) 14 := (br_f (by decide) (br_f (by decide) (br_f (by decide) (br_f (by decide) (br_f (by decide) (br_f (by decide) (br_f (by decide) (br_f (by decide) (br_f (by decide) (br_f (by decide) (br_f (by decide) (br_f (by decide) (br_f (by decide) (br_t rfl (h)))))))))))))))
theorem rc_x_f3_15 (h : post 0) : wpX_funct3 post (mI, mL, mS, it, rs, ii, iB, gr, uo, ua, ub, uc, so, sa, sb, sc, lp, ln, im, ad, lb) 15 := (br_f (by decide) (br_f (by decide) (br_f (by decide) (br_f (by decide) (br_f (by decide) (br_f (by decide) (br_f (by decide) (br_f (by decide) (br_f (by decide) (br_f (by decide) (br_f (by decide) (br_f (by decide) (br_f (by decide) (br_f (by decide) (br_t rfl (h))))))))))))))))
theorem rc_x_f3_16 (h : post 0) : wpX_funct3 post (mI, mL, mS, it, rs, ii, iB, gr, uo, ua, ub, uc, so, sa, sb, sc, lp, ln, im, ad, lb) 16 := (br_f (by decide) (br_f (by decide) (br_f (by decide) (br_f (by decide) (br_f (by decide) (br_f (by decide) (br_f (by decide) (br_f (by decide) (br_f (by decide) (br_f (by decide) (br_f (by decide) (br_f (by decide) (br_f (by decide) (br_f (by decide) (br_f (by decide) (br_t rfl (h)))))))))))))))))
theorem rc_x_f3_17 (h : post 0) : wpX_funct3 post (mI, mL, mS, it, rs, ii, iB, gr, uo, ua, ub, uc, so, sa, sb, sc, lp, ln, im, ad, lb) 17 := (br_f (by decide) (br_f (by decide) (br_f (by decide) (br_f (by decide) (br_f (by decide) (br_f (by decide) (br_f (by decide) (br_f (by decide) (br_f (by decide) (br_f (by decide) (br_f (by decide) (br_f (by decide) (br_f (by decide) (br_f (by decide) (br_f (by decide) (br_f (by decide) (br_t rfl (h))))))))))))))))))
theorem rc_x_f3_18 (h : post 0) : wpX_funct3 post (mI, mL, mS, it, rs, ii, iB, gr, uo, ua, ub, uc, so, sa, sb, sc, lp, ln, im, ad, lb) 18 := (br_f (by decide) (br_f (by decide) (br_f (by decide) (br_f (by decide) (br_f (by decide) (br_f (by decide) (br_f (by decide) (br_f (by decide) (br_f (by decide) (br_f (by decide) (br_f (by decide) (br_f (by decide) (br_f (by decide) (br_f (by decide) (br_f (by decide) (br_f (by decide) (br_f (by decide) (br_t rfl (h)))))))))))))))))))
theorem rc_x_f3_19 (h : post 1) : wpX_funct3 post (mI, mL, mS, it, rs, ii, iB, gr, uo, ua, ub, uc, so, sa, sb, sc, lp, ln, im, ad, lb) 19 := (br_f (by decide) (br_f (by decide) (br_f (by decide) (br_f (by decide) (br_f (by decide) (br_f (by decide) (br_f (by decide) (br_f (by decide) (br_f (by decide) (br_f (by decide) (br_f (by decide) (br_f (by decide) (br_f (by decide) (br_f (by decide) (br_f (by decide) (br_f (by decide) (br_f (by decide) (br_f (by decide) (br_t rfl (h))))))))))))))))))))
theorem rc_x_f3_20 (h : post 4) : wpX_funct3 post (mI, mL, mS, it, rs, ii, iB, gr, uo, ua, ub, uc, so, sa, sb, sc, lp, ln, im, ad, lb) 20 := (br_f (by decide) (br_f (by decide) (br_f (by decide) (br_f (by decide) (br_f (by decide) (br_f (by decide) (br_f (by decide) (br_f (by decide) (br_f (by decide) (br_f (by decide) (br_f (by decide) (br_f (by decide) (br_f (by decide) (br_f (by decide) (br_f (by decide) (br_f (by decide) (br_f (by decide) (br_f (by decide) (br_f (by decide) (br_t rfl (h)))))))))))))))))))))
theorem rc_x_f3_21 (h : post 0) : wpX_funct3 post (mI, mL, mS, it, rs, ii, iB, gr, uo, ua, ub, uc, so, sa, sb, sc, lp, ln, im, ad, lb) 21 := br_f (by decide) (br_t (by decide) h)
theorem rc_x_f3_0 (h : post 0) : wpX_funct3 post (mI, mL, mS, it, rs, ii, iB, gr, uo, ua, ub, uc, so, sa, sb, sc, lp, ln, im, ad, lb) 0 := br_t (by decide) h
theorem rc_x_rg {op f a b c : Int32} (h2 : op = 2 → post (rc_cRg 32 f a b c)) (h1 : ¬ op = 2 → post (rc_cRg 0 f a b c)) : wpX_registerWord post (mI, mL, mS, it, rs, ii, iB, gr, uo, ua, ub, uc, so, sa, sb, sc, lp, ln, im, ad, lb) op f a b c := br_c h2 h1
theorem rc_x_lf0 (h : post (rc_lf 0 a b c d)) : wpX_longForm post (mI, mL, mS, it, rs, ii, iB, gr, uo, ua, ub, uc, so, sa, sb, sc, lp, ln, im, ad, lb) 0 a b c d := by
  rw [rc_lf_0] at h
  unfold wpX_longForm
  exact rc_x_f3_0 (br_f (by decide) (br_f (by decide) (br_t rfl h)))
theorem rc_x_lf1 (h : post (rc_lf 1 a b c d)) : wpX_longForm post (mI, mL, mS, it, rs, ii, iB, gr, uo, ua, ub, uc, so, sa, sb, sc, lp, ln, im, ad, lb) 1 a b c d := by
  rw [rc_lf_1] at h
  unfold wpX_longForm
  exact rc_x_f3_1 (br_f (by decide) (br_f (by decide) (br_f (by decide) (br_t rfl (rc_x_rg (fun z => absurd z (by decide)) (fun _ => h))))))
theorem rc_x_lf2 (h : post (rc_lf 2 a b c d)) : wpX_longForm post (mI, mL, mS, it, rs, ii, iB, gr, uo, ua, ub, uc, so, sa, sb, sc, lp, ln, im, ad, lb) 2 a b c d := by
  rw [rc_lf_2] at h
  unfold wpX_longForm
  exact rc_x_f3_2 (br_f (by decide) (br_f (by decide) (br_f (by decide) (br_f (by decide) (br_t rfl (rc_x_rg (fun _ => h) (fun z => absurd rfl z)))))))
theorem rc_x_lf3 (h : post (rc_lf 3 a b c d)) : wpX_longForm post (mI, mL, mS, it, rs, ii, iB, gr, uo, ua, ub, uc, so, sa, sb, sc, lp, ln, im, ad, lb) 3 a b c d := by
  rw [rc_lf_3] at h
  unfold wpX_longForm
  exact rc_x_f3_3 (br_f (by decide) (br_f (by decide) (br_f (by decide) (br_f (by decide) (br_f (by decide) (br_t rfl (rc_x_rg (fun z => absurd z (by decide)) (fun _ => h))))))))
theorem rc_x_lf4 (h : post (rc_lf 4 a b c d)) : wpX_longForm post (mI, mL, mS, it, rs, ii, iB, gr, uo, ua, ub, uc, so, sa, sb, sc, lp, ln, im, ad, lb) 4 a b c d := by
  rw [rc_lf_4] at h
  unfold wpX_longForm
  exact rc_x_f3_4 (br_f (by decide) (br_f (by decide) (br_f (by decide) (br_f (by decide) (br_f (by decide) (br_f (by decide) (br_t rfl (rc_x_rg (fun z => absurd z (by decide)) (fun _ => h)))))))))
theorem rc_x_lf5 (h : post (rc_lf 5 a b c d)) : wpX_longForm post (mI, mL, mS, it, rs, ii, iB, gr, uo, ua, ub, uc, so, sa, sb, sc, lp, ln, im, ad, lb) 5 a b c d := by
  rw [rc_lf_5] at h
  unfold wpX_longForm
  exact rc_x_f3_5 (br_f (by decide) (br_f (by decide) (br_f (by decide) (br_f (by decide) (br_f (by decide) (br_f (by decide) (br_f (by decide) (br_t rfl (rc_x_rg (fun z => absurd z (by decide)) (fun _ => h))))))))))
theorem rc_x_lf6 (h : post (rc_lf 6 a b c d)) : wpX_longForm post (mI, mL, mS, it, rs, ii, iB, gr, uo, ua, ub, uc, so, sa, sb, sc, lp, ln, im, ad, lb) 6 a b c d := by
  rw [rc_lf_6] at h
  unfold wpX_longForm
  exact rc_x_f3_6 (br_f (by decide) (br_f (by decide) (br_f (by decide) (br_f (by decide) (br_f (by decide) (br_f (by decide) (br_f (by decide) (br_f (by decide) (br_t rfl (rc_x_rg (fun z => absurd z (by decide)) (fun _ => h)))))))))))
theorem rc_x_lf7 (h : post (rc_lf 7 a b c d)) : wpX_longForm post (mI, mL, mS, it, rs, ii, iB, gr, uo, ua, ub, uc, so, sa, sb, sc, lp, ln, im, ad, lb) 7 a b c d := by
  rw [rc_lf_7] at h
  unfold wpX_longForm
  exact rc_x_f3_7 (br_f (by decide) (br_f (by decide) (br_f (by decide) (br_f (by decide) (br_f (by decide) (br_f (by decide) (br_f (by decide) (br_f (by decide) (br_f (by decide) (br_t rfl (h)))))))))))
theorem rc_x_lf8 (h : post (rc_lf 8 a b c d)) : wpX_longForm post (mI, mL, mS, it, rs, ii, iB, gr, uo, ua, ub, uc, so, sa, sb, sc, lp, ln, im, ad, lb) 8 a b c d := by
  rw [rc_lf_8] at h
  unfold wpX_longForm
  exact rc_x_f3_8 (br_f (by decide) (br_f (by decide) (br_f (by decide) (br_f (by decide) (br_f (by decide) (br_f (by decide) (br_f (by decide) (br_f (by decide) (br_f (by decide) (br_f (by decide) (br_t rfl (h))))))))))))
theorem rc_x_lf9 (h : post (rc_lf 9 a b c d)) : wpX_longForm post (mI, mL, mS, it, rs, ii, iB, gr, uo, ua, ub, uc, so, sa, sb, sc, lp, ln, im, ad, lb) 9 a b c d := by
  rw [rc_lf_9] at h
  unfold wpX_longForm
  exact rc_x_f3_9 (br_f (by decide) (br_f (by decide) (br_f (by decide) (br_f (by decide) (br_f (by decide) (br_f (by decide) (br_f (by decide) (br_f (by decide) (br_f (by decide) (br_f (by decide) (br_f (by decide) (br_t rfl (h)))))))))))))
theorem rc_x_lf10 (h : post (rc_lf 10 a b c d)) : wpX_longForm post (mI, mL, mS, it, rs, ii, iB, gr, uo, ua, ub, uc, so, sa, sb, sc, lp, ln, im, ad, lb) 10 a b c d := by
  rw [rc_lf_10] at h
  unfold wpX_longForm
  exact rc_x_f3_10 (br_f (by decide) (br_f (by decide) (br_f (by decide) (br_f (by decide) (br_f (by decide) (br_f (by decide) (br_f (by decide) (br_f (by decide) (br_f (by decide) (br_f (by decide) (br_f (by decide) (br_f (by decide) (br_t rfl (h))))))))))))))
theorem rc_x_lf11 (h : post (rc_lf 11 a b c d)) : wpX_longForm post (mI, mL, mS, it, rs, ii, iB, gr, uo, ua, ub, uc, so, sa, sb, sc, lp, ln, im, ad, lb) 11 a b c d := by
  rw [rc_lf_11] at h
  unfold wpX_longForm
  exact rc_x_f3_11 (br_f (by decide) (br_f (by decide) (br_f (by decide) (br_f (by decide) (br_f (by decide) (br_f (by decide) (br_f (by decide) (br_f (by decide) (br_f (by decide) (br_f (by decide) (br_f (by decide) (br_f (by decide) (br_f (by decide) (br_t rfl (h)))))))))))))))
theorem rc_x_lf12 (h : post (rc_lf 12 a b c d)) : wpX_longForm post (mI, mL, mS, it, rs, ii, iB, gr, uo, ua, ub, uc, so, sa, sb, sc, lp, ln, im, ad, lb) 12 a b c d := by
  rw [rc_lf_12] at h
  unfold wpX_longForm
  exact rc_x_f3_12 (br_f (by decide) (br_f (by decide) (br_f (by decide) (br_f (by decide) (br_f (by decide) (br_f (by decide) (br_f (by decide) (br_f (by decide) (br_f (by decide) (br_f (by decide) (br_f (by decide) (br_f (by decide) (br_f (by decide) (br_f (by decide) (br_t rfl (h))))))))))))))))
theorem rc_x_lf13 (h : post (rc_lf 13 a b c d)) : wpX_longForm post (mI, mL, mS, it, rs, ii, iB, gr, uo, ua, ub, uc, so, sa, sb, sc, lp, ln, im, ad, lb) 13 a b c d := by
  rw [rc_lf_13] at h
  unfold wpX_longForm
  exact rc_x_f3_13 (br_f (by decide) (br_f (by decide) (br_f (by decide) (br_f (by decide) (br_f (by decide) (br_f (by decide) (br_f (by decide) (br_f (by decide) (br_f (by decide) (br_f (by decide) (br_f (by decide) (br_f (by decide) (br_f (by decide) (br_f (by decide) (br_f (by decide) (br_t rfl (h)))))))))))))))))
theorem rc_x_lf14 (h : post (rc_lf 14 a b c d)) : wpX_longForm post (mI, mL, mS, it, rs, ii, iB, gr, uo, ua, ub, uc, so, sa, sb, sc, lp, ln, im, ad, lb) 14 a b c d := by
  rw [rc_lf_14] at h
  unfold wpX_longForm
  exact rc_x_f3_14 (br_f (by decide) (br_f (by decide) (br_f (by decide) (br_f (by decide) (br_f (by decide) (br_f (by decide) (br_f (by decide) (br_f (by decide) (br_f (by decide) (br_f (by decide) (br_f (by decide) (br_f (by decide) (br_f (by decide) (br_f (by decide) (br_f (by decide) (br_f (by decide) (br_t rfl (h))))))))))))))))))
theorem rc_x_lf15 (h : post (rc_lf 15 a b c d)) : wpX_longForm post (mI, mL, mS, it, rs, ii, iB, gr, uo, ua, ub, uc, so, sa, sb, sc, lp, ln, im, ad, lb) 15 a b c d := by
  rw [rc_lf_15] at h
  unfold wpX_longForm
  exact rc_x_f3_15 (br_f (by decide) (br_f (by decide) (br_f (by decide) (br_f (by decide) (br_f (by decide) (br_f (by decide) (br_f (by decide) (br_f (by decide) (br_f (by decide) (br_f (by decide) (br_f (by decide) (br_f (by decide) (br_f (by decide) (br_f (by decide) (br_f (by decide) (br_f (by decide) (br_f (by decide) (br_t rfl (h)))))))))))))))))))
theorem rc_x_lf16 (h : post (rc_lf 16 a b c d)) : wpX_longForm post (mI, mL, mS, it, rs, ii, iB, gr, uo, ua, ub, uc, so, sa, sb, sc, lp, ln, im, ad, lb) 16 a b c d := by
  rw [rc_lf_16] at h
  unfold wpX_longForm
  exact rc_x_f3_16 (br_f (by decide) (br_f (by decide) (br_f (by decide) (br_f (by decide) (br_f (by decide) (br_f (by decide) (br_f (by decide) (br_f (by decide) (br_f (by decide) (br_f (by decide) (br_f (by decide) (br_f (by decide) (br_f (by decide) (br_f (by decide) (br_f (by decide) (br_f (by decide) (br_f (by decide) (br_f (by decide) (br_t rfl (h))))))))))))))))))))
theorem rc_x_lf17 (h : post (rc_lf 17 a b c d)) : wpX_longForm post (mI, mL, mS, it, rs, ii, iB, gr, uo, ua, ub, uc, so, sa, sb, sc, lp, ln, im, ad, lb) 17 a b c d := by
  rw [rc_lf_17] at h
  unfold wpX_longForm
  exact rc_x_f3_17 (br_f (by decide) (br_f (by decide) (br_f (by decide) (br_f (by decide) (br_f (by decide) (br_f (by decide) (br_f (by decide) (br_f (by decide) (br_f (by decide) (br_f (by decide) (br_f (by decide) (br_f (by decide) (br_f (by decide) (br_f (by decide) (br_f (by decide) (br_f (by decide) (br_f (by decide) (br_f (by decide) (br_f (by decide) (br_t rfl (h)))))))))))))))))))))
theorem rc_x_lf18 (h : post (rc_lf 18 a b c d)) : wpX_longForm post (mI, mL, mS, it, rs, ii, iB, gr, uo, ua, ub, uc, so, sa, sb, sc, lp, ln, im, ad, lb) 18 a b c d := by
  rw [rc_lf_18] at h
  unfold wpX_longForm
  exact rc_x_f3_18 (br_f (by decide) (br_f (by decide) (br_f (by decide) (br_f (by decide) (br_f (by decide) (br_f (by decide) (br_f (by decide) (br_f (by decide) (br_f (by decide) (br_f (by decide) (br_f (by decide) (br_f (by decide) (br_f (by decide) (br_f (by decide) (br_f (by decide) (br_f (by decide) (br_f (by decide) (br_f (by decide) (br_f (by decide) (br_f (by decide) (br_t rfl (h))))))))))))))))))))))
theorem rc_x_lf19 (h : post (rc_lf 19 a b c d)) : wpX_longForm post (mI, mL, mS, it, rs, ii, iB, gr, uo, ua, ub, uc, so, sa, sb, sc, lp, ln, im, ad, lb) 19 a b c d := by
  rw [rc_lf_19] at h
  unfold wpX_longForm
  exact rc_x_f3_19 (br_f (by decide) (br_f (by decide) (br_f (by decide) (br_f (by decide) (br_f (by decide) (br_f (by decide) (br_f (by decide) (br_f (by decide) (br_f (by decide) (br_f (by decide) (br_f (by decide) (br_f (by decide) (br_f (by decide) (br_f (by decide) (br_f (by decide) (br_f (by decide) (br_f (by decide) (br_f (by decide) (br_f (by decide) (br_f (by decide) (br_f (by decide) (br_t rfl (h)))))))))))))))))))))))
theorem rc_x_lf20 (h : post (rc_lf 20 a b c d)) : wpX_longForm post (mI, mL, mS, it, rs, ii, iB, gr, uo, ua, ub, uc, so, sa, sb, sc, lp, ln, im, ad, lb) 20 a b c d := by
  rw [rc_lf_20] at h
  unfold wpX_longForm
  exact rc_x_f3_20 (br_f (by decide) (br_f (by decide) (br_f (by decide) (br_f (by decide) (br_f (by decide) (br_f (by decide) (br_f (by decide) (br_f (by decide) (br_f (by decide) (br_f (by decide) (br_f (by decide) (br_f (by decide) (br_f (by decide) (br_f (by decide) (br_f (by decide) (br_f (by decide) (br_f (by decide) (br_f (by decide) (br_f (by decide) (br_f (by decide) (br_f (by decide) (br_f (by decide) (br_t rfl (h))))))))))))))))))))))))
theorem rc_x_lf21 (h : post (rc_lf 21 a b c d)) : wpX_longForm post (mI, mL, mS, it, rs, ii, iB, gr, uo, ua, ub, uc, so, sa, sb, sc, lp, ln, im, ad, lb) 21 a b c d := by
  rw [rc_lf_21] at h
  unfold wpX_longForm
  exact rc_x_f3_21 (br_f (by decide) (br_f (by decide) (br_f (by decide) (br_f (by decide) (br_f (by decide) (br_f (by decide) (br_f (by decide) (br_f (by decide) (br_f (by decide) (br_f (by decide) (br_f (by decide) (br_f (by decide) (br_f (by decide) (br_f (by decide) (br_f (by decide) (br_f (by decide) (br_f (by decide) (br_f (by decide) (br_f (by decide) (br_f (by decide) (br_f (by decide) (br_f (by decide) (br_f (by decide) (br_t rfl (h)))))))))))))))))))))))))
end
/-! any op of 0 .. 21 -/
theorem rc_op_c {P : Int32 → Prop} (rc_h0 : P 0) (h1 : P 1) (h2 : P 2) (h3 : P 3) (h4 : P 4) (h5 : P 5) (h6 : P 6) (h7 : P 7) (h8 : P 8) (h9 : P 9) (h10 : P 10) (h11 : P 11) (h12 : P 12) (h13 : P 13) (h14 : P 14) (h15 : P 15) (h16 : P 16) (h17 : P 17) (h18 : P 18) (h19 : P 19) (h20 : P 20) (h21 : P 21) {op : Int32} (ho : ∃ o, o < 22 ∧ op = nI o) : P op := by
  obtain ⟨o, hl, rfl⟩ := ho
  have hc : o = 0 ∨ o = 1 ∨ o = 2 ∨ o = 3 ∨ o = 4 ∨ o = 5 ∨ o = 6 ∨ o = 7 ∨ o = 8 ∨ o = 9 ∨ o = 10 ∨ o = 11 ∨ o = 12 ∨ o = 13 ∨ o = 14 ∨ o = 15 ∨ o = 16 ∨ o = 17 ∨ o = 18 ∨ o = 19 ∨ o = 20 ∨ o = 21 := by omega
  rcases hc with rfl | rfl | rfl | rfl | rfl | rfl | rfl | rfl | rfl | rfl | rfl | rfl | rfl | rfl | rfl | rfl | rfl | rfl | rfl | rfl | rfl | rfl
  · exact rc_h0
  · exact h1
  · exact h2
  · exact h3
  · exact h4
  · exact h5
  · exact h6
  · exact h7
  · exact h8
  · exact h9
  · exact h10
  · exact h11
  · exact h12
  · exact h13
  · exact h14
  · exact h15
  · exact h16
  · exact h17
  · exact h18
  · exact h19
  · exact h20
  · exact h21
theorem rc_x_sf {mI mL mS it rs ii iB gr uo ua ub uc : Int32} {so sa sb sc lp ln im ad lb : Nat → Int32} {post : Int32 → Prop} {op a b c d : Int32} (ho : ∃ o, o < 22 ∧ op = nI o) (h : post (rc_sf op a b c d)) : wpX_shortForm post (mI, mL, mS, it, rs, ii, iB, gr, uo, ua, ub, uc, so, sa, sb, sc, lp, ln, im, ad, lb) op a b c d :=
  rc_op_c (P := fun op => post (rc_sf op a b c d) → wpX_shortForm post (mI, mL, mS, it, rs, ii, iB, gr, uo, ua, ub, uc, so, sa, sb, sc, lp, ln, im, ad, lb) op a b c d) rc_x_sf0 rc_x_sf1 rc_x_sf2 rc_x_sf3 rc_x_sf4 rc_x_sf5 rc_x_sf6 rc_x_sf7 rc_x_sf8 rc_x_sf9 rc_x_sf10 rc_x_sf11 rc_x_sf12 rc_x_sf13 rc_x_sf14 rc_x_sf15 rc_x_sf16 rc_x_sf17 rc_x_sf18 rc_x_sf19 rc_x_sf20 rc_x_sf21 ho h
theorem rc_x_lf {mI mL mS it rs ii iB gr uo ua ub uc : Int32} {so sa sb sc lp ln im ad lb : Nat → Int32} {post : Int32 → Prop} {op a b c d : Int32} (ho : ∃ o, o < 22 ∧ op = nI o) (h : post (rc_lf op a b c d)) : wpX_longForm post (mI, mL, mS, it, rs, ii, iB, gr, uo, ua, ub, uc, so, sa, sb, sc, lp, ln, im, ad, lb) op a b c d :=
  rc_op_c (P := fun op => post (rc_lf op a b c d) → wpX_longForm post (mI, mL, mS, it, rs, ii, iB, gr, uo, ua, ub, uc, so, sa, sb, sc, lp, ln, im, ad, lb) op a b c d) rc_x_lf0 rc_x_lf1 rc_x_lf2 rc_x_lf3 rc_x_lf4 rc_x_lf5 rc_x_lf6 rc_x_lf7 rc_x_lf8 rc_x_lf9 rc_x_lf10 rc_x_lf11 rc_x_lf12 rc_x_lf13 rc_x_lf14 rc_x_lf15 rc_x_lf16 rc_x_lf17 rc_x_lf18 rc_x_lf19 rc_x_lf20 rc_x_lf21 ho h
end
section
/-! the reference's short and long form: the same values, for legal operands -/
abbrev rc_Rg (x : Int32) : Prop := ∃ m, m < 32 ∧ x = nI m
def rc_fg (p : Prop) [Decidable p] : Int32 := if p then 1 else 0
theorem rc_fg_t {p : Prop} {hd : Decidable p} (h : p) : @rc_fg p hd = 1 := if_pos h
theorem rc_fg_f {p : Prop} {hd : Decidable p} (h : ¬ p) : @rc_fg p hd = 0 := if_neg h
theorem rc_ig {α : Type} {c A B : Prop} {P : α → Prop} {x y : α} {hd hd2 : Decidable c} (h : P (@ite α c hd x y)) (f : P x → B) (g : P y → A) : (@rc_fg c hd2 = 0 → A) ∧ (¬ @rc_fg c hd2 = 0 → B) := by
  by_cases e : c
  · rw [rc_fg_t e]
    rw [if_pos e] at h
    exact br_f rc_n10 (f h)
  · rw [rc_fg_f e]
    rw [if_neg e] at h
    exact br_t rfl (g h)
theorem rc_i3g {α : Type} {c1 c2 c3 A B : Prop} {P : α → Prop} {x y : α} {hd : Decidable (¬ c1 ∧ ¬ c2 ∧ c3)} {hd2 : Decidable c3} (h : P (@ite α (¬ c1 ∧ ¬ c2 ∧ c3) hd x y)) (f : P x → B) (g : P y → A) : (c1 → A) ∧ (¬ c1 → ((c2 → A) ∧ (¬ c2 → ((@rc_fg c3 hd2 = 0 → A) ∧ (¬ @rc_fg c3 hd2 = 0 → B))))) := by
  have k := rc_i3 h f g
  refine ⟨k.1, fun e => ⟨(k.2 e).1, fun e2 => ?_⟩⟩
  have k2 := (k.2 e).2 e2
  by_cases e3 : c3
  · rw [rc_fg_t e3]
    exact br_f rc_n10 (k2.1 e3)
  · rw [rc_fg_f e3]
    exact br_t rfl (k2.2 e3)
section
variable {mI mL mS it ii : Int32} {so sa sb sc lp yo ya yb yc yl yp : Nat → Int32} {post : Int32 → Prop} {op a b c d x6 x7 x8 x9 x10 : Int32}
theorem rc_y_57 (H : wY_shortForm_71 post op a b c d x6 x7 x8 (rc_fg ((c &&& 3) = 0)) mI mL mS it ii so sa sb sc lp yo ya yb yc yl yp) : wY_shortForm_57 post op a b c d x6 x7 x8 mI mL mS it ii so sa sb sc lp yo ya yb yc yl yp :=
  br_c (fun e => by rw [rc_fg_t e] at H; exact H) (fun e => by rw [rc_fg_f e] at H; exact H)
theorem rc_y_36 (H : wY_shortForm_71 post op a b c d x6 x7 (rc_fg (rc_sx c)) (rc_fg ((c &&& 3) = 0)) mI mL mS it ii so sa sb sc lp yo ya yb yc yl yp) : wY_shortForm_36 post op a b c d x6 x7 mI mL mS it ii so sa sb sc lp yo ya yb yc yl yp :=
  br_c (fun e => rc_y_57 (x8 := 0) (by rw [rc_fg_f (p := rc_sx c) (fun z => z.1 e)] at H; exact H)) (fun e => br_c (fun e2 => rc_y_57 (x8 := 0) (by rw [rc_fg_f (p := rc_sx c) (fun z => z.2 e2)] at H; exact H)) (fun e2 => rc_y_57 (by rw [rc_fg_t (p := rc_sx c) ⟨e, e2⟩] at H; exact H)))
theorem rc_y_17 (H : wY_shortForm_71 post op a b c d x6 (rc_fg (rc_lw b)) (rc_fg (rc_sx c)) (rc_fg ((c &&& 3) = 0)) mI mL mS it ii so sa sb sc lp yo ya yb yc yl yp) : wY_shortForm_17 post op a b c d x6 mI mL mS it ii so sa sb sc lp yo ya yb yc yl yp :=
  br_c (fun e => rc_y_36 (x7 := 0) (by rw [rc_fg_f (p := rc_lw b) (fun z => z.1 e)] at H; exact H)) (fun e => br_c (fun e2 => rc_y_36 (x7 := 0) (by rw [rc_fg_f (p := rc_lw b) (fun z => z.2 e2)] at H; exact H)) (fun e2 => rc_y_36 (by rw [rc_fg_t (p := rc_lw b) ⟨e, e2⟩] at H; exact H)))
theorem rc_y_pre (H : wY_shortForm_71 post op a b c d (rc_fg (rc_lw a)) (rc_fg (rc_lw b)) (rc_fg (rc_sx c)) (rc_fg ((c &&& 3) = 0)) mI mL mS it ii so sa sb sc lp yo ya yb yc yl yp) : wpY_shortForm post (mI, mL, mS, it, ii, so, sa, sb, sc, lp, yo, ya, yb, yc, yl, yp) op a b c d :=
  br_c (fun e => rc_y_17 (x6 := 0) (by rw [rc_fg_f (p := rc_lw a) (fun z => z.1 e)] at H; exact H)) (fun e => br_c (fun e2 => rc_y_17 (x6 := 0) (by rw [rc_fg_f (p := rc_lw a) (fun z => z.2 e2)] at H; exact H)) (fun e2 => rc_y_17 (by rw [rc_fg_t (p := rc_lw a) ⟨e, e2⟩] at H; exact H)))
/-! falling through -/
theorem rc_f1159 (hd : op ≠ 18 ∧ op ≠ 19) (h : post (-1)) : wY_shortForm_1159 post op a b d x6 mI mL mS it ii so sa sb sc lp yo ya yb yc yl yp := br_f hd.1 (br_f hd.2 h)
theorem rc_f1002 (hd : op ≠ 21 ∧ op ≠ 17 ∧ op ≠ 18 ∧ op ≠ 19) (h : post (-1)) : wY_shortForm_1002 post op a b d x6 mI mL mS it ii so sa sb sc lp yo ya yb yc yl yp := br_f hd.1 (br_f hd.2.1 (rc_f1159 hd.2.2 h))
theorem rc_f974 (hd : op ≠ 16 ∧ op ≠ 21 ∧ op ≠ 17 ∧ op ≠ 18 ∧ op ≠ 19) (h : post (-1)) : wY_shortForm_974 post op a b c d x6 mI mL mS it ii so sa sb sc lp yo ya yb yc yl yp := br_f hd.1 (rc_f1002 hd.2 h)
theorem rc_f947 (hd : op ≠ 16 ∧ op ≠ 21 ∧ op ≠ 17 ∧ op ≠ 18 ∧ op ≠ 19) (h : post (-1)) : wY_shortForm_947 post op a b c d x6 mI mL mS it ii so sa sb sc lp yo ya yb yc yl yp := br_f hd.1 (rc_f974 hd h)
theorem rc_f886 (hd : op ≠ 15 ∧ op ≠ 16 ∧ op ≠ 21 ∧ op ≠ 17 ∧ op ≠ 18 ∧ op ≠ 19) (h : post (-1)) : wY_shortForm_886 post op a b c d x6 mI mL mS it ii so sa sb sc lp yo ya yb yc yl yp := br_f hd.1 (rc_f947 hd.2 h)
theorem rc_f780 (hd : op ≠ 13 ∧ op ≠ 14 ∧ op ≠ 15 ∧ op ≠ 16 ∧ op ≠ 21 ∧ op ≠ 17 ∧ op ≠ 18 ∧ op ≠ 19) (h : post (-1)) : wY_shortForm_780 post op a b c d x6 x7 x9 mI mL mS it ii so sa sb sc lp yo ya yb yc yl yp := br_f hd.1 (br_f hd.2.1 (rc_f886 hd.2.2 h))
theorem rc_f718 (hd : op ≠ 13 ∧ op ≠ 14 ∧ op ≠ 15 ∧ op ≠ 16 ∧ op ≠ 21 ∧ op ≠ 17 ∧ op ≠ 18 ∧ op ≠ 19) (h : post (-1)) : wY_shortForm_718 post op a b c d x6 x7 x9 mI mL mS it ii so sa sb sc lp yo ya yb yc yl yp := br_f hd.2.1 (rc_f780 hd h)
theorem rc_f640 (hd : op ≠ 13 ∧ op ≠ 14 ∧ op ≠ 15 ∧ op ≠ 16 ∧ op ≠ 21 ∧ op ≠ 17 ∧ op ≠ 18 ∧ op ≠ 19) (h : post (-1)) : wY_shortForm_640 post op a b c d x6 x7 x9 mI mL mS it ii so sa sb sc lp yo ya yb yc yl yp := br_f hd.1 (rc_f718 hd h)
theorem rc_f603 (hd : op ≠ 12 ∧ op ≠ 13 ∧ op ≠ 14 ∧ op ≠ 15 ∧ op ≠ 16 ∧ op ≠ 21 ∧ op ≠ 17 ∧ op ≠ 18 ∧ op ≠ 19) (h : post (-1)) : wY_shortForm_603 post op a b c d x6 x7 x9 mI mL mS it ii so sa sb sc lp yo ya yb yc yl yp := br_f hd.1 (rc_f640 hd.2 h)
theorem rc_f566 (hd : op ≠ 11 ∧ op ≠ 12 ∧ op ≠ 13 ∧ op ≠ 14 ∧ op ≠ 15 ∧ op ≠ 16 ∧ op ≠ 21 ∧ op ≠ 17 ∧ op ≠ 18 ∧ op ≠ 19) (h : post (-1)) : wY_shortForm_566 post op a b c d x6 x7 x9 mI mL mS it ii so sa sb sc lp yo ya yb yc yl yp := br_f hd.1 (rc_f603 hd.2 h)
theorem rc_f534 (hd : op ≠ 10 ∧ op ≠ 11 ∧ op ≠ 12 ∧ op ≠ 13 ∧ op ≠ 14 ∧ op ≠ 15 ∧ op ≠ 16 ∧ op ≠ 21 ∧ op ≠ 17 ∧ op ≠ 18 ∧ op ≠ 19) (h : post (-1)) : wY_shortForm_534 post op a b c d x6 x7 x9 mI mL mS it ii so sa sb sc lp yo ya yb yc yl yp := br_f hd.1 (rc_f566 hd.2 h)
theorem rc_f499 (hd : op ≠ 8 ∧ op ≠ 10 ∧ op ≠ 11 ∧ op ≠ 12 ∧ op ≠ 13 ∧ op ≠ 14 ∧ op ≠ 15 ∧ op ≠ 16 ∧ op ≠ 21 ∧ op ≠ 17 ∧ op ≠ 18 ∧ op ≠ 19) (h : post (-1)) : wY_shortForm_499 post op a b c d x6 x7 x8 x9 x10 mI mL mS it ii so sa sb sc lp yo ya yb yc yl yp := br_f hd.1 (rc_f534 hd.2 h)
theorem rc_f233 (hd : op ≠ 7 ∧ op ≠ 8 ∧ op ≠ 10 ∧ op ≠ 11 ∧ op ≠ 12 ∧ op ≠ 13 ∧ op ≠ 14 ∧ op ≠ 15 ∧ op ≠ 16 ∧ op ≠ 21 ∧ op ≠ 17 ∧ op ≠ 18 ∧ op ≠ 19) (h : post (-1)) : wY_shortForm_233 post op a b c d x6 x7 x8 x9 x10 mI mL mS it ii so sa sb sc lp yo ya yb yc yl yp := br_f hd.1 (rc_f499 hd.2 h)
theorem rc_f146a (h2 : op < 2) (hd : op ≠ 7 ∧ op ≠ 8 ∧ op ≠ 10 ∧ op ≠ 11 ∧ op ≠ 12 ∧ op ≠ 13 ∧ op ≠ 14 ∧ op ≠ 15 ∧ op ≠ 16 ∧ op ≠ 21 ∧ op ≠ 17 ∧ op ≠ 18 ∧ op ≠ 19) (h : post (-1)) : wY_shortForm_146 post op a b c d x6 x7 x8 x9 x10 mI mL mS it ii so sa sb sc lp yo ya yb yc yl yp := br_t h2 (rc_f233 hd h)
theorem rc_f146b (h2 : ¬ op < 2) (h5 : 5 < op) (H : wY_shortForm_233 post op a b c d x6 x7 x8 x9 x10 mI mL mS it ii so sa sb sc lp yo ya yb yc yl yp) : wY_shortForm_146 post op a b c d x6 x7 x8 x9 x10 mI mL mS it ii so sa sb sc lp yo ya yb yc yl yp := br_f h2 (br_t h5 H)
theorem rc_f71 (h1 : op ≠ 1) (H : ∀ x10, x10 = rc_sl (rc_fd c 5 5) 12 ||| rc_sl (rc_fd c 4 0) 2 → wY_shortForm_146 post op a b c d x6 x7 x8 x9 x10 mI mL mS it ii so sa sb sc lp yo ya yb yc yl yp) : wY_shortForm_71 post op a b c d x6 x7 x8 x9 mI mL mS it ii so sa sb sc lp yo ya yb yc yl yp := fun x e => br_f h1 (H x e)
theorem rc_y_sf0 (h : post (rc_sf 0 a b c d)) : wpY_shortForm post (mI, mL, mS, it, ii, so, sa, sb, sc, lp, yo, ya, yb, yc, yl, yp) 0 a b c d := by
  rw [rc_sf_0] at h
  exact rc_y_pre (rc_f71 (by decide) fun x10 e10 => rc_f146a (by decide) (by decide) h)
theorem rc_y_sf1 (h : post (rc_sf 1 a b c d)) : wpY_shortForm post (mI, mL, mS, it, ii, so, sa, sb, sc, lp, yo, ya, yb, yc, yl, yp) 1 a b c d := by
  rw [rc_sf_1] at h
  exact rc_y_pre fun x10 e10 => br_t rfl (rc_ib h (rc_f146a (by decide) (by decide)) fun h => rc_ib h (rc_f146a (by decide) (by decide)) fun h => rc_ib h id fun h => rc_ib h id (rc_f146a (by decide) (by decide)))
theorem rc_y_sf2 (h : post (rc_sf 2 a b c d)) : wpY_shortForm post (mI, mL, mS, it, ii, so, sa, sb, sc, lp, yo, ya, yb, yc, yl, yp) 2 a b c d := by
  rw [rc_sf_2] at h
  exact rc_y_pre (rc_f71 (by decide) fun x10 e10 => br_f (by decide) (br_f (by decide) (rc_ib h (fun h => rc_ig h (fun h => rc_i2 h (fun h => br_t rfl h) (rc_f233 (by decide))) (rc_f233 (by decide))) (rc_f233 (by decide)))))
theorem rc_y_sf3 (h : post (rc_sf 3 a b c d)) : wpY_shortForm post (mI, mL, mS, it, ii, so, sa, sb, sc, lp, yo, ya, yb, yc, yl, yp) 3 a b c d := by
  rw [rc_sf_3] at h
  exact rc_y_pre (rc_f71 (by decide) fun x10 e10 => br_f (by decide) (br_f (by decide) (rc_ib h (fun h => rc_ig h (fun h => rc_i2 h (fun h => br_f (by decide) (br_t rfl h)) (rc_f233 (by decide))) (rc_f233 (by decide))) (rc_f233 (by decide)))))
theorem rc_y_sf4 (h : post (rc_sf 4 a b c d)) : wpY_shortForm post (mI, mL, mS, it, ii, so, sa, sb, sc, lp, yo, ya, yb, yc, yl, yp) 4 a b c d := by
  rw [rc_sf_4] at h
  exact rc_y_pre (rc_f71 (by decide) fun x10 e10 => br_f (by decide) (br_f (by decide) (rc_ib h (fun h => rc_ig h (fun h => rc_i2 h (fun h => br_f (by decide) (br_f (by decide) (br_t rfl h))) (rc_f233 (by decide))) (rc_f233 (by decide))) (rc_f233 (by decide)))))
theorem rc_y_sf5 (h : post (rc_sf 5 a b c d)) : wpY_shortForm post (mI, mL, mS, it, ii, so, sa, sb, sc, lp, yo, ya, yb, yc, yl, yp) 5 a b c d := by
  rw [rc_sf_5] at h
  exact rc_y_pre (rc_f71 (by decide) fun x10 e10 => br_f (by decide) (br_f (by decide) (rc_ib h (fun h => rc_ig h (fun h => rc_i2 h (fun h => br_f (by decide) (br_f (by decide) (br_f (by decide) h))) (rc_f233 (by decide))) (rc_f233 (by decide))) (rc_f233 (by decide)))))
theorem rc_y_sf6 (h : post (rc_sf 6 a b c d)) : wpY_shortForm post (mI, mL, mS, it, ii, so, sa, sb, sc, lp, yo, ya, yb, yc, yl, yp) 6 a b c d := by
  rw [rc_sf_6] at h
  exact rc_y_pre (rc_f71 (by decide) fun x10 e10 => rc_f146b (by decide) (by decide) (rc_f233 (by decide) h))
theorem rc_y_sf9 (h : post (rc_sf 9 a b c d)) : wpY_shortForm post (mI, mL, mS, it, ii, so, sa, sb, sc, lp, yo, ya, yb, yc, yl, yp) 9 a b c d := by
  rw [rc_sf_9] at h
  exact rc_y_pre (rc_f71 (by decide) fun x10 e10 => rc_f146b (by decide) (by decide) (rc_f233 (by decide) h))
theorem rc_or_sw (k r f g : Int32) : ((k ||| f) ||| r) ||| g = (k ||| r) ||| (f ||| g) := by
  rw [Int32.or_assoc, Int32.or_assoc, Int32.or_assoc, ← Int32.or_assoc f r g, Int32.or_comm f r, Int32.or_assoc r f g]
theorem rc_pk6_y {k r v x : Int32} (e : x = rc_sl (rc_fd v 5 5) 12 ||| rc_sl (rc_fd v 4 0) 2) : rc_pk6 k r v = (k ||| rc_sl r 7) ||| x := by
  rw [e]
  exact rc_or_sw k (rc_sl r 7) _ _
theorem rc_wo4 {x : Int32} (h : x < 4) (rc_h0 : ¬ x = 0) : ¬ rc_wo x 1020 := by
  intro z
  obtain ⟨m, hm, rfl⟩ := nI_of z.1
  rw [show (4 : Int32) = nI 4 from rfl, nI_ltI hm (by decide)] at h
  have hc : m = 0 ∨ m = 1 ∨ m = 2 ∨ m = 3 := by omega
  rcases hc with rfl | rfl | rfl | rfl
  · exact rc_h0 rfl
  · exact absurd z.2.2 (by decide)
  · exact absurd z.2.2 (by decide)
  · exact absurd z.2.2 (by decide)
theorem rc_wo4' {x : Int32} (h : ¬ x < 4) : ¬ x = 0 ∧ ¬ x < 0 := by
  have h4 : (4 : Int32).toInt = 4 := by decide
  have rc_h0 : (0 : Int32).toInt = 0 := by decide
  rw [Int32.lt_iff_toInt_lt, h4] at h
  refine ⟨fun e => ?_, fun e => ?_⟩
  · rw [e] at h; omega
  · rw [Int32.lt_iff_toInt_lt, rc_h0] at e; omega
theorem rc_y_414 (h : post (rc_sAi4 a b c)) : wY_shortForm_414 post 7 a b c d (rc_fg (rc_lw a)) x7 x8 (rc_fg ((c &&& 3) = 0)) x10 mI mL mS it ii so sa sb sc lp yo ya yb yc yl yp := by
  refine rc_ig h (fun h => rc_ib h (fun h => ?_) (rc_f499 (by decide))) (rc_f499 (by decide))
  refine br_c (fun e => ?_) (fun e => ?_)
  · refine rc_f499 (by decide) ?_
    by_cases rc_h0 : c = 0
    · rw [if_pos rc_h0] at h; exact h
    · rw [if_neg rc_h0, if_neg (rc_wo4 e rc_h0)] at h; exact h
  · rw [if_neg (rc_wo4' e).1] at h
    exact (rc_i3g h id (rc_f499 (by decide))).2 (rc_wo4' e).2
theorem rc_y_308 (h : post (rc_sAi3 a b c)) : wY_shortForm_308 post 7 a b c d (rc_fg (rc_lw a)) x7 x8 (rc_fg ((c &&& 3) = 0)) x10 mI mL mS it ii so sa sb sc lp yo ya yb yc yl yp :=
  rc_ib h (fun h => rc_ib h (fun h => rc_ib h rc_y_414 fun h => rc_ib h rc_y_414 fun h => rc_ib h rc_y_414 fun h => rc_ib h id rc_y_414) rc_y_414) rc_y_414
theorem rc_y_283 (e : x10 = rc_sl (rc_fd c 5 5) 12 ||| rc_sl (rc_fd c 4 0) 2) (h : post (rc_sAi2 a b c)) : wY_shortForm_283 post 7 a b c d (rc_fg (rc_lw a)) x7 (rc_fg (rc_sx c)) (rc_fg ((c &&& 3) = 0)) x10 mI mL mS it ii so sa sb sc lp yo ya yb yc yl yp :=
  rc_ib h (fun h => rc_ib h rc_y_308 fun h => rc_ig h (fun h => by rw [rc_pk6_y e] at h; exact h) rc_y_308) rc_y_308
theorem rc_y_254 (e : x10 = rc_sl (rc_fd c 5 5) 12 ||| rc_sl (rc_fd c 4 0) 2) (h : post (rc_sAi1 a b c)) : wY_shortForm_254 post 7 a b c d (rc_fg (rc_lw a)) x7 (rc_fg (rc_sx c)) (rc_fg ((c &&& 3) = 0)) x10 mI mL mS it ii so sa sb sc lp yo ya yb yc yl yp :=
  rc_ib h (fun h => rc_ib h (rc_y_283 e) fun h => rc_ib h (rc_y_283 e) fun h => rc_ig h (fun h => by rw [rc_pk6_y e] at h; exact h) (rc_y_283 e)) (rc_y_283 e)
theorem rc_y_sf7 (h : post (rc_sf 7 a b c d)) : wpY_shortForm post (mI, mL, mS, it, ii, so, sa, sb, sc, lp, yo, ya, yb, yc, yl, yp) 7 a b c d := by
  rw [rc_sf_7] at h
  exact rc_y_pre (rc_f71 (by decide) fun x10 e => rc_f146b (by decide) (by decide) (br_t rfl (rc_ib h (fun h => rc_ib h (fun h => rc_ib h id (rc_y_254 e)) (rc_y_254 e)) (rc_y_254 e))))
theorem rc_y_sf8 (h : post (rc_sf 8 a b c d)) : wpY_shortForm post (mI, mL, mS, it, ii, so, sa, sb, sc, lp, yo, ya, yb, yc, yl, yp) 8 a b c d := by
  rw [rc_sf_8] at h
  exact rc_y_pre (rc_f71 (by decide) fun x10 e => rc_f146b (by decide) (by decide) (br_f (by decide) (br_t rfl (rc_ib h (fun h => rc_ig h (fun h => rc_ig h (fun h => by rw [rc_pk6_y e] at h; exact h) (rc_f534 (by decide))) (rc_f534 (by decide))) (rc_f534 (by decide))))))
theorem rc_c5_0 : ∀ m, m < 32 → rc_fd (nI m) 5 5 = 0 ∧ rc_fd (nI m) 4 0 = nI m := by unfold rc_fd; decide +kernel
theorem rc_pk6_s {k r v : Int32} (hv : rc_Rg v) : rc_pk6 k r v = rc_cAc k r v := by
  obtain ⟨m, hm, rfl⟩ := hv
  unfold rc_pk6 rc_cAc
  rw [(rc_c5_0 m hm).1, (rc_c5_0 m hm).2, show rc_sl 0 12 = 0 from by unfold rc_sl; decide, Int32.or_zero]
theorem rc_y_sf10 (hc : rc_Rg c) (h : post (rc_sf 10 a b c d)) : wpY_shortForm post (mI, mL, mS, it, ii, so, sa, sb, sc, lp, yo, ya, yb, yc, yl, yp) 10 a b c d := by
  rw [rc_sf_10] at h
  unfold rc_sSl at h
  rw [rc_pk6_s hc] at h
  exact rc_y_pre (rc_f71 (by decide) fun x10 e10 => rc_f146b (by decide) (by decide) (br_f (by decide) (br_f (by decide) (br_t rfl (rc_ib h (fun h => rc_ib h (rc_f566 (by decide)) fun h => rc_ib h (rc_f566 (by decide)) id) (rc_f566 (by decide)))))))
theorem rc_y_sf11 (h : post (rc_sf 11 a b c d)) : wpY_shortForm post (mI, mL, mS, it, ii, so, sa, sb, sc, lp, yo, ya, yb, yc, yl, yp) 11 a b c d := by
  rw [rc_sf_11] at h
  exact rc_y_pre (rc_f71 (by decide) fun x10 e10 => rc_f146b (by decide) (by decide) (br_f (by decide) (br_f (by decide) (br_f (by decide) (br_t rfl (rc_ib h (fun h => rc_ig h (fun h => rc_ib h (rc_f603 (by decide)) id) (rc_f603 (by decide))) (rc_f603 (by decide))))))))
theorem rc_y_sf12 (h : post (rc_sf 12 a b c d)) : wpY_shortForm post (mI, mL, mS, it, ii, so, sa, sb, sc, lp, yo, ya, yb, yc, yl, yp) 12 a b c d := by
  rw [rc_sf_12] at h
  exact rc_y_pre (rc_f71 (by decide) fun x10 e10 => rc_f146b (by decide) (by decide) (br_f (by decide) (br_f (by decide) (br_f (by decide) (br_f (by decide) (br_t rfl (rc_ib h (fun h => rc_ig h (fun h => rc_ib h (rc_f640 (by decide)) id) (rc_f640 (by decide))) (rc_f640 (by decide)))))))))
theorem rc_y_mm13 (h : post (rc_sMm 16384 a b c)) : wY_shortForm_718 post 13 a b c d (rc_fg (rc_lw a)) (rc_fg (rc_lw b)) (rc_fg ((c &&& 3) = 0)) mI mL mS it ii so sa sb sc lp yo ya yb yc yl yp :=
  br_f (by decide) (br_t rfl (rc_ig h (fun h => rc_ig h (fun h => rc_i3g h (fun h => br_t rfl h) (rc_f886 (by decide))) (rc_f886 (by decide))) (rc_f886 (by decide))))
theorem rc_y_mm14 (h : post (rc_sMm 49152 a b c)) : wY_shortForm_780 post 14 a b c d (rc_fg (rc_lw a)) (rc_fg (rc_lw b)) (rc_fg ((c &&& 3) = 0)) mI mL mS it ii so sa sb sc lp yo ya yb yc yl yp :=
  br_f (by decide) (br_t rfl (rc_ig h (fun h => rc_ig h (fun h => rc_i3g h (fun h => br_f (by decide) h) (rc_f886 (by decide))) (rc_f886 (by decide))) (rc_f886 (by decide))))
theorem rc_y_sf13 (h : post (rc_sf 13 a b c d)) : wpY_shortForm post (mI, mL, mS, it, ii, so, sa, sb, sc, lp, yo, ya, yb, yc, yl, yp) 13 a b c d := by
  rw [rc_sf_13] at h
  exact rc_y_pre (rc_f71 (by decide) fun x10 e10 => rc_f146b (by decide) (by decide) (br_f (by decide) (br_f (by decide) (br_f (by decide) (br_f (by decide) (br_f (by decide) (br_t rfl (rc_ib h (fun h => rc_ib h rc_y_mm13 fun h => rc_i3g h id rc_y_mm13) rc_y_mm13))))))))
theorem rc_y_sf14 (h : post (rc_sf 14 a b c d)) : wpY_shortForm post (mI, mL, mS, it, ii, so, sa, sb, sc, lp, yo, ya, yb, yc, yl, yp) 14 a b c d := by
  rw [rc_sf_14] at h
  exact rc_y_pre (rc_f71 (by decide) fun x10 e10 => rc_f146b (by decide) (by decide) (br_f (by decide) (br_f (by decide) (br_f (by decide) (br_f (by decide) (br_f (by decide) (br_f (by decide) (br_t rfl (rc_ib h (fun h => rc_i3g h id rc_y_mm14) rc_y_mm14)))))))))
theorem rc_y_sf15 (h : post (rc_sf 15 a b c d)) : wpY_shortForm post (mI, mL, mS, it, ii, so, sa, sb, sc, lp, yo, ya, yb, yc, yl, yp) 15 a b c d := by
  rw [rc_sf_15] at h
  exact rc_y_pre (rc_f71 (by decide) fun x10 e10 => rc_f146b (by decide) (by decide) (br_f (by decide) (br_f (by decide) (br_f (by decide) (br_f (by decide) (br_f (by decide) (br_f (by decide) (br_f (by decide) (br_f (by decide) (br_f (by decide) (br_t rfl (rc_ib h (rc_f947 (by decide)) fun h => rc_ib h (rc_f947 (by decide)) fun h => rc_ib h (rc_f947 (by decide)) fun h => rc_i2 h id (rc_f947 (by decide))))))))))))))
theorem rc_rg_c {x : Int32} (h : rc_Rg x) : x = 0 ∨ x = 1 ∨ (¬ x = 0 ∧ ¬ x = 1 ∧ 1 < x) := by
  obtain ⟨m, hm, rfl⟩ := h
  by_cases rc_h0 : m = 0
  · exact Or.inl (by rw [rc_h0]; rfl)
  by_cases h1 : m = 1
  · exact Or.inr (Or.inl (by rw [h1]; rfl))
  refine Or.inr (Or.inr ⟨?_, ?_, ?_⟩)
  · rw [show (0 : Int32) = nI 0 from rfl, nI_eq (by omega) (by omega)]; exact rc_h0
  · rw [show (1 : Int32) = nI 1 from rfl, nI_eq (by omega) (by omega)]; exact h1
  · rw [show (1 : Int32) = nI 1 from rfl, nI_ltI (by omega) (by omega)]; omega
theorem rc_y_jr (ha : rc_Rg a) (h : post (rc_sJr a b c)) : wY_shortForm_947 post 16 a b c d x6 mI mL mS it ii so sa sb sc lp yo ya yb yc yl yp := by
  unfold rc_sJr at h
  rcases rc_rg_c ha with e | e | ⟨n0, n1, lt⟩
  · subst e
    rw [if_neg (by decide)] at h
    have hf : post (-1) → wY_shortForm_974 post 16 0 b c d x6 mI mL mS it ii so sa sb sc lp yo ya yb yc yl yp := fun h => br_t rfl (br_f (by decide) (rc_f1002 (by decide) h))
    exact br_t rfl (br_t rfl (rc_ib h hf fun h => rc_ib h (fun h => by rw [if_pos rfl] at h; exact h) hf))
  · subst e
    rw [if_neg (by decide)] at h
    have hf : post (-1) → wY_shortForm_1002 post 16 1 b d x6 mI mL mS it ii so sa sb sc lp yo ya yb yc yl yp := rc_f1002 (by decide)
    exact br_t rfl (br_f (by decide) (br_t rfl (br_t rfl (rc_ib h hf fun h => rc_ib h (fun h => by rw [if_neg (by decide)] at h; exact h) hf))))
  · rw [if_pos lt] at h
    exact br_t rfl (br_f n0 (br_t rfl (br_f n1 (rc_f1002 (by decide) h))))
theorem rc_y_sf16 (ha : rc_Rg a) (h : post (rc_sf 16 a b c d)) : wpY_shortForm post (mI, mL, mS, it, ii, so, sa, sb, sc, lp, yo, ya, yb, yc, yl, yp) 16 a b c d := by
  rw [rc_sf_16] at h
  exact rc_y_pre (rc_f71 (by decide) fun x10 e10 => rc_f146b (by decide) (by decide) (br_f (by decide) (br_f (by decide) (br_f (by decide) (br_f (by decide) (br_f (by decide) (br_f (by decide) (br_f (by decide) (br_f (by decide) (br_f (by decide) (br_f (by decide) (rc_y_jr ha h))))))))))))
theorem rc_le_n {A B : Prop} {x y : Int32} (h : (x ≤ y → A) ∧ (¬ x ≤ y → B)) : (y < x → B) ∧ (¬ y < x → A) :=
  ⟨fun e => h.2 (Int32.not_le.mpr e), fun e => h.1 (Int32.not_lt.mp e)⟩
theorem rc_y_1026 (ha : a = 0 ∨ a = 1) (h : post (rc_sJm a d)) : wY_shortForm_1026 post 17 a b d x6 mI mL mS it ii so sa sb sc lp yo ya yb yc yl yp := by
  unfold rc_sJm at h
  rw [if_neg (show ¬ 1 < a by rcases ha with e | e <;> rw [e] <;> decide)] at h
  exact rc_ib h (rc_f1159 (by decide)) fun h => rc_le_n (rc_ib h (fun h => rc_ib h id id) (rc_f1159 (by decide)))
theorem rc_y_jm (ha : rc_Rg a) (h : post (rc_sJm a d)) : wY_shortForm_1002 post 17 a b d x6 mI mL mS it ii so sa sb sc lp yo ya yb yc yl yp := by
  rcases rc_rg_c ha with e | e | ⟨n0, n1, lt⟩
  · exact br_f (by decide) (br_t rfl (br_t e (rc_y_1026 (Or.inl e) h)))
  · exact br_f (by decide) (br_t rfl (br_f (by rw [e]; decide) (br_t e (rc_y_1026 (Or.inr e) h))))
  · unfold rc_sJm at h
    rw [if_pos lt] at h
    exact br_f (by decide) (br_t rfl (br_f n0 (br_f n1 (rc_f1159 (by decide) h))))
theorem rc_y_sf17 (ha : rc_Rg a) (h : post (rc_sf 17 a b c d)) : wpY_shortForm post (mI, mL, mS, it, ii, so, sa, sb, sc, lp, yo, ya, yb, yc, yl, yp) 17 a b c d := by
  rw [rc_sf_17] at h
  exact rc_y_pre (rc_f71 (by decide) fun x10 e10 => rc_f146b (by decide) (by decide) (br_f (by decide) (br_f (by decide) (br_f (by decide) (br_f (by decide) (br_f (by decide) (br_f (by decide) (br_f (by decide) (br_f (by decide) (br_f (by decide) (br_f (by decide) (br_f (by decide) (br_f (by decide) (rc_y_jm ha h))))))))))))))
theorem rc_y_sf18 (h : post (rc_sf 18 a b c d)) : wpY_shortForm post (mI, mL, mS, it, ii, so, sa, sb, sc, lp, yo, ya, yb, yc, yl, yp) 18 a b c d := by
  rw [rc_sf_18] at h
  exact rc_y_pre (rc_f71 (by decide) fun x10 e10 => rc_f146b (by decide) (by decide) (br_f (by decide) (br_f (by decide) (br_f (by decide) (br_f (by decide) (br_f (by decide) (br_f (by decide) (br_f (by decide) (br_f (by decide) (br_f (by decide) (br_f (by decide) (br_f (by decide) (br_f (by decide) (br_f (by decide) (br_f (by decide) (br_t rfl (rc_ig h (fun h => rc_ib h (fun h => rc_ib h id fun h => rc_le_n (rc_ib h (fun h => br_t rfl h) id)) id) id)))))))))))))))))
theorem rc_y_sf19 (h : post (rc_sf 19 a b c d)) : wpY_shortForm post (mI, mL, mS, it, ii, so, sa, sb, sc, lp, yo, ya, yb, yc, yl, yp) 19 a b c d := by
  rw [rc_sf_19] at h
  exact rc_y_pre (rc_f71 (by decide) fun x10 e10 => rc_f146b (by decide) (by decide) (br_f (by decide) (br_f (by decide) (br_f (by decide) (br_f (by decide) (br_f (by decide) (br_f (by decide) (br_f (by decide) (br_f (by decide) (br_f (by decide) (br_f (by decide) (br_f (by decide) (br_f (by decide) (br_f (by decide) (br_f (by decide) (br_f (by decide) (br_t rfl (rc_ig h (fun h => rc_ib h (fun h => rc_ib h id fun h => rc_le_n (rc_ib h (fun h => br_f (by decide) h) id)) id) id))))))))))))))))))
theorem rc_y_sf20 (h : post (rc_sf 20 a b c d)) : wpY_shortForm post (mI, mL, mS, it, ii, so, sa, sb, sc, lp, yo, ya, yb, yc, yl, yp) 20 a b c d := by
  rw [rc_sf_20] at h
  exact rc_y_pre (rc_f71 (by decide) fun x10 e10 => rc_f146b (by decide) (by decide) (rc_f233 (by decide) h))
theorem rc_y_sf21 (h : post (rc_sf 21 a b c d)) : wpY_shortForm post (mI, mL, mS, it, ii, so, sa, sb, sc, lp, yo, ya, yb, yc, yl, yp) 21 a b c d := by
  rw [rc_sf_21] at h
  exact rc_y_pre (rc_f71 (by decide) fun x10 e10 => rc_f146b (by decide) (by decide) (br_f (by decide) (br_f (by decide) (br_f (by decide) (br_f (by decide) (br_f (by decide) (br_f (by decide) (br_f (by decide) (br_f (by decide) (br_f (by decide) (br_f (by decide) (br_f (by decide) (br_f (by decide) (br_t rfl h))))))))))))))
theorem rc_y_f3_1 (h : post 0) : wpY_f3 post (mI, mL, mS, it, ii, so, sa, sb, sc, lp, yo, ya, yb, yc, yl, yp) 1 := br_f (by decide) (br_f (by decide) (br_f (by decide) (br_f (by decide) (br_f (by decide) (br_f (by decide) (br_f (by decide) (br_f (by decide) (br_f (by decide) (br_f (by decide) (br_f (by decide) (br_f (by decide) (br_f (by decide) (h)))))))))))))
theorem rc_y_f3_2 (h : post 0) : wpY_f3 post (mI, mL, mS, it, ii, so, sa, sb, sc, lp, yo, ya, yb, yc, yl, yp) 2 := br_f (by decide) (br_f (by decide) (br_f (by decide) (br_f (by decide) (br_f (by decide) (br_f (by decide) (br_f (by decide) (br_f (by decide) (br_f (by decide) (br_f (by decide) (br_f (by decide) (br_f (by decide) (br_f (by decide) (h)))))))))))))
theorem rc_y_f3_3 (h : post 4) : wpY_f3 post (mI, mL, mS, it, ii, so, sa, sb, sc, lp, yo, ya, yb, yc, yl, yp) 3 := br_t rfl h
theorem rc_y_f3_4 (h : post 6) : wpY_f3 post (mI, mL, mS, it, ii, so, sa, sb, sc, lp, yo, ya, yb, yc, yl, yp) 4 := br_f (by decide) (br_f (by decide) (br_f (by decide) (br_t rfl h)))
theorem rc_y_f3_5 (h : post 7) : wpY_f3 post (mI, mL, mS, it, ii, so, sa, sb, sc, lp, yo, ya, yb, yc, yl, yp) 5 := br_f (by decide) (br_f (by decide) (br_f (by decide) (br_f (by decide) (br_t rfl h))))
theorem rc_y_f3_6 (h : post 2) : wpY_f3 post (mI, mL, mS, it, ii, so, sa, sb, sc, lp, yo, ya, yb, yc, yl, yp) 6 := br_f (by decide) (br_f (by decide) (br_f (by decide) (br_f (by decide) (br_f (by decide) (br_f (by decide) (br_t rfl h))))))
theorem rc_y_f3_7 (h : post 0) : wpY_f3 post (mI, mL, mS, it, ii, so, sa, sb, sc, lp, yo, ya, yb, yc, yl, yp) 7 := br_f (by decide) (br_f (by decide) (br_f (by decide) (br_f (by decide) (br_f (by decide) (br_f (by decide) (br_f (by decide) (br_f (by decide) (br_f (by decide) (br_f (by decide) (br_f (by decide) (br_f (by decide) (br_f (by decide) (h)))))))))))))
theorem rc_y_f3_8 (h : post 7) : wpY_f3 post (mI, mL, mS, it, ii, so, sa, sb, sc, lp, yo, ya, yb, yc, yl, yp) 8 := br_f (by decide) (br_f (by decide) (br_f (by decide) (br_f (by decide) (br_f (by decide) (br_t rfl h)))))
theorem rc_y_f3_9 (h : post 4) : wpY_f3 post (mI, mL, mS, it, ii, so, sa, sb, sc, lp, yo, ya, yb, yc, yl, yp) 9 := br_f (by decide) (br_t rfl h)
theorem rc_y_f3_10 (h : post 1) : wpY_f3 post (mI, mL, mS, it, ii, so, sa, sb, sc, lp, yo, ya, yb, yc, yl, yp) 10 := br_f (by decide) (br_f (by decide) (br_f (by decide) (br_f (by decide) (br_f (by decide) (br_f (by decide) (br_f (by decide) (br_f (by decide) (br_f (by decide) (br_t rfl h)))))))))
theorem rc_y_f3_11 (h : post 5) : wpY_f3 post (mI, mL, mS, it, ii, so, sa, sb, sc, lp, yo, ya, yb, yc, yl, yp) 11 := br_f (by decide) (br_f (by decide) (br_f (by decide) (br_f (by decide) (br_f (by decide) (br_f (by decide) (br_f (by decide) (br_f (by decide) (br_f (by decide) (br_f (by decide) (br_f (by decide) (br_t rfl h)))))))))))
theorem rc_y_f3_12 (h : post 5) : wpY_f3 post (mI, mL, mS, it, ii, so, sa, sb, sc, lp, yo, ya, yb, yc, yl, yp) 12 := br_f (by decide) (br_f (by decide) (br_f (by decide) (br_f (by decide) (br_f (by decide) (br_f (by decide) (br_f (by decide) (br_f (by decide) (br_f (by decide) (br_f (by decide) (br_f (by decide) (br_f (by decide) (br_t rfl h))))))))))))
theorem rc_y_f3_13 (h : post 2) : wpY_f3 post (mI, mL, mS, it, ii, so, sa, sb, sc, lp, yo, ya, yb, yc, yl, yp) 13 := br_f (by decide) (br_f (by decide) (br_f (by decide) (br_f (by decide) (br_f (by decide) (br_f (by decide) (br_f (by decide) (br_t rfl h)))))))
theorem rc_y_f3_14 (h : post 2) : wpY_f3 post (mI, mL, mS, it, ii, so, sa, sb, sc, lp, yo, ya, yb, yc, yl, yp) 14 := br_f (by decide) (br_f (by decide) (br_f (by decide) (br_f (by decide) (br_f (by decide) (br_f (by decide) (br_f (by decide) (br_f (by decide) (br_t rfl h))))))))
theorem rc_y_f3_15 (h : post 0) : wpY_f3 post (mI, mL, mS, it, ii, so, sa, sb, sc, lp, yo, ya, yb, yc, yl, yp) 15 := br_f (by decide) (br_f (by decide) (br_f (by decide) (br_f (by decide) (br_f (by decide) (br_f (by decide) (br_f (by decide) (br_f (by decide) (br_f (by decide) (br_f (by decide) (br_f (by decide) (br_f (by decide) (br_f (by decide) (h)))))))))))))
theorem rc_y_f3_16 (h : post 0) : wpY_f3 post (mI, mL, mS, it, ii, so, sa, sb, sc, lp, yo, ya, yb, yc, yl, yp) 16 := br_f (by decide) (br_f (by decide) (br_f (by decide) (br_f (by decide) (br_f (by decide) (br_f (by decide) (br_f (by decide) (br_f (by decide) (br_f (by decide) (br_f (by decide) (br_f (by decide) (br_f (by decide) (br_f (by decide) (h)))))))))))))
theorem rc_y_f3_17 (h : post 0) : wpY_f3 post (mI, mL, mS, it, ii, so, sa, sb, sc, lp, yo, ya, yb, yc, yl, yp) 17 := br_f (by decide) (br_f (by decide) (br_f (by decide) (br_f (by decide) (br_f (by decide) (br_f (by decide) (br_f (by decide) (br_f (by decide) (br_f (by decide) (br_f (by decide) (br_f (by decide) (br_f (by decide) (br_f (by decide) (h)))))))))))))
theorem rc_y_f3_18 (h : post 0) : wpY_f3 post (mI, mL, mS, it, ii, so, sa, sb, sc, lp, yo, ya, yb, yc, yl, yp) 18 := br_f (by decide) (br_f (by decide) (br_f (by decide) (br_f (by decide) (br_f (by decide) (br_f (by decide) (br_f (by decide) (br_f (by decide) (br_f (by decide) (br_f (by decide) (br_f (by decide) (br_f (by decide) (br_f (by decide) (h)))))))))))))
theorem rc_y_f3_19 (h : post 1) : wpY_f3 post (mI, mL, mS, it, ii, so, sa, sb, sc, lp, yo, ya, yb, yc, yl, yp) 19 := br_f (by decide) (br_f (by decide) (br_f (by decide) (br_f (by decide) (br_f (by decide) (br_f (by decide) (br_f (by decide) (br_f (by decide) (br_f (by decide) (br_f (by decide) (br_t rfl h))))))))))
theorem rc_y_f3_20 (h : post 4) : wpY_f3 post (mI, mL, mS, it, ii, so, sa, sb, sc, lp, yo, ya, yb, yc, yl, yp) 20 := br_f (by decide) (br_f (by decide) (br_t rfl h))
theorem rc_y_f3_21 (h : post 0) : wpY_f3 post (mI, mL, mS, it, ii, so, sa, sb, sc, lp, yo, ya, yb, yc, yl, yp) 21 := br_f (by decide) (br_f (by decide) (br_f (by decide) (br_f (by decide) (br_f (by decide) (br_f (by decide) (br_f (by decide) (br_f (by decide) (br_f (by decide) (br_f (by decide) (br_f (by decide) (br_f (by decide) (br_f (by decide) (h)))))))))))))
theorem rc_c20_10 : ∀ m, m < 32 → rc_sl (rc_fd (nI m) 11 0) 20 = rc_sl 0 25 ||| rc_sl (nI m) 20 := by unfold rc_fd rc_sl; decide +kernel
theorem rc_c20_12 : ∀ m, m < 32 → rc_sl (rc_fd (nI m ||| 1024) 11 0) 20 = rc_sl 32 25 ||| rc_sl (nI m) 20 := by unfold rc_fd rc_sl; decide +kernel
theorem rc_y_l64_1 (h : post (rc_lf 1 a b c d)) : wY_longAt_64 post 1 a b c d (rc_sl 0 12) 0 mI mL mS it ii so sa sb sc lp yo ya yb yc yl yp := by
  rw [rc_lf_1] at h
  exact br_f (by decide) h
theorem rc_y_l64_2 (h : post (rc_lf 2 a b c d)) : wY_longAt_64 post 2 a b c d (rc_sl 0 12) 32 mI mL mS it ii so sa sb sc lp yo ya yb yc yl yp := by
  rw [rc_lf_2] at h
  exact br_f (by decide) h
theorem rc_y_l64_3 (h : post (rc_lf 3 a b c d)) : wY_longAt_64 post 3 a b c d (rc_sl 4 12) 0 mI mL mS it ii so sa sb sc lp yo ya yb yc yl yp := by
  rw [rc_lf_3] at h
  exact br_f (by decide) h
theorem rc_y_l64_4 (h : post (rc_lf 4 a b c d)) : wY_longAt_64 post 4 a b c d (rc_sl 6 12) 0 mI mL mS it ii so sa sb sc lp yo ya yb yc yl yp := by
  rw [rc_lf_4] at h
  exact br_f (by decide) h
theorem rc_y_l64_5 (h : post (rc_lf 5 a b c d)) : wY_longAt_64 post 5 a b c d (rc_sl 7 12) 0 mI mL mS it ii so sa sb sc lp yo ya yb yc yl yp := by
  rw [rc_lf_5] at h
  exact br_f (by decide) h
theorem rc_y_l64_6 (h : post (rc_lf 6 a b c d)) : wY_longAt_64 post 6 a b c d (rc_sl 2 12) 0 mI mL mS it ii so sa sb sc lp yo ya yb yc yl yp := by
  rw [rc_lf_6] at h
  exact br_f (by decide) h
theorem rc_y_l64_7 (h : post (rc_lf 7 a b c d)) : wY_longAt_64 post 7 a b c d (rc_sl 0 12) 0 mI mL mS it ii so sa sb sc lp yo ya yb yc yl yp := by
  rw [rc_lf_7] at h
  exact br_t (by decide) (br_f (by decide) h)
theorem rc_y_l64_8 (h : post (rc_lf 8 a b c d)) : wY_longAt_64 post 8 a b c d (rc_sl 7 12) 0 mI mL mS it ii so sa sb sc lp yo ya yb yc yl yp := by
  rw [rc_lf_8] at h
  exact br_t (by decide) (br_f (by decide) h)
theorem rc_y_l64_9 (h : post (rc_lf 9 a b c d)) : wY_longAt_64 post 9 a b c d (rc_sl 4 12) 0 mI mL mS it ii so sa sb sc lp yo ya yb yc yl yp := by
  rw [rc_lf_9] at h
  exact br_t (by decide) (br_f (by decide) h)
theorem rc_y_l64_10 (hc : rc_Rg c) (h : post (rc_lf 10 a b c d)) : wY_longAt_64 post 10 a b c d (rc_sl 1 12) 0 mI mL mS it ii so sa sb sc lp yo ya yb yc yl yp := by
  rw [rc_lf_10] at h
  obtain ⟨m, hm, rfl⟩ := hc
  unfold rc_cIm at h
  rw [rc_c20_10 m hm] at h
  exact br_t (by decide) (br_t (by decide) (br_f (by decide) h))
theorem rc_y_l64_11 (hc : rc_Rg c) (h : post (rc_lf 11 a b c d)) : wY_longAt_64 post 11 a b c d (rc_sl 5 12) 0 mI mL mS it ii so sa sb sc lp yo ya yb yc yl yp := by
  rw [rc_lf_11] at h
  obtain ⟨m, hm, rfl⟩ := hc
  unfold rc_cIm at h
  rw [rc_c20_10 m hm] at h
  exact br_t (by decide) (br_t (by decide) (br_f (by decide) h))
theorem rc_y_l64_12 (hc : rc_Rg c) (h : post (rc_lf 12 a b c d)) : wY_longAt_64 post 12 a b c d (rc_sl 5 12) 32 mI mL mS it ii so sa sb sc lp yo ya yb yc yl yp := by
  rw [rc_lf_12] at h
  obtain ⟨m, hm, rfl⟩ := hc
  unfold rc_cIm at h
  rw [rc_c20_12 m hm] at h
  exact br_t (by decide) (br_t (by decide) (br_f (by decide) h))
theorem rc_y_l64_13 (h : post (rc_lf 13 a b c d)) : wY_longAt_64 post 13 a b c d (rc_sl 2 12) 0 mI mL mS it ii so sa sb sc lp yo ya yb yc yl yp := by
  rw [rc_lf_13] at h
  exact br_t (by decide) (br_t (by decide) (br_t (by decide) (br_t rfl h)))
theorem rc_y_l64_14 (h : post (rc_lf 14 a b c d)) : wY_longAt_64 post 14 a b c d (rc_sl 2 12) 0 mI mL mS it ii so sa sb sc lp yo ya yb yc yl yp := by
  rw [rc_lf_14] at h
  exact br_t (by decide) (br_t (by decide) (br_t (by decide) (br_f (by decide) (br_t rfl h))))
theorem rc_y_l64_15 (h : post (rc_lf 15 a b c d)) : wY_longAt_64 post 15 a b c d (rc_sl 0 12) 0 mI mL mS it ii so sa sb sc lp yo ya yb yc yl yp := by
  rw [rc_lf_15] at h
  exact br_t (by decide) (br_t (by decide) (br_t (by decide) (br_f (by decide) (br_f (by decide) (br_t rfl h)))))
theorem rc_y_l64_16 (h : post (rc_lf 16 a b c d)) : wY_longAt_64 post 16 a b c d (rc_sl 0 12) 0 mI mL mS it ii so sa sb sc lp yo ya yb yc yl yp := by
  rw [rc_lf_16] at h
  unfold rc_cIm at h
  rw [show rc_sl 0 12 = 0 from by unfold rc_sl; decide, Int32.or_zero] at h
  exact br_t (by decide) (br_t (by decide) (br_t (by decide) (br_f (by decide) (br_f (by decide) (br_f (by decide) (br_t rfl h))))))
theorem rc_y_l64_17 (h : post (rc_lf 17 a b c d)) : wY_longAt_64 post 17 a b c d (rc_sl 0 12) 0 mI mL mS it ii so sa sb sc lp yo ya yb yc yl yp := by
  rw [rc_lf_17] at h
  exact br_t (by decide) (br_t (by decide) (br_t (by decide) (br_f (by decide) (br_f (by decide) (br_f (by decide) (br_f (by decide) (br_t rfl h)))))))
theorem rc_y_l64_18 (h : post (rc_lf 18 a b c d)) : wY_longAt_64 post 18 a b c d (rc_sl 0 12) 0 mI mL mS it ii so sa sb sc lp yo ya yb yc yl yp := by
  rw [rc_lf_18] at h
  exact br_t (by decide) (br_t (by decide) (br_t (by decide) (br_f (by decide) (br_f (by decide) (br_f (by decide) (br_f (by decide) (br_f (by decide) (br_f (by decide) h))))))))
theorem rc_y_l64_19 (h : post (rc_lf 19 a b c d)) : wY_longAt_64 post 19 a b c d (rc_sl 1 12) 0 mI mL mS it ii so sa sb sc lp yo ya yb yc yl yp := by
  rw [rc_lf_19] at h
  exact br_t (by decide) (br_t (by decide) (br_t (by decide) (br_f (by decide) (br_f (by decide) (br_f (by decide) (br_f (by decide) (br_f (by decide) (br_f (by decide) h))))))))
theorem rc_y_l64_20 (h : post (rc_lf 20 a b c d)) : wY_longAt_64 post 20 a b c d (rc_sl 4 12) 0 mI mL mS it ii so sa sb sc lp yo ya yb yc yl yp := by
  rw [rc_lf_20] at h
  exact br_t (by decide) (br_t (by decide) (br_t (by decide) (br_f (by decide) (br_f (by decide) (br_f (by decide) (br_f (by decide) (br_f (by decide) (br_f (by decide) h))))))))
theorem rc_y_l64_21 (h : post (rc_lf 21 a b c d)) : wY_longAt_64 post 21 a b c d (rc_sl 0 12) 0 mI mL mS it ii so sa sb sc lp yo ya yb yc yl yp := by
  rw [rc_lf_21] at h
  exact br_t (by decide) (br_t (by decide) (br_t (by decide) (br_f (by decide) (br_f (by decide) (br_f (by decide) (br_f (by decide) (br_f (by decide) (br_t (by decide) h))))))))
end
end
section
/-! the fields of every word (printed by 05.decode.py) -/
theorem rc_fu_p1 {r v : Int32} (h_r : rc_uv r < 2 ^ 5) : rc_uv (rc_pk6 1 r v) < 2 ^ 16 := by unfold rc_pk6; exact (rc_uv_or (rc_uv_or (rc_uv_or (by unfold rc_uv; decide) (rc_uv_sl 1 (rc_fd_w v (by unfold rc_fo; decide)) (by decide) (by decide))) (rc_uv_sl 5 h_r (by decide) (by decide))) (rc_uv_sl 5 (rc_fd_w v (by unfold rc_fo; decide)) (by decide) (by decide)))
theorem rc_ff_p1_1_0 {r v : Int32} (h_r : rc_uv r < 2 ^ 5) : rc_fd (rc_pk6 1 r v) 1 0 = 1 := by unfold rc_pk6; exact (rc_fo_l (by unfold rc_fo; decide) (rc_fo_l (by unfold rc_fo; decide) (rc_fo_l (by unfold rc_fo; decide) (by unfold rc_fd; decide) (rc_fd_hi (by unfold rc_fo; decide) (by decide) (by decide))) (rc_fd_hi (by unfold rc_fo; decide) (by decide) (by decide))) (rc_fd_hi (by unfold rc_fo; decide) (by decide) (by decide)))
theorem rc_ff_p1_15_13 {r v : Int32} (h_r : rc_uv r < 2 ^ 5) : rc_fd (rc_pk6 1 r v) 15 13 = 0 := by unfold rc_pk6; exact (rc_fo_l (by unfold rc_fo; decide) (rc_fo_l (by unfold rc_fo; decide) (rc_fo_l (by unfold rc_fo; decide) (by unfold rc_fd; decide) (rc_fd_lo 1 (rc_fd_w v (by unfold rc_fo; decide)) (by unfold rc_fo; decide) (by decide))) (rc_fd_lo 5 h_r (by unfold rc_fo; decide) (by decide))) (rc_fd_lo 5 (rc_fd_w v (by unfold rc_fo; decide)) (by unfold rc_fo; decide) (by decide)))
theorem rc_ff_p1_11_7 {r v : Int32} (h_r : rc_uv r < 2 ^ 5) : rc_fd (rc_pk6 1 r v) 11 7 = r := by unfold rc_pk6; exact (rc_fo_l (by unfold rc_fo; decide) (rc_fo_r (by unfold rc_fo; decide) (rc_fo_l (by unfold rc_fo; decide) (by unfold rc_fd; decide) (rc_fd_hi (by unfold rc_fo; decide) (by decide) (by decide))) (rc_fd_in 5 h_r (by unfold rc_fo; decide) (by decide))) (rc_fd_lo 5 (rc_fd_w v (by unfold rc_fo; decide)) (by unfold rc_fo; decide) (by decide)))
theorem rc_ff_p1_12_12 {r v : Int32} (h_r : rc_uv r < 2 ^ 5) : rc_fd (rc_pk6 1 r v) 12 12 = (rc_fd v 5 5) := by unfold rc_pk6; exact (rc_fo_l (by unfold rc_fo; decide) (rc_fo_l (by unfold rc_fo; decide) (rc_fo_r (by unfold rc_fo; decide) (by unfold rc_fd; decide) (rc_fd_in 1 (rc_fd_w v (by unfold rc_fo; decide)) (by unfold rc_fo; decide) (by decide))) (rc_fd_lo 5 h_r (by unfold rc_fo; decide) (by decide))) (rc_fd_lo 5 (rc_fd_w v (by unfold rc_fo; decide)) (by unfold rc_fo; decide) (by decide)))
theorem rc_ff_p1_6_2 {r v : Int32} (h_r : rc_uv r < 2 ^ 5) : rc_fd (rc_pk6 1 r v) 6 2 = (rc_fd v 4 0) := by unfold rc_pk6; exact (rc_fo_r (by unfold rc_fo; decide) (rc_fo_l (by unfold rc_fo; decide) (rc_fo_l (by unfold rc_fo; decide) (by unfold rc_fd; decide) (rc_fd_hi (by unfold rc_fo; decide) (by decide) (by decide))) (rc_fd_hi (by unfold rc_fo; decide) (by decide) (by decide))) (rc_fd_in 5 (rc_fd_w v (by unfold rc_fo; decide)) (by unfold rc_fo; decide) (by decide)))
theorem rc_fu_p16385 {r v : Int32} (h_r : rc_uv r < 2 ^ 5) : rc_uv (rc_pk6 16385 r v) < 2 ^ 16 := by unfold rc_pk6; exact (rc_uv_or (rc_uv_or (rc_uv_or (by unfold rc_uv; decide) (rc_uv_sl 1 (rc_fd_w v (by unfold rc_fo; decide)) (by decide) (by decide))) (rc_uv_sl 5 h_r (by decide) (by decide))) (rc_uv_sl 5 (rc_fd_w v (by unfold rc_fo; decide)) (by decide) (by decide)))
theorem rc_ff_p16385_1_0 {r v : Int32} (h_r : rc_uv r < 2 ^ 5) : rc_fd (rc_pk6 16385 r v) 1 0 = 1 := by unfold rc_pk6; exact (rc_fo_l (by unfold rc_fo; decide) (rc_fo_l (by unfold rc_fo; decide) (rc_fo_l (by unfold rc_fo; decide) (by unfold rc_fd; decide) (rc_fd_hi (by unfold rc_fo; decide) (by decide) (by decide))) (rc_fd_hi (by unfold rc_fo; decide) (by decide) (by decide))) (rc_fd_hi (by unfold rc_fo; decide) (by decide) (by decide)))
theorem rc_ff_p16385_15_13 {r v : Int32} (h_r : rc_uv r < 2 ^ 5) : rc_fd (rc_pk6 16385 r v) 15 13 = 2 := by unfold rc_pk6; exact (rc_fo_l (by unfold rc_fo; decide) (rc_fo_l (by unfold rc_fo; decide) (rc_fo_l (by unfold rc_fo; decide) (by unfold rc_fd; decide) (rc_fd_lo 1 (rc_fd_w v (by unfold rc_fo; decide)) (by unfold rc_fo; decide) (by decide))) (rc_fd_lo 5 h_r (by unfold rc_fo; decide) (by decide))) (rc_fd_lo 5 (rc_fd_w v (by unfold rc_fo; decide)) (by unfold rc_fo; decide) (by decide)))
theorem rc_ff_p16385_11_7 {r v : Int32} (h_r : rc_uv r < 2 ^ 5) : rc_fd (rc_pk6 16385 r v) 11 7 = r := by unfold rc_pk6; exact (rc_fo_l (by unfold rc_fo; decide) (rc_fo_r (by unfold rc_fo; decide) (rc_fo_l (by unfold rc_fo; decide) (by unfold rc_fd; decide) (rc_fd_hi (by unfold rc_fo; decide) (by decide) (by decide))) (rc_fd_in 5 h_r (by unfold rc_fo; decide) (by decide))) (rc_fd_lo 5 (rc_fd_w v (by unfold rc_fo; decide)) (by unfold rc_fo; decide) (by decide)))
theorem rc_ff_p16385_12_12 {r v : Int32} (h_r : rc_uv r < 2 ^ 5) : rc_fd (rc_pk6 16385 r v) 12 12 = (rc_fd v 5 5) := by unfold rc_pk6; exact (rc_fo_l (by unfold rc_fo; decide) (rc_fo_l (by unfold rc_fo; decide) (rc_fo_r (by unfold rc_fo; decide) (by unfold rc_fd; decide) (rc_fd_in 1 (rc_fd_w v (by unfold rc_fo; decide)) (by unfold rc_fo; decide) (by decide))) (rc_fd_lo 5 h_r (by unfold rc_fo; decide) (by decide))) (rc_fd_lo 5 (rc_fd_w v (by unfold rc_fo; decide)) (by unfold rc_fo; decide) (by decide)))
theorem rc_ff_p16385_6_2 {r v : Int32} (h_r : rc_uv r < 2 ^ 5) : rc_fd (rc_pk6 16385 r v) 6 2 = (rc_fd v 4 0) := by unfold rc_pk6; exact (rc_fo_r (by unfold rc_fo; decide) (rc_fo_l (by unfold rc_fo; decide) (rc_fo_l (by unfold rc_fo; decide) (by unfold rc_fd; decide) (rc_fd_hi (by unfold rc_fo; decide) (by decide) (by decide))) (rc_fd_hi (by unfold rc_fo; decide) (by decide) (by decide))) (rc_fd_in 5 (rc_fd_w v (by unfold rc_fo; decide)) (by unfold rc_fo; decide) (by decide)))
theorem rc_fu_p24577 {r v : Int32} (h_r : rc_uv r < 2 ^ 5) : rc_uv (rc_pk6 24577 r v) < 2 ^ 16 := by unfold rc_pk6; exact (rc_uv_or (rc_uv_or (rc_uv_or (by unfold rc_uv; decide) (rc_uv_sl 1 (rc_fd_w v (by unfold rc_fo; decide)) (by decide) (by decide))) (rc_uv_sl 5 h_r (by decide) (by decide))) (rc_uv_sl 5 (rc_fd_w v (by unfold rc_fo; decide)) (by decide) (by decide)))
theorem rc_ff_p24577_1_0 {r v : Int32} (h_r : rc_uv r < 2 ^ 5) : rc_fd (rc_pk6 24577 r v) 1 0 = 1 := by unfold rc_pk6; exact (rc_fo_l (by unfold rc_fo; decide) (rc_fo_l (by unfold rc_fo; decide) (rc_fo_l (by unfold rc_fo; decide) (by unfold rc_fd; decide) (rc_fd_hi (by unfold rc_fo; decide) (by decide) (by decide))) (rc_fd_hi (by unfold rc_fo; decide) (by decide) (by decide))) (rc_fd_hi (by unfold rc_fo; decide) (by decide) (by decide)))
theorem rc_ff_p24577_15_13 {r v : Int32} (h_r : rc_uv r < 2 ^ 5) : rc_fd (rc_pk6 24577 r v) 15 13 = 3 := by unfold rc_pk6; exact (rc_fo_l (by unfold rc_fo; decide) (rc_fo_l (by unfold rc_fo; decide) (rc_fo_l (by unfold rc_fo; decide) (by unfold rc_fd; decide) (rc_fd_lo 1 (rc_fd_w v (by unfold rc_fo; decide)) (by unfold rc_fo; decide) (by decide))) (rc_fd_lo 5 h_r (by unfold rc_fo; decide) (by decide))) (rc_fd_lo 5 (rc_fd_w v (by unfold rc_fo; decide)) (by unfold rc_fo; decide) (by decide)))
theorem rc_ff_p24577_11_7 {r v : Int32} (h_r : rc_uv r < 2 ^ 5) : rc_fd (rc_pk6 24577 r v) 11 7 = r := by unfold rc_pk6; exact (rc_fo_l (by unfold rc_fo; decide) (rc_fo_r (by unfold rc_fo; decide) (rc_fo_l (by unfold rc_fo; decide) (by unfold rc_fd; decide) (rc_fd_hi (by unfold rc_fo; decide) (by decide) (by decide))) (rc_fd_in 5 h_r (by unfold rc_fo; decide) (by decide))) (rc_fd_lo 5 (rc_fd_w v (by unfold rc_fo; decide)) (by unfold rc_fo; decide) (by decide)))
theorem rc_ff_p24577_12_12 {r v : Int32} (h_r : rc_uv r < 2 ^ 5) : rc_fd (rc_pk6 24577 r v) 12 12 = (rc_fd v 5 5) := by unfold rc_pk6; exact (rc_fo_l (by unfold rc_fo; decide) (rc_fo_l (by unfold rc_fo; decide) (rc_fo_r (by unfold rc_fo; decide) (by unfold rc_fd; decide) (rc_fd_in 1 (rc_fd_w v (by unfold rc_fo; decide)) (by unfold rc_fo; decide) (by decide))) (rc_fd_lo 5 h_r (by unfold rc_fo; decide) (by decide))) (rc_fd_lo 5 (rc_fd_w v (by unfold rc_fo; decide)) (by unfold rc_fo; decide) (by decide)))
theorem rc_ff_p24577_6_2 {r v : Int32} (h_r : rc_uv r < 2 ^ 5) : rc_fd (rc_pk6 24577 r v) 6 2 = (rc_fd v 4 0) := by unfold rc_pk6; exact (rc_fo_r (by unfold rc_fo; decide) (rc_fo_l (by unfold rc_fo; decide) (rc_fo_l (by unfold rc_fo; decide) (by unfold rc_fd; decide) (rc_fd_hi (by unfold rc_fo; decide) (by decide) (by decide))) (rc_fd_hi (by unfold rc_fo; decide) (by decide) (by decide))) (rc_fd_in 5 (rc_fd_w v (by unfold rc_fo; decide)) (by unfold rc_fo; decide) (by decide)))
theorem rc_fu_p34817 {r v : Int32} (h_r : rc_uv r < 2 ^ 3) : rc_uv (rc_pk6 34817 r v) < 2 ^ 16 := by unfold rc_pk6; exact (rc_uv_or (rc_uv_or (rc_uv_or (by unfold rc_uv; decide) (rc_uv_sl 1 (rc_fd_w v (by unfold rc_fo; decide)) (by decide) (by decide))) (rc_uv_sl 3 h_r (by decide) (by decide))) (rc_uv_sl 5 (rc_fd_w v (by unfold rc_fo; decide)) (by decide) (by decide)))
theorem rc_ff_p34817_1_0 {r v : Int32} (h_r : rc_uv r < 2 ^ 3) : rc_fd (rc_pk6 34817 r v) 1 0 = 1 := by unfold rc_pk6; exact (rc_fo_l (by unfold rc_fo; decide) (rc_fo_l (by unfold rc_fo; decide) (rc_fo_l (by unfold rc_fo; decide) (by unfold rc_fd; decide) (rc_fd_hi (by unfold rc_fo; decide) (by decide) (by decide))) (rc_fd_hi (by unfold rc_fo; decide) (by decide) (by decide))) (rc_fd_hi (by unfold rc_fo; decide) (by decide) (by decide)))
theorem rc_ff_p34817_15_13 {r v : Int32} (h_r : rc_uv r < 2 ^ 3) : rc_fd (rc_pk6 34817 r v) 15 13 = 4 := by unfold rc_pk6; exact (rc_fo_l (by unfold rc_fo; decide) (rc_fo_l (by unfold rc_fo; decide) (rc_fo_l (by unfold rc_fo; decide) (by unfold rc_fd; decide) (rc_fd_lo 1 (rc_fd_w v (by unfold rc_fo; decide)) (by unfold rc_fo; decide) (by decide))) (rc_fd_lo 3 h_r (by unfold rc_fo; decide) (by decide))) (rc_fd_lo 5 (rc_fd_w v (by unfold rc_fo; decide)) (by unfold rc_fo; decide) (by decide)))
theorem rc_ff_p34817_9_7 {r v : Int32} (h_r : rc_uv r < 2 ^ 3) : rc_fd (rc_pk6 34817 r v) 9 7 = r := by unfold rc_pk6; exact (rc_fo_l (by unfold rc_fo; decide) (rc_fo_r (by unfold rc_fo; decide) (rc_fo_l (by unfold rc_fo; decide) (by unfold rc_fd; decide) (rc_fd_hi (by unfold rc_fo; decide) (by decide) (by decide))) (rc_fd_in 3 h_r (by unfold rc_fo; decide) (by decide))) (rc_fd_lo 5 (rc_fd_w v (by unfold rc_fo; decide)) (by unfold rc_fo; decide) (by decide)))
theorem rc_ff_p34817_11_10 {r v : Int32} (h_r : rc_uv r < 2 ^ 3) : rc_fd (rc_pk6 34817 r v) 11 10 = 2 := by unfold rc_pk6; exact (rc_fo_l (by unfold rc_fo; decide) (rc_fo_l (by unfold rc_fo; decide) (rc_fo_l (by unfold rc_fo; decide) (by unfold rc_fd; decide) (rc_fd_hi (by unfold rc_fo; decide) (by decide) (by decide))) (rc_fd_lo 3 h_r (by unfold rc_fo; decide) (by decide))) (rc_fd_lo 5 (rc_fd_w v (by unfold rc_fo; decide)) (by unfold rc_fo; decide) (by decide)))
theorem rc_ff_p34817_12_12 {r v : Int32} (h_r : rc_uv r < 2 ^ 3) : rc_fd (rc_pk6 34817 r v) 12 12 = (rc_fd v 5 5) := by unfold rc_pk6; exact (rc_fo_l (by unfold rc_fo; decide) (rc_fo_l (by unfold rc_fo; decide) (rc_fo_r (by unfold rc_fo; decide) (by unfold rc_fd; decide) (rc_fd_in 1 (rc_fd_w v (by unfold rc_fo; decide)) (by unfold rc_fo; decide) (by decide))) (rc_fd_lo 3 h_r (by unfold rc_fo; decide) (by decide))) (rc_fd_lo 5 (rc_fd_w v (by unfold rc_fo; decide)) (by unfold rc_fo; decide) (by decide)))
theorem rc_ff_p34817_6_2 {r v : Int32} (h_r : rc_uv r < 2 ^ 3) : rc_fd (rc_pk6 34817 r v) 6 2 = (rc_fd v 4 0) := by unfold rc_pk6; exact (rc_fo_r (by unfold rc_fo; decide) (rc_fo_l (by unfold rc_fo; decide) (rc_fo_l (by unfold rc_fo; decide) (by unfold rc_fd; decide) (rc_fd_hi (by unfold rc_fo; decide) (by decide) (by decide))) (rc_fd_hi (by unfold rc_fo; decide) (by decide) (by decide))) (rc_fd_in 5 (rc_fd_w v (by unfold rc_fo; decide)) (by unfold rc_fo; decide) (by decide)))
theorem rc_fu_a32769 {a c : Int32} (h_a : rc_uv a < 2 ^ 3) (h_c : rc_uv c < 2 ^ 5) : rc_uv (rc_cAc 32769 a c) < 2 ^ 16 := by unfold rc_cAc; exact (rc_uv_or (rc_uv_or (by unfold rc_uv; decide) (rc_uv_sl 3 h_a (by decide) (by decide))) (rc_uv_sl 5 h_c (by decide) (by decide)))
theorem rc_ff_a32769_1_0 {a c : Int32} (h_a : rc_uv a < 2 ^ 3) (h_c : rc_uv c < 2 ^ 5) : rc_fd (rc_cAc 32769 a c) 1 0 = 1 := by unfold rc_cAc; exact (rc_fo_l (by unfold rc_fo; decide) (rc_fo_l (by unfold rc_fo; decide) (by unfold rc_fd; decide) (rc_fd_hi (by unfold rc_fo; decide) (by decide) (by decide))) (rc_fd_hi (by unfold rc_fo; decide) (by decide) (by decide)))
theorem rc_ff_a32769_15_13 {a c : Int32} (h_a : rc_uv a < 2 ^ 3) (h_c : rc_uv c < 2 ^ 5) : rc_fd (rc_cAc 32769 a c) 15 13 = 4 := by unfold rc_cAc; exact (rc_fo_l (by unfold rc_fo; decide) (rc_fo_l (by unfold rc_fo; decide) (by unfold rc_fd; decide) (rc_fd_lo 3 h_a (by unfold rc_fo; decide) (by decide))) (rc_fd_lo 5 h_c (by unfold rc_fo; decide) (by decide)))
theorem rc_ff_a32769_9_7 {a c : Int32} (h_a : rc_uv a < 2 ^ 3) (h_c : rc_uv c < 2 ^ 5) : rc_fd (rc_cAc 32769 a c) 9 7 = a := by unfold rc_cAc; exact (rc_fo_l (by unfold rc_fo; decide) (rc_fo_r (by unfold rc_fo; decide) (by unfold rc_fd; decide) (rc_fd_in 3 h_a (by unfold rc_fo; decide) (by decide))) (rc_fd_lo 5 h_c (by unfold rc_fo; decide) (by decide)))
theorem rc_ff_a32769_11_10 {a c : Int32} (h_a : rc_uv a < 2 ^ 3) (h_c : rc_uv c < 2 ^ 5) : rc_fd (rc_cAc 32769 a c) 11 10 = 0 := by unfold rc_cAc; exact (rc_fo_l (by unfold rc_fo; decide) (rc_fo_l (by unfold rc_fo; decide) (by unfold rc_fd; decide) (rc_fd_lo 3 h_a (by unfold rc_fo; decide) (by decide))) (rc_fd_lo 5 h_c (by unfold rc_fo; decide) (by decide)))
theorem rc_ff_a32769_12_12 {a c : Int32} (h_a : rc_uv a < 2 ^ 3) (h_c : rc_uv c < 2 ^ 5) : rc_fd (rc_cAc 32769 a c) 12 12 = 0 := by unfold rc_cAc; exact (rc_fo_l (by unfold rc_fo; decide) (rc_fo_l (by unfold rc_fo; decide) (by unfold rc_fd; decide) (rc_fd_lo 3 h_a (by unfold rc_fo; decide) (by decide))) (rc_fd_lo 5 h_c (by unfold rc_fo; decide) (by decide)))
theorem rc_ff_a32769_6_2 {a c : Int32} (h_a : rc_uv a < 2 ^ 3) (h_c : rc_uv c < 2 ^ 5) : rc_fd (rc_cAc 32769 a c) 6 2 = c := by unfold rc_cAc; exact (rc_fo_r (by unfold rc_fo; decide) (rc_fo_l (by unfold rc_fo; decide) (by unfold rc_fd; decide) (rc_fd_hi (by unfold rc_fo; decide) (by decide) (by decide))) (rc_fd_in 5 h_c (by unfold rc_fo; decide) (by decide)))
theorem rc_fu_a33793 {a c : Int32} (h_a : rc_uv a < 2 ^ 3) (h_c : rc_uv c < 2 ^ 5) : rc_uv (rc_cAc 33793 a c) < 2 ^ 16 := by unfold rc_cAc; exact (rc_uv_or (rc_uv_or (by unfold rc_uv; decide) (rc_uv_sl 3 h_a (by decide) (by decide))) (rc_uv_sl 5 h_c (by decide) (by decide)))
theorem rc_ff_a33793_1_0 {a c : Int32} (h_a : rc_uv a < 2 ^ 3) (h_c : rc_uv c < 2 ^ 5) : rc_fd (rc_cAc 33793 a c) 1 0 = 1 := by unfold rc_cAc; exact (rc_fo_l (by unfold rc_fo; decide) (rc_fo_l (by unfold rc_fo; decide) (by unfold rc_fd; decide) (rc_fd_hi (by unfold rc_fo; decide) (by decide) (by decide))) (rc_fd_hi (by unfold rc_fo; decide) (by decide) (by decide)))
theorem rc_ff_a33793_15_13 {a c : Int32} (h_a : rc_uv a < 2 ^ 3) (h_c : rc_uv c < 2 ^ 5) : rc_fd (rc_cAc 33793 a c) 15 13 = 4 := by unfold rc_cAc; exact (rc_fo_l (by unfold rc_fo; decide) (rc_fo_l (by unfold rc_fo; decide) (by unfold rc_fd; decide) (rc_fd_lo 3 h_a (by unfold rc_fo; decide) (by decide))) (rc_fd_lo 5 h_c (by unfold rc_fo; decide) (by decide)))
theorem rc_ff_a33793_9_7 {a c : Int32} (h_a : rc_uv a < 2 ^ 3) (h_c : rc_uv c < 2 ^ 5) : rc_fd (rc_cAc 33793 a c) 9 7 = a := by unfold rc_cAc; exact (rc_fo_l (by unfold rc_fo; decide) (rc_fo_r (by unfold rc_fo; decide) (by unfold rc_fd; decide) (rc_fd_in 3 h_a (by unfold rc_fo; decide) (by decide))) (rc_fd_lo 5 h_c (by unfold rc_fo; decide) (by decide)))
theorem rc_ff_a33793_11_10 {a c : Int32} (h_a : rc_uv a < 2 ^ 3) (h_c : rc_uv c < 2 ^ 5) : rc_fd (rc_cAc 33793 a c) 11 10 = 1 := by unfold rc_cAc; exact (rc_fo_l (by unfold rc_fo; decide) (rc_fo_l (by unfold rc_fo; decide) (by unfold rc_fd; decide) (rc_fd_lo 3 h_a (by unfold rc_fo; decide) (by decide))) (rc_fd_lo 5 h_c (by unfold rc_fo; decide) (by decide)))
theorem rc_ff_a33793_12_12 {a c : Int32} (h_a : rc_uv a < 2 ^ 3) (h_c : rc_uv c < 2 ^ 5) : rc_fd (rc_cAc 33793 a c) 12 12 = 0 := by unfold rc_cAc; exact (rc_fo_l (by unfold rc_fo; decide) (rc_fo_l (by unfold rc_fo; decide) (by unfold rc_fd; decide) (rc_fd_lo 3 h_a (by unfold rc_fo; decide) (by decide))) (rc_fd_lo 5 h_c (by unfold rc_fo; decide) (by decide)))
theorem rc_ff_a33793_6_2 {a c : Int32} (h_a : rc_uv a < 2 ^ 3) (h_c : rc_uv c < 2 ^ 5) : rc_fd (rc_cAc 33793 a c) 6 2 = c := by unfold rc_cAc; exact (rc_fo_r (by unfold rc_fo; decide) (rc_fo_l (by unfold rc_fo; decide) (by unfold rc_fd; decide) (rc_fd_hi (by unfold rc_fo; decide) (by decide) (by decide))) (rc_fd_in 5 h_c (by unfold rc_fo; decide) (by decide)))
theorem rc_fu_a35841 {a c : Int32} (h_a : rc_uv a < 2 ^ 3) (h_c : rc_uv c < 2 ^ 3) : rc_uv (rc_cAc 35841 a c) < 2 ^ 16 := by unfold rc_cAc; exact (rc_uv_or (rc_uv_or (by unfold rc_uv; decide) (rc_uv_sl 3 h_a (by decide) (by decide))) (rc_uv_sl 3 h_c (by decide) (by decide)))
theorem rc_ff_a35841_1_0 {a c : Int32} (h_a : rc_uv a < 2 ^ 3) (h_c : rc_uv c < 2 ^ 3) : rc_fd (rc_cAc 35841 a c) 1 0 = 1 := by unfold rc_cAc; exact (rc_fo_l (by unfold rc_fo; decide) (rc_fo_l (by unfold rc_fo; decide) (by unfold rc_fd; decide) (rc_fd_hi (by unfold rc_fo; decide) (by decide) (by decide))) (rc_fd_hi (by unfold rc_fo; decide) (by decide) (by decide)))
theorem rc_ff_a35841_15_13 {a c : Int32} (h_a : rc_uv a < 2 ^ 3) (h_c : rc_uv c < 2 ^ 3) : rc_fd (rc_cAc 35841 a c) 15 13 = 4 := by unfold rc_cAc; exact (rc_fo_l (by unfold rc_fo; decide) (rc_fo_l (by unfold rc_fo; decide) (by unfold rc_fd; decide) (rc_fd_lo 3 h_a (by unfold rc_fo; decide) (by decide))) (rc_fd_lo 3 h_c (by unfold rc_fo; decide) (by decide)))
theorem rc_ff_a35841_9_7 {a c : Int32} (h_a : rc_uv a < 2 ^ 3) (h_c : rc_uv c < 2 ^ 3) : rc_fd (rc_cAc 35841 a c) 9 7 = a := by unfold rc_cAc; exact (rc_fo_l (by unfold rc_fo; decide) (rc_fo_r (by unfold rc_fo; decide) (by unfold rc_fd; decide) (rc_fd_in 3 h_a (by unfold rc_fo; decide) (by decide))) (rc_fd_lo 3 h_c (by unfold rc_fo; decide) (by decide)))
theorem rc_ff_a35841_11_10 {a c : Int32} (h_a : rc_uv a < 2 ^ 3) (h_c : rc_uv c < 2 ^ 3) : rc_fd (rc_cAc 35841 a c) 11 10 = 3 := by unfold rc_cAc; exact (rc_fo_l (by unfold rc_fo; decide) (rc_fo_l (by unfold rc_fo; decide) (by unfold rc_fd; decide) (rc_fd_lo 3 h_a (by unfold rc_fo; decide) (by decide))) (rc_fd_lo 3 h_c (by unfold rc_fo; decide) (by decide)))
theorem rc_ff_a35841_6_5 {a c : Int32} (h_a : rc_uv a < 2 ^ 3) (h_c : rc_uv c < 2 ^ 3) : rc_fd (rc_cAc 35841 a c) 6 5 = 0 := by unfold rc_cAc; exact (rc_fo_l (by unfold rc_fo; decide) (rc_fo_l (by unfold rc_fo; decide) (by unfold rc_fd; decide) (rc_fd_hi (by unfold rc_fo; decide) (by decide) (by decide))) (rc_fd_lo 3 h_c (by unfold rc_fo; decide) (by decide)))
theorem rc_ff_a35841_4_2 {a c : Int32} (h_a : rc_uv a < 2 ^ 3) (h_c : rc_uv c < 2 ^ 3) : rc_fd (rc_cAc 35841 a c) 4 2 = c := by unfold rc_cAc; exact (rc_fo_r (by unfold rc_fo; decide) (rc_fo_l (by unfold rc_fo; decide) (by unfold rc_fd; decide) (rc_fd_hi (by unfold rc_fo; decide) (by decide) (by decide))) (rc_fd_in 3 h_c (by unfold rc_fo; decide) (by decide)))
theorem rc_fu_a35873 {a c : Int32} (h_a : rc_uv a < 2 ^ 3) (h_c : rc_uv c < 2 ^ 3) : rc_uv (rc_cAc 35873 a c) < 2 ^ 16 := by unfold rc_cAc; exact (rc_uv_or (rc_uv_or (by unfold rc_uv; decide) (rc_uv_sl 3 h_a (by decide) (by decide))) (rc_uv_sl 3 h_c (by decide) (by decide)))
theorem rc_ff_a35873_1_0 {a c : Int32} (h_a : rc_uv a < 2 ^ 3) (h_c : rc_uv c < 2 ^ 3) : rc_fd (rc_cAc 35873 a c) 1 0 = 1 := by unfold rc_cAc; exact (rc_fo_l (by unfold rc_fo; decide) (rc_fo_l (by unfold rc_fo; decide) (by unfold rc_fd; decide) (rc_fd_hi (by unfold rc_fo; decide) (by decide) (by decide))) (rc_fd_hi (by unfold rc_fo; decide) (by decide) (by decide)))
theorem rc_ff_a35873_15_13 {a c : Int32} (h_a : rc_uv a < 2 ^ 3) (h_c : rc_uv c < 2 ^ 3) : rc_fd (rc_cAc 35873 a c) 15 13 = 4 := by unfold rc_cAc; exact (rc_fo_l (by unfold rc_fo; decide) (rc_fo_l (by unfold rc_fo; decide) (by unfold rc_fd; decide) (rc_fd_lo 3 h_a (by unfold rc_fo; decide) (by decide))) (rc_fd_lo 3 h_c (by unfold rc_fo; decide) (by decide)))
theorem rc_ff_a35873_9_7 {a c : Int32} (h_a : rc_uv a < 2 ^ 3) (h_c : rc_uv c < 2 ^ 3) : rc_fd (rc_cAc 35873 a c) 9 7 = a := by unfold rc_cAc; exact (rc_fo_l (by unfold rc_fo; decide) (rc_fo_r (by unfold rc_fo; decide) (by unfold rc_fd; decide) (rc_fd_in 3 h_a (by unfold rc_fo; decide) (by decide))) (rc_fd_lo 3 h_c (by unfold rc_fo; decide) (by decide)))
theorem rc_ff_a35873_11_10 {a c : Int32} (h_a : rc_uv a < 2 ^ 3) (h_c : rc_uv c < 2 ^ 3) : rc_fd (rc_cAc 35873 a c) 11 10 = 3 := by unfold rc_cAc; exact (rc_fo_l (by unfold rc_fo; decide) (rc_fo_l (by unfold rc_fo; decide) (by unfold rc_fd; decide) (rc_fd_lo 3 h_a (by unfold rc_fo; decide) (by decide))) (rc_fd_lo 3 h_c (by unfold rc_fo; decide) (by decide)))
theorem rc_ff_a35873_6_5 {a c : Int32} (h_a : rc_uv a < 2 ^ 3) (h_c : rc_uv c < 2 ^ 3) : rc_fd (rc_cAc 35873 a c) 6 5 = 1 := by unfold rc_cAc; exact (rc_fo_l (by unfold rc_fo; decide) (rc_fo_l (by unfold rc_fo; decide) (by unfold rc_fd; decide) (rc_fd_hi (by unfold rc_fo; decide) (by decide) (by decide))) (rc_fd_lo 3 h_c (by unfold rc_fo; decide) (by decide)))
theorem rc_ff_a35873_4_2 {a c : Int32} (h_a : rc_uv a < 2 ^ 3) (h_c : rc_uv c < 2 ^ 3) : rc_fd (rc_cAc 35873 a c) 4 2 = c := by unfold rc_cAc; exact (rc_fo_r (by unfold rc_fo; decide) (rc_fo_l (by unfold rc_fo; decide) (by unfold rc_fd; decide) (rc_fd_hi (by unfold rc_fo; decide) (by decide) (by decide))) (rc_fd_in 3 h_c (by unfold rc_fo; decide) (by decide)))
theorem rc_fu_a35905 {a c : Int32} (h_a : rc_uv a < 2 ^ 3) (h_c : rc_uv c < 2 ^ 3) : rc_uv (rc_cAc 35905 a c) < 2 ^ 16 := by unfold rc_cAc; exact (rc_uv_or (rc_uv_or (by unfold rc_uv; decide) (rc_uv_sl 3 h_a (by decide) (by decide))) (rc_uv_sl 3 h_c (by decide) (by decide)))
theorem rc_ff_a35905_1_0 {a c : Int32} (h_a : rc_uv a < 2 ^ 3) (h_c : rc_uv c < 2 ^ 3) : rc_fd (rc_cAc 35905 a c) 1 0 = 1 := by unfold rc_cAc; exact (rc_fo_l (by unfold rc_fo; decide) (rc_fo_l (by unfold rc_fo; decide) (by unfold rc_fd; decide) (rc_fd_hi (by unfold rc_fo; decide) (by decide) (by decide))) (rc_fd_hi (by unfold rc_fo; decide) (by decide) (by decide)))
theorem rc_ff_a35905_15_13 {a c : Int32} (h_a : rc_uv a < 2 ^ 3) (h_c : rc_uv c < 2 ^ 3) : rc_fd (rc_cAc 35905 a c) 15 13 = 4 := by unfold rc_cAc; exact (rc_fo_l (by unfold rc_fo; decide) (rc_fo_l (by unfold rc_fo; decide) (by unfold rc_fd; decide) (rc_fd_lo 3 h_a (by unfold rc_fo; decide) (by decide))) (rc_fd_lo 3 h_c (by unfold rc_fo; decide) (by decide)))
theorem rc_ff_a35905_9_7 {a c : Int32} (h_a : rc_uv a < 2 ^ 3) (h_c : rc_uv c < 2 ^ 3) : rc_fd (rc_cAc 35905 a c) 9 7 = a := by unfold rc_cAc; exact (rc_fo_l (by unfold rc_fo; decide) (rc_fo_r (by unfold rc_fo; decide) (by unfold rc_fd; decide) (rc_fd_in 3 h_a (by unfold rc_fo; decide) (by decide))) (rc_fd_lo 3 h_c (by unfold rc_fo; decide) (by decide)))
theorem rc_ff_a35905_11_10 {a c : Int32} (h_a : rc_uv a < 2 ^ 3) (h_c : rc_uv c < 2 ^ 3) : rc_fd (rc_cAc 35905 a c) 11 10 = 3 := by unfold rc_cAc; exact (rc_fo_l (by unfold rc_fo; decide) (rc_fo_l (by unfold rc_fo; decide) (by unfold rc_fd; decide) (rc_fd_lo 3 h_a (by unfold rc_fo; decide) (by decide))) (rc_fd_lo 3 h_c (by unfold rc_fo; decide) (by decide)))
theorem rc_ff_a35905_6_5 {a c : Int32} (h_a : rc_uv a < 2 ^ 3) (h_c : rc_uv c < 2 ^ 3) : rc_fd (rc_cAc 35905 a c) 6 5 = 2 := by unfold rc_cAc; exact (rc_fo_l (by unfold rc_fo; decide) (rc_fo_l (by unfold rc_fo; decide) (by unfold rc_fd; decide) (rc_fd_hi (by unfold rc_fo; decide) (by decide) (by decide))) (rc_fd_lo 3 h_c (by unfold rc_fo; decide) (by decide)))
theorem rc_ff_a35905_4_2 {a c : Int32} (h_a : rc_uv a < 2 ^ 3) (h_c : rc_uv c < 2 ^ 3) : rc_fd (rc_cAc 35905 a c) 4 2 = c := by unfold rc_cAc; exact (rc_fo_r (by unfold rc_fo; decide) (rc_fo_l (by unfold rc_fo; decide) (by unfold rc_fd; decide) (rc_fd_hi (by unfold rc_fo; decide) (by decide) (by decide))) (rc_fd_in 3 h_c (by unfold rc_fo; decide) (by decide)))
theorem rc_fu_a35937 {a c : Int32} (h_a : rc_uv a < 2 ^ 3) (h_c : rc_uv c < 2 ^ 3) : rc_uv (rc_cAc 35937 a c) < 2 ^ 16 := by unfold rc_cAc; exact (rc_uv_or (rc_uv_or (by unfold rc_uv; decide) (rc_uv_sl 3 h_a (by decide) (by decide))) (rc_uv_sl 3 h_c (by decide) (by decide)))
theorem rc_ff_a35937_1_0 {a c : Int32} (h_a : rc_uv a < 2 ^ 3) (h_c : rc_uv c < 2 ^ 3) : rc_fd (rc_cAc 35937 a c) 1 0 = 1 := by unfold rc_cAc; exact (rc_fo_l (by unfold rc_fo; decide) (rc_fo_l (by unfold rc_fo; decide) (by unfold rc_fd; decide) (rc_fd_hi (by unfold rc_fo; decide) (by decide) (by decide))) (rc_fd_hi (by unfold rc_fo; decide) (by decide) (by decide)))
theorem rc_ff_a35937_15_13 {a c : Int32} (h_a : rc_uv a < 2 ^ 3) (h_c : rc_uv c < 2 ^ 3) : rc_fd (rc_cAc 35937 a c) 15 13 = 4 := by unfold rc_cAc; exact (rc_fo_l (by unfold rc_fo; decide) (rc_fo_l (by unfold rc_fo; decide) (by unfold rc_fd; decide) (rc_fd_lo 3 h_a (by unfold rc_fo; decide) (by decide))) (rc_fd_lo 3 h_c (by unfold rc_fo; decide) (by decide)))
theorem rc_ff_a35937_9_7 {a c : Int32} (h_a : rc_uv a < 2 ^ 3) (h_c : rc_uv c < 2 ^ 3) : rc_fd (rc_cAc 35937 a c) 9 7 = a := by unfold rc_cAc; exact (rc_fo_l (by unfold rc_fo; decide) (rc_fo_r (by unfold rc_fo; decide) (by unfold rc_fd; decide) (rc_fd_in 3 h_a (by unfold rc_fo; decide) (by decide))) (rc_fd_lo 3 h_c (by unfold rc_fo; decide) (by decide)))
theorem rc_ff_a35937_11_10 {a c : Int32} (h_a : rc_uv a < 2 ^ 3) (h_c : rc_uv c < 2 ^ 3) : rc_fd (rc_cAc 35937 a c) 11 10 = 3 := by unfold rc_cAc; exact (rc_fo_l (by unfold rc_fo; decide) (rc_fo_l (by unfold rc_fo; decide) (by unfold rc_fd; decide) (rc_fd_lo 3 h_a (by unfold rc_fo; decide) (by decide))) (rc_fd_lo 3 h_c (by unfold rc_fo; decide) (by decide)))
theorem rc_ff_a35937_6_5 {a c : Int32} (h_a : rc_uv a < 2 ^ 3) (h_c : rc_uv c < 2 ^ 3) : rc_fd (rc_cAc 35937 a c) 6 5 = 3 := by unfold rc_cAc; exact (rc_fo_l (by unfold rc_fo; decide) (rc_fo_l (by unfold rc_fo; decide) (by unfold rc_fd; decide) (rc_fd_hi (by unfold rc_fo; decide) (by decide) (by decide))) (rc_fd_lo 3 h_c (by unfold rc_fo; decide) (by decide)))
theorem rc_ff_a35937_4_2 {a c : Int32} (h_a : rc_uv a < 2 ^ 3) (h_c : rc_uv c < 2 ^ 3) : rc_fd (rc_cAc 35937 a c) 4 2 = c := by unfold rc_cAc; exact (rc_fo_r (by unfold rc_fo; decide) (rc_fo_l (by unfold rc_fo; decide) (by unfold rc_fd; decide) (rc_fd_hi (by unfold rc_fo; decide) (by decide) (by decide))) (rc_fd_in 3 h_c (by unfold rc_fo; decide) (by decide)))
theorem rc_fu_a36866 {a c : Int32} (h_a : rc_uv a < 2 ^ 5) (h_c : rc_uv c < 2 ^ 5) : rc_uv (rc_cAc 36866 a c) < 2 ^ 16 := by unfold rc_cAc; exact (rc_uv_or (rc_uv_or (by unfold rc_uv; decide) (rc_uv_sl 5 h_a (by decide) (by decide))) (rc_uv_sl 5 h_c (by decide) (by decide)))
theorem rc_ff_a36866_1_0 {a c : Int32} (h_a : rc_uv a < 2 ^ 5) (h_c : rc_uv c < 2 ^ 5) : rc_fd (rc_cAc 36866 a c) 1 0 = 2 := by unfold rc_cAc; exact (rc_fo_l (by unfold rc_fo; decide) (rc_fo_l (by unfold rc_fo; decide) (by unfold rc_fd; decide) (rc_fd_hi (by unfold rc_fo; decide) (by decide) (by decide))) (rc_fd_hi (by unfold rc_fo; decide) (by decide) (by decide)))
theorem rc_ff_a36866_15_13 {a c : Int32} (h_a : rc_uv a < 2 ^ 5) (h_c : rc_uv c < 2 ^ 5) : rc_fd (rc_cAc 36866 a c) 15 13 = 4 := by unfold rc_cAc; exact (rc_fo_l (by unfold rc_fo; decide) (rc_fo_l (by unfold rc_fo; decide) (by unfold rc_fd; decide) (rc_fd_lo 5 h_a (by unfold rc_fo; decide) (by decide))) (rc_fd_lo 5 h_c (by unfold rc_fo; decide) (by decide)))
theorem rc_ff_a36866_11_7 {a c : Int32} (h_a : rc_uv a < 2 ^ 5) (h_c : rc_uv c < 2 ^ 5) : rc_fd (rc_cAc 36866 a c) 11 7 = a := by unfold rc_cAc; exact (rc_fo_l (by unfold rc_fo; decide) (rc_fo_r (by unfold rc_fo; decide) (by unfold rc_fd; decide) (rc_fd_in 5 h_a (by unfold rc_fo; decide) (by decide))) (rc_fd_lo 5 h_c (by unfold rc_fo; decide) (by decide)))
theorem rc_ff_a36866_6_2 {a c : Int32} (h_a : rc_uv a < 2 ^ 5) (h_c : rc_uv c < 2 ^ 5) : rc_fd (rc_cAc 36866 a c) 6 2 = c := by unfold rc_cAc; exact (rc_fo_r (by unfold rc_fo; decide) (rc_fo_l (by unfold rc_fo; decide) (by unfold rc_fd; decide) (rc_fd_hi (by unfold rc_fo; decide) (by decide) (by decide))) (rc_fd_in 5 h_c (by unfold rc_fo; decide) (by decide)))
theorem rc_ff_a36866_12_12 {a c : Int32} (h_a : rc_uv a < 2 ^ 5) (h_c : rc_uv c < 2 ^ 5) : rc_fd (rc_cAc 36866 a c) 12 12 = 1 := by unfold rc_cAc; exact (rc_fo_l (by unfold rc_fo; decide) (rc_fo_l (by unfold rc_fo; decide) (by unfold rc_fd; decide) (rc_fd_lo 5 h_a (by unfold rc_fo; decide) (by decide))) (rc_fd_lo 5 h_c (by unfold rc_fo; decide) (by decide)))
theorem rc_fu_a32770 {a c : Int32} (h_a : rc_uv a < 2 ^ 5) (h_c : rc_uv c < 2 ^ 5) : rc_uv (rc_cAc 32770 a c) < 2 ^ 16 := by unfold rc_cAc; exact (rc_uv_or (rc_uv_or (by unfold rc_uv; decide) (rc_uv_sl 5 h_a (by decide) (by decide))) (rc_uv_sl 5 h_c (by decide) (by decide)))
theorem rc_ff_a32770_1_0 {a c : Int32} (h_a : rc_uv a < 2 ^ 5) (h_c : rc_uv c < 2 ^ 5) : rc_fd (rc_cAc 32770 a c) 1 0 = 2 := by unfold rc_cAc; exact (rc_fo_l (by unfold rc_fo; decide) (rc_fo_l (by unfold rc_fo; decide) (by unfold rc_fd; decide) (rc_fd_hi (by unfold rc_fo; decide) (by decide) (by decide))) (rc_fd_hi (by unfold rc_fo; decide) (by decide) (by decide)))
theorem rc_ff_a32770_15_13 {a c : Int32} (h_a : rc_uv a < 2 ^ 5) (h_c : rc_uv c < 2 ^ 5) : rc_fd (rc_cAc 32770 a c) 15 13 = 4 := by unfold rc_cAc; exact (rc_fo_l (by unfold rc_fo; decide) (rc_fo_l (by unfold rc_fo; decide) (by unfold rc_fd; decide) (rc_fd_lo 5 h_a (by unfold rc_fo; decide) (by decide))) (rc_fd_lo 5 h_c (by unfold rc_fo; decide) (by decide)))
theorem rc_ff_a32770_11_7 {a c : Int32} (h_a : rc_uv a < 2 ^ 5) (h_c : rc_uv c < 2 ^ 5) : rc_fd (rc_cAc 32770 a c) 11 7 = a := by unfold rc_cAc; exact (rc_fo_l (by unfold rc_fo; decide) (rc_fo_r (by unfold rc_fo; decide) (by unfold rc_fd; decide) (rc_fd_in 5 h_a (by unfold rc_fo; decide) (by decide))) (rc_fd_lo 5 h_c (by unfold rc_fo; decide) (by decide)))
theorem rc_ff_a32770_6_2 {a c : Int32} (h_a : rc_uv a < 2 ^ 5) (h_c : rc_uv c < 2 ^ 5) : rc_fd (rc_cAc 32770 a c) 6 2 = c := by unfold rc_cAc; exact (rc_fo_r (by unfold rc_fo; decide) (rc_fo_l (by unfold rc_fo; decide) (by unfold rc_fd; decide) (rc_fd_hi (by unfold rc_fo; decide) (by decide) (by decide))) (rc_fd_in 5 h_c (by unfold rc_fo; decide) (by decide)))
theorem rc_ff_a32770_12_12 {a c : Int32} (h_a : rc_uv a < 2 ^ 5) (h_c : rc_uv c < 2 ^ 5) : rc_fd (rc_cAc 32770 a c) 12 12 = 0 := by unfold rc_cAc; exact (rc_fo_l (by unfold rc_fo; decide) (rc_fo_l (by unfold rc_fo; decide) (by unfold rc_fd; decide) (rc_fd_lo 5 h_a (by unfold rc_fo; decide) (by decide))) (rc_fd_lo 5 h_c (by unfold rc_fo; decide) (by decide)))
theorem rc_fu_a2 {a c : Int32} (h_a : rc_uv a < 2 ^ 5) (h_c : rc_uv c < 2 ^ 5) : rc_uv (rc_cAc 2 a c) < 2 ^ 16 := by unfold rc_cAc; exact (rc_uv_or (rc_uv_or (by unfold rc_uv; decide) (rc_uv_sl 5 h_a (by decide) (by decide))) (rc_uv_sl 5 h_c (by decide) (by decide)))
theorem rc_ff_a2_1_0 {a c : Int32} (h_a : rc_uv a < 2 ^ 5) (h_c : rc_uv c < 2 ^ 5) : rc_fd (rc_cAc 2 a c) 1 0 = 2 := by unfold rc_cAc; exact (rc_fo_l (by unfold rc_fo; decide) (rc_fo_l (by unfold rc_fo; decide) (by unfold rc_fd; decide) (rc_fd_hi (by unfold rc_fo; decide) (by decide) (by decide))) (rc_fd_hi (by unfold rc_fo; decide) (by decide) (by decide)))
theorem rc_ff_a2_15_13 {a c : Int32} (h_a : rc_uv a < 2 ^ 5) (h_c : rc_uv c < 2 ^ 5) : rc_fd (rc_cAc 2 a c) 15 13 = 0 := by unfold rc_cAc; exact (rc_fo_l (by unfold rc_fo; decide) (rc_fo_l (by unfold rc_fo; decide) (by unfold rc_fd; decide) (rc_fd_lo 5 h_a (by unfold rc_fo; decide) (by decide))) (rc_fd_lo 5 h_c (by unfold rc_fo; decide) (by decide)))
theorem rc_ff_a2_11_7 {a c : Int32} (h_a : rc_uv a < 2 ^ 5) (h_c : rc_uv c < 2 ^ 5) : rc_fd (rc_cAc 2 a c) 11 7 = a := by unfold rc_cAc; exact (rc_fo_l (by unfold rc_fo; decide) (rc_fo_r (by unfold rc_fo; decide) (by unfold rc_fd; decide) (rc_fd_in 5 h_a (by unfold rc_fo; decide) (by decide))) (rc_fd_lo 5 h_c (by unfold rc_fo; decide) (by decide)))
theorem rc_ff_a2_6_2 {a c : Int32} (h_a : rc_uv a < 2 ^ 5) (h_c : rc_uv c < 2 ^ 5) : rc_fd (rc_cAc 2 a c) 6 2 = c := by unfold rc_cAc; exact (rc_fo_r (by unfold rc_fo; decide) (rc_fo_l (by unfold rc_fo; decide) (by unfold rc_fd; decide) (rc_fd_hi (by unfold rc_fo; decide) (by decide) (by decide))) (rc_fd_in 5 h_c (by unfold rc_fo; decide) (by decide)))
theorem rc_fu_sp {c : Int32}  : rc_uv (rc_cSp c) < 2 ^ 16 := by unfold rc_cSp; exact (rc_uv_or (rc_uv_or (rc_uv_or (rc_uv_or (rc_uv_or (by unfold rc_uv; decide) (rc_uv_sl 1 (rc_fd_w c (by unfold rc_fo; decide)) (by decide) (by decide))) (rc_uv_sl 1 (rc_fd_w c (by unfold rc_fo; decide)) (by decide) (by decide))) (rc_uv_sl 1 (rc_fd_w c (by unfold rc_fo; decide)) (by decide) (by decide))) (rc_uv_sl 2 (rc_fd_w c (by unfold rc_fo; decide)) (by decide) (by decide))) (rc_uv_sl 1 (rc_fd_w c (by unfold rc_fo; decide)) (by decide) (by decide)))
theorem rc_ff_sp_1_0 {c : Int32}  : rc_fd (rc_cSp c) 1 0 = 1 := by unfold rc_cSp; exact (rc_fo_l (by unfold rc_fo; decide) (rc_fo_l (by unfold rc_fo; decide) (rc_fo_l (by unfold rc_fo; decide) (rc_fo_l (by unfold rc_fo; decide) (rc_fo_l (by unfold rc_fo; decide) (by unfold rc_fd; decide) (rc_fd_hi (by unfold rc_fo; decide) (by decide) (by decide))) (rc_fd_hi (by unfold rc_fo; decide) (by decide) (by decide))) (rc_fd_hi (by unfold rc_fo; decide) (by decide) (by decide))) (rc_fd_hi (by unfold rc_fo; decide) (by decide) (by decide))) (rc_fd_hi (by unfold rc_fo; decide) (by decide) (by decide)))
theorem rc_ff_sp_15_13 {c : Int32}  : rc_fd (rc_cSp c) 15 13 = 3 := by unfold rc_cSp; exact (rc_fo_l (by unfold rc_fo; decide) (rc_fo_l (by unfold rc_fo; decide) (rc_fo_l (by unfold rc_fo; decide) (rc_fo_l (by unfold rc_fo; decide) (rc_fo_l (by unfold rc_fo; decide) (by unfold rc_fd; decide) (rc_fd_lo 1 (rc_fd_w c (by unfold rc_fo; decide)) (by unfold rc_fo; decide) (by decide))) (rc_fd_lo 1 (rc_fd_w c (by unfold rc_fo; decide)) (by unfold rc_fo; decide) (by decide))) (rc_fd_lo 1 (rc_fd_w c (by unfold rc_fo; decide)) (by unfold rc_fo; decide) (by decide))) (rc_fd_lo 2 (rc_fd_w c (by unfold rc_fo; decide)) (by unfold rc_fo; decide) (by decide))) (rc_fd_lo 1 (rc_fd_w c (by unfold rc_fo; decide)) (by unfold rc_fo; decide) (by decide)))
theorem rc_ff_sp_11_7 {c : Int32}  : rc_fd (rc_cSp c) 11 7 = 2 := by unfold rc_cSp; exact (rc_fo_l (by unfold rc_fo; decide) (rc_fo_l (by unfold rc_fo; decide) (rc_fo_l (by unfold rc_fo; decide) (rc_fo_l (by unfold rc_fo; decide) (rc_fo_l (by unfold rc_fo; decide) (by unfold rc_fd; decide) (rc_fd_hi (by unfold rc_fo; decide) (by decide) (by decide))) (rc_fd_lo 1 (rc_fd_w c (by unfold rc_fo; decide)) (by unfold rc_fo; decide) (by decide))) (rc_fd_lo 1 (rc_fd_w c (by unfold rc_fo; decide)) (by unfold rc_fo; decide) (by decide))) (rc_fd_lo 2 (rc_fd_w c (by unfold rc_fo; decide)) (by unfold rc_fo; decide) (by decide))) (rc_fd_lo 1 (rc_fd_w c (by unfold rc_fo; decide)) (by unfold rc_fo; decide) (by decide)))
theorem rc_ff_sp_12_12 {c : Int32}  : rc_fd (rc_cSp c) 12 12 = (rc_fd c 9 9) := by unfold rc_cSp; exact (rc_fo_l (by unfold rc_fo; decide) (rc_fo_l (by unfold rc_fo; decide) (rc_fo_l (by unfold rc_fo; decide) (rc_fo_l (by unfold rc_fo; decide) (rc_fo_r (by unfold rc_fo; decide) (by unfold rc_fd; decide) (rc_fd_in 1 (rc_fd_w c (by unfold rc_fo; decide)) (by unfold rc_fo; decide) (by decide))) (rc_fd_lo 1 (rc_fd_w c (by unfold rc_fo; decide)) (by unfold rc_fo; decide) (by decide))) (rc_fd_lo 1 (rc_fd_w c (by unfold rc_fo; decide)) (by unfold rc_fo; decide) (by decide))) (rc_fd_lo 2 (rc_fd_w c (by unfold rc_fo; decide)) (by unfold rc_fo; decide) (by decide))) (rc_fd_lo 1 (rc_fd_w c (by unfold rc_fo; decide)) (by unfold rc_fo; decide) (by decide)))
theorem rc_ff_sp_6_6 {c : Int32}  : rc_fd (rc_cSp c) 6 6 = (rc_fd c 4 4) := by unfold rc_cSp; exact (rc_fo_l (by unfold rc_fo; decide) (rc_fo_l (by unfold rc_fo; decide) (rc_fo_l (by unfold rc_fo; decide) (rc_fo_r (by unfold rc_fo; decide) (rc_fo_l (by unfold rc_fo; decide) (by unfold rc_fd; decide) (rc_fd_hi (by unfold rc_fo; decide) (by decide) (by decide))) (rc_fd_in 1 (rc_fd_w c (by unfold rc_fo; decide)) (by unfold rc_fo; decide) (by decide))) (rc_fd_lo 1 (rc_fd_w c (by unfold rc_fo; decide)) (by unfold rc_fo; decide) (by decide))) (rc_fd_lo 2 (rc_fd_w c (by unfold rc_fo; decide)) (by unfold rc_fo; decide) (by decide))) (rc_fd_lo 1 (rc_fd_w c (by unfold rc_fo; decide)) (by unfold rc_fo; decide) (by decide)))
theorem rc_ff_sp_5_5 {c : Int32}  : rc_fd (rc_cSp c) 5 5 = (rc_fd c 6 6) := by unfold rc_cSp; exact (rc_fo_l (by unfold rc_fo; decide) (rc_fo_l (by unfold rc_fo; decide) (rc_fo_r (by unfold rc_fo; decide) (rc_fo_l (by unfold rc_fo; decide) (rc_fo_l (by unfold rc_fo; decide) (by unfold rc_fd; decide) (rc_fd_hi (by unfold rc_fo; decide) (by decide) (by decide))) (rc_fd_hi (by unfold rc_fo; decide) (by decide) (by decide))) (rc_fd_in 1 (rc_fd_w c (by unfold rc_fo; decide)) (by unfold rc_fo; decide) (by decide))) (rc_fd_lo 2 (rc_fd_w c (by unfold rc_fo; decide)) (by unfold rc_fo; decide) (by decide))) (rc_fd_lo 1 (rc_fd_w c (by unfold rc_fo; decide)) (by unfold rc_fo; decide) (by decide)))
theorem rc_ff_sp_4_3 {c : Int32}  : rc_fd (rc_cSp c) 4 3 = (rc_fd c 8 7) := by unfold rc_cSp; exact (rc_fo_l (by unfold rc_fo; decide) (rc_fo_r (by unfold rc_fo; decide) (rc_fo_l (by unfold rc_fo; decide) (rc_fo_l (by unfold rc_fo; decide) (rc_fo_l (by unfold rc_fo; decide) (by unfold rc_fd; decide) (rc_fd_hi (by unfold rc_fo; decide) (by decide) (by decide))) (rc_fd_hi (by unfold rc_fo; decide) (by decide) (by decide))) (rc_fd_hi (by unfold rc_fo; decide) (by decide) (by decide))) (rc_fd_in 2 (rc_fd_w c (by unfold rc_fo; decide)) (by unfold rc_fo; decide) (by decide))) (rc_fd_lo 1 (rc_fd_w c (by unfold rc_fo; decide)) (by unfold rc_fo; decide) (by decide)))
theorem rc_ff_sp_2_2 {c : Int32}  : rc_fd (rc_cSp c) 2 2 = (rc_fd c 5 5) := by unfold rc_cSp; exact (rc_fo_r (by unfold rc_fo; decide) (rc_fo_l (by unfold rc_fo; decide) (rc_fo_l (by unfold rc_fo; decide) (rc_fo_l (by unfold rc_fo; decide) (rc_fo_l (by unfold rc_fo; decide) (by unfold rc_fd; decide) (rc_fd_hi (by unfold rc_fo; decide) (by decide) (by decide))) (rc_fd_hi (by unfold rc_fo; decide) (by decide) (by decide))) (rc_fd_hi (by unfold rc_fo; decide) (by decide) (by decide))) (rc_fd_hi (by unfold rc_fo; decide) (by decide) (by decide))) (rc_fd_in 1 (rc_fd_w c (by unfold rc_fo; decide)) (by unfold rc_fo; decide) (by decide)))
theorem rc_fu_a4 {a c : Int32} (h_a : rc_uv (a - 8) < 2 ^ 3) : rc_uv (rc_cA4 a c) < 2 ^ 16 := by unfold rc_cA4; exact (rc_uv_or (rc_uv_or (rc_uv_or (rc_uv_or (rc_uv_sl 2 (rc_fd_w c (by unfold rc_fo; decide)) (by decide) (by decide)) (rc_uv_sl 4 (rc_fd_w c (by unfold rc_fo; decide)) (by decide) (by decide))) (rc_uv_sl 1 (rc_fd_w c (by unfold rc_fo; decide)) (by decide) (by decide))) (rc_uv_sl 1 (rc_fd_w c (by unfold rc_fo; decide)) (by decide) (by decide))) (rc_uv_sl 3 h_a (by decide) (by decide)))
theorem rc_ff_a4_1_0 {a c : Int32} (h_a : rc_uv (a - 8) < 2 ^ 3) : rc_fd (rc_cA4 a c) 1 0 = 0 := by unfold rc_cA4; exact (rc_fo_l (by unfold rc_fo; decide) (rc_fo_l (by unfold rc_fo; decide) (rc_fo_l (by unfold rc_fo; decide) (rc_fo_l (by unfold rc_fo; decide) (rc_fd_hi (by unfold rc_fo; decide) (by decide) (by decide)) (rc_fd_hi (by unfold rc_fo; decide) (by decide) (by decide))) (rc_fd_hi (by unfold rc_fo; decide) (by decide) (by decide))) (rc_fd_hi (by unfold rc_fo; decide) (by decide) (by decide))) (rc_fd_hi (by unfold rc_fo; decide) (by decide) (by decide)))
theorem rc_ff_a4_15_13 {a c : Int32} (h_a : rc_uv (a - 8) < 2 ^ 3) : rc_fd (rc_cA4 a c) 15 13 = 0 := by unfold rc_cA4; exact (rc_fo_l (by unfold rc_fo; decide) (rc_fo_l (by unfold rc_fo; decide) (rc_fo_l (by unfold rc_fo; decide) (rc_fo_l (by unfold rc_fo; decide) (rc_fd_lo 2 (rc_fd_w c (by unfold rc_fo; decide)) (by unfold rc_fo; decide) (by decide)) (rc_fd_lo 4 (rc_fd_w c (by unfold rc_fo; decide)) (by unfold rc_fo; decide) (by decide))) (rc_fd_lo 1 (rc_fd_w c (by unfold rc_fo; decide)) (by unfold rc_fo; decide) (by decide))) (rc_fd_lo 1 (rc_fd_w c (by unfold rc_fo; decide)) (by unfold rc_fo; decide) (by decide))) (rc_fd_lo 3 h_a (by unfold rc_fo; decide) (by decide)))
theorem rc_ff_a4_4_2 {a c : Int32} (h_a : rc_uv (a - 8) < 2 ^ 3) : rc_fd (rc_cA4 a c) 4 2 = (a - 8) := by unfold rc_cA4; exact (rc_fo_r (by unfold rc_fo; decide) (rc_fo_l (by unfold rc_fo; decide) (rc_fo_l (by unfold rc_fo; decide) (rc_fo_l (by unfold rc_fo; decide) (rc_fd_hi (by unfold rc_fo; decide) (by decide) (by decide)) (rc_fd_hi (by unfold rc_fo; decide) (by decide) (by decide))) (rc_fd_hi (by unfold rc_fo; decide) (by decide) (by decide))) (rc_fd_hi (by unfold rc_fo; decide) (by decide) (by decide))) (rc_fd_in 3 h_a (by unfold rc_fo; decide) (by decide)))
theorem rc_ff_a4_12_11 {a c : Int32} (h_a : rc_uv (a - 8) < 2 ^ 3) : rc_fd (rc_cA4 a c) 12 11 = (rc_fd c 5 4) := by unfold rc_cA4; exact (rc_fo_l (by unfold rc_fo; decide) (rc_fo_l (by unfold rc_fo; decide) (rc_fo_l (by unfold rc_fo; decide) (rc_fo_l (by unfold rc_fo; decide) (rc_fd_in 2 (rc_fd_w c (by unfold rc_fo; decide)) (by unfold rc_fo; decide) (by decide)) (rc_fd_lo 4 (rc_fd_w c (by unfold rc_fo; decide)) (by unfold rc_fo; decide) (by decide))) (rc_fd_lo 1 (rc_fd_w c (by unfold rc_fo; decide)) (by unfold rc_fo; decide) (by decide))) (rc_fd_lo 1 (rc_fd_w c (by unfold rc_fo; decide)) (by unfold rc_fo; decide) (by decide))) (rc_fd_lo 3 h_a (by unfold rc_fo; decide) (by decide)))
theorem rc_ff_a4_10_7 {a c : Int32} (h_a : rc_uv (a - 8) < 2 ^ 3) : rc_fd (rc_cA4 a c) 10 7 = (rc_fd c 9 6) := by unfold rc_cA4; exact (rc_fo_l (by unfold rc_fo; decide) (rc_fo_l (by unfold rc_fo; decide) (rc_fo_l (by unfold rc_fo; decide) (rc_fo_r (by unfold rc_fo; decide) (rc_fd_hi (by unfold rc_fo; decide) (by decide) (by decide)) (rc_fd_in 4 (rc_fd_w c (by unfold rc_fo; decide)) (by unfold rc_fo; decide) (by decide))) (rc_fd_lo 1 (rc_fd_w c (by unfold rc_fo; decide)) (by unfold rc_fo; decide) (by decide))) (rc_fd_lo 1 (rc_fd_w c (by unfold rc_fo; decide)) (by unfold rc_fo; decide) (by decide))) (rc_fd_lo 3 h_a (by unfold rc_fo; decide) (by decide)))
theorem rc_ff_a4_6_6 {a c : Int32} (h_a : rc_uv (a - 8) < 2 ^ 3) : rc_fd (rc_cA4 a c) 6 6 = (rc_fd c 2 2) := by unfold rc_cA4; exact (rc_fo_l (by unfold rc_fo; decide) (rc_fo_l (by unfold rc_fo; decide) (rc_fo_r (by unfold rc_fo; decide) (rc_fo_l (by unfold rc_fo; decide) (rc_fd_hi (by unfold rc_fo; decide) (by decide) (by decide)) (rc_fd_hi (by unfold rc_fo; decide) (by decide) (by decide))) (rc_fd_in 1 (rc_fd_w c (by unfold rc_fo; decide)) (by unfold rc_fo; decide) (by decide))) (rc_fd_lo 1 (rc_fd_w c (by unfold rc_fo; decide)) (by unfold rc_fo; decide) (by decide))) (rc_fd_lo 3 h_a (by unfold rc_fo; decide) (by decide)))
theorem rc_ff_a4_5_5 {a c : Int32} (h_a : rc_uv (a - 8) < 2 ^ 3) : rc_fd (rc_cA4 a c) 5 5 = (rc_fd c 3 3) := by unfold rc_cA4; exact (rc_fo_l (by unfold rc_fo; decide) (rc_fo_r (by unfold rc_fo; decide) (rc_fo_l (by unfold rc_fo; decide) (rc_fo_l (by unfold rc_fo; decide) (rc_fd_hi (by unfold rc_fo; decide) (by decide) (by decide)) (rc_fd_hi (by unfold rc_fo; decide) (by decide) (by decide))) (rc_fd_hi (by unfold rc_fo; decide) (by decide) (by decide))) (rc_fd_in 1 (rc_fd_w c (by unfold rc_fo; decide)) (by unfold rc_fo; decide) (by decide))) (rc_fd_lo 3 h_a (by unfold rc_fo; decide) (by decide)))
theorem rc_fu_m16384 {a b c : Int32} (h_a : rc_uv (a - 8) < 2 ^ 3) (h_b : rc_uv (b - 8) < 2 ^ 3) : rc_uv (rc_cMm 16384 a b c) < 2 ^ 16 := by unfold rc_cMm; exact (rc_uv_or (rc_uv_or (rc_uv_or (rc_uv_or (rc_uv_or (by unfold rc_uv; decide) (rc_uv_sl 3 (rc_fd_w c (by unfold rc_fo; decide)) (by decide) (by decide))) (rc_uv_sl 3 h_b (by decide) (by decide))) (rc_uv_sl 1 (rc_fd_w c (by unfold rc_fo; decide)) (by decide) (by decide))) (rc_uv_sl 1 (rc_fd_w c (by unfold rc_fo; decide)) (by decide) (by decide))) (rc_uv_sl 3 h_a (by decide) (by decide)))
theorem rc_ff_m16384_1_0 {a b c : Int32} (h_a : rc_uv (a - 8) < 2 ^ 3) (h_b : rc_uv (b - 8) < 2 ^ 3) : rc_fd (rc_cMm 16384 a b c) 1 0 = 0 := by unfold rc_cMm; exact (rc_fo_l (by unfold rc_fo; decide) (rc_fo_l (by unfold rc_fo; decide) (rc_fo_l (by unfold rc_fo; decide) (rc_fo_l (by unfold rc_fo; decide) (rc_fo_l (by unfold rc_fo; decide) (by unfold rc_fd; decide) (rc_fd_hi (by unfold rc_fo; decide) (by decide) (by decide))) (rc_fd_hi (by unfold rc_fo; decide) (by decide) (by decide))) (rc_fd_hi (by unfold rc_fo; decide) (by decide) (by decide))) (rc_fd_hi (by unfold rc_fo; decide) (by decide) (by decide))) (rc_fd_hi (by unfold rc_fo; decide) (by decide) (by decide)))
theorem rc_ff_m16384_15_13 {a b c : Int32} (h_a : rc_uv (a - 8) < 2 ^ 3) (h_b : rc_uv (b - 8) < 2 ^ 3) : rc_fd (rc_cMm 16384 a b c) 15 13 = 2 := by unfold rc_cMm; exact (rc_fo_l (by unfold rc_fo; decide) (rc_fo_l (by unfold rc_fo; decide) (rc_fo_l (by unfold rc_fo; decide) (rc_fo_l (by unfold rc_fo; decide) (rc_fo_l (by unfold rc_fo; decide) (by unfold rc_fd; decide) (rc_fd_lo 3 (rc_fd_w c (by unfold rc_fo; decide)) (by unfold rc_fo; decide) (by decide))) (rc_fd_lo 3 h_b (by unfold rc_fo; decide) (by decide))) (rc_fd_lo 1 (rc_fd_w c (by unfold rc_fo; decide)) (by unfold rc_fo; decide) (by decide))) (rc_fd_lo 1 (rc_fd_w c (by unfold rc_fo; decide)) (by unfold rc_fo; decide) (by decide))) (rc_fd_lo 3 h_a (by unfold rc_fo; decide) (by decide)))
theorem rc_ff_m16384_4_2 {a b c : Int32} (h_a : rc_uv (a - 8) < 2 ^ 3) (h_b : rc_uv (b - 8) < 2 ^ 3) : rc_fd (rc_cMm 16384 a b c) 4 2 = (a - 8) := by unfold rc_cMm; exact (rc_fo_r (by unfold rc_fo; decide) (rc_fo_l (by unfold rc_fo; decide) (rc_fo_l (by unfold rc_fo; decide) (rc_fo_l (by unfold rc_fo; decide) (rc_fo_l (by unfold rc_fo; decide) (by unfold rc_fd; decide) (rc_fd_hi (by unfold rc_fo; decide) (by decide) (by decide))) (rc_fd_hi (by unfold rc_fo; decide) (by decide) (by decide))) (rc_fd_hi (by unfold rc_fo; decide) (by decide) (by decide))) (rc_fd_hi (by unfold rc_fo; decide) (by decide) (by decide))) (rc_fd_in 3 h_a (by unfold rc_fo; decide) (by decide)))
theorem rc_ff_m16384_9_7 {a b c : Int32} (h_a : rc_uv (a - 8) < 2 ^ 3) (h_b : rc_uv (b - 8) < 2 ^ 3) : rc_fd (rc_cMm 16384 a b c) 9 7 = (b - 8) := by unfold rc_cMm; exact (rc_fo_l (by unfold rc_fo; decide) (rc_fo_l (by unfold rc_fo; decide) (rc_fo_l (by unfold rc_fo; decide) (rc_fo_r (by unfold rc_fo; decide) (rc_fo_l (by unfold rc_fo; decide) (by unfold rc_fd; decide) (rc_fd_hi (by unfold rc_fo; decide) (by decide) (by decide))) (rc_fd_in 3 h_b (by unfold rc_fo; decide) (by decide))) (rc_fd_lo 1 (rc_fd_w c (by unfold rc_fo; decide)) (by unfold rc_fo; decide) (by decide))) (rc_fd_lo 1 (rc_fd_w c (by unfold rc_fo; decide)) (by unfold rc_fo; decide) (by decide))) (rc_fd_lo 3 h_a (by unfold rc_fo; decide) (by decide)))
theorem rc_ff_m16384_12_10 {a b c : Int32} (h_a : rc_uv (a - 8) < 2 ^ 3) (h_b : rc_uv (b - 8) < 2 ^ 3) : rc_fd (rc_cMm 16384 a b c) 12 10 = (rc_fd c 5 3) := by unfold rc_cMm; exact (rc_fo_l (by unfold rc_fo; decide) (rc_fo_l (by unfold rc_fo; decide) (rc_fo_l (by unfold rc_fo; decide) (rc_fo_l (by unfold rc_fo; decide) (rc_fo_r (by unfold rc_fo; decide) (by unfold rc_fd; decide) (rc_fd_in 3 (rc_fd_w c (by unfold rc_fo; decide)) (by unfold rc_fo; decide) (by decide))) (rc_fd_lo 3 h_b (by unfold rc_fo; decide) (by decide))) (rc_fd_lo 1 (rc_fd_w c (by unfold rc_fo; decide)) (by unfold rc_fo; decide) (by decide))) (rc_fd_lo 1 (rc_fd_w c (by unfold rc_fo; decide)) (by unfold rc_fo; decide) (by decide))) (rc_fd_lo 3 h_a (by unfold rc_fo; decide) (by decide)))
theorem rc_ff_m16384_6_6 {a b c : Int32} (h_a : rc_uv (a - 8) < 2 ^ 3) (h_b : rc_uv (b - 8) < 2 ^ 3) : rc_fd (rc_cMm 16384 a b c) 6 6 = (rc_fd c 2 2) := by unfold rc_cMm; exact (rc_fo_l (by unfold rc_fo; decide) (rc_fo_l (by unfold rc_fo; decide) (rc_fo_r (by unfold rc_fo; decide) (rc_fo_l (by unfold rc_fo; decide) (rc_fo_l (by unfold rc_fo; decide) (by unfold rc_fd; decide) (rc_fd_hi (by unfold rc_fo; decide) (by decide) (by decide))) (rc_fd_hi (by unfold rc_fo; decide) (by decide) (by decide))) (rc_fd_in 1 (rc_fd_w c (by unfold rc_fo; decide)) (by unfold rc_fo; decide) (by decide))) (rc_fd_lo 1 (rc_fd_w c (by unfold rc_fo; decide)) (by unfold rc_fo; decide) (by decide))) (rc_fd_lo 3 h_a (by unfold rc_fo; decide) (by decide)))
theorem rc_ff_m16384_5_5 {a b c : Int32} (h_a : rc_uv (a - 8) < 2 ^ 3) (h_b : rc_uv (b - 8) < 2 ^ 3) : rc_fd (rc_cMm 16384 a b c) 5 5 = (rc_fd c 6 6) := by unfold rc_cMm; exact (rc_fo_l (by unfold rc_fo; decide) (rc_fo_r (by unfold rc_fo; decide) (rc_fo_l (by unfold rc_fo; decide) (rc_fo_l (by unfold rc_fo; decide) (rc_fo_l (by unfold rc_fo; decide) (by unfold rc_fd; decide) (rc_fd_hi (by unfold rc_fo; decide) (by decide) (by decide))) (rc_fd_hi (by unfold rc_fo; decide) (by decide) (by decide))) (rc_fd_hi (by unfold rc_fo; decide) (by decide) (by decide))) (rc_fd_in 1 (rc_fd_w c (by unfold rc_fo; decide)) (by unfold rc_fo; decide) (by decide))) (rc_fd_lo 3 h_a (by unfold rc_fo; decide) (by decide)))
theorem rc_fu_m49152 {a b c : Int32} (h_a : rc_uv (a - 8) < 2 ^ 3) (h_b : rc_uv (b - 8) < 2 ^ 3) : rc_uv (rc_cMm 49152 a b c) < 2 ^ 16 := by unfold rc_cMm; exact (rc_uv_or (rc_uv_or (rc_uv_or (rc_uv_or (rc_uv_or (by unfold rc_uv; decide) (rc_uv_sl 3 (rc_fd_w c (by unfold rc_fo; decide)) (by decide) (by decide))) (rc_uv_sl 3 h_b (by decide) (by decide))) (rc_uv_sl 1 (rc_fd_w c (by unfold rc_fo; decide)) (by decide) (by decide))) (rc_uv_sl 1 (rc_fd_w c (by unfold rc_fo; decide)) (by decide) (by decide))) (rc_uv_sl 3 h_a (by decide) (by decide)))
theorem rc_ff_m49152_1_0 {a b c : Int32} (h_a : rc_uv (a - 8) < 2 ^ 3) (h_b : rc_uv (b - 8) < 2 ^ 3) : rc_fd (rc_cMm 49152 a b c) 1 0 = 0 := by unfold rc_cMm; exact (rc_fo_l (by unfold rc_fo; decide) (rc_fo_l (by unfold rc_fo; decide) (rc_fo_l (by unfold rc_fo; decide) (rc_fo_l (by unfold rc_fo; decide) (rc_fo_l (by unfold rc_fo; decide) (by unfold rc_fd; decide) (rc_fd_hi (by unfold rc_fo; decide) (by decide) (by decide))) (rc_fd_hi (by unfold rc_fo; decide) (by decide) (by decide))) (rc_fd_hi (by unfold rc_fo; decide) (by decide) (by decide))) (rc_fd_hi (by unfold rc_fo; decide) (by decide) (by decide))) (rc_fd_hi (by unfold rc_fo; decide) (by decide) (by decide)))
theorem rc_ff_m49152_15_13 {a b c : Int32} (h_a : rc_uv (a - 8) < 2 ^ 3) (h_b : rc_uv (b - 8) < 2 ^ 3) : rc_fd (rc_cMm 49152 a b c) 15 13 = 6 := by unfold rc_cMm; exact (rc_fo_l (by unfold rc_fo; decide) (rc_fo_l (by unfold rc_fo; decide) (rc_fo_l (by unfold rc_fo; decide) (rc_fo_l (by unfold rc_fo; decide) (rc_fo_l (by unfold rc_fo; decide) (by unfold rc_fd; decide) (rc_fd_lo 3 (rc_fd_w c (by unfold rc_fo; decide)) (by unfold rc_fo; decide) (by decide))) (rc_fd_lo 3 h_b (by unfold rc_fo; decide) (by decide))) (rc_fd_lo 1 (rc_fd_w c (by unfold rc_fo; decide)) (by unfold rc_fo; decide) (by decide))) (rc_fd_lo 1 (rc_fd_w c (by unfold rc_fo; decide)) (by unfold rc_fo; decide) (by decide))) (rc_fd_lo 3 h_a (by unfold rc_fo; decide) (by decide)))
theorem rc_ff_m49152_4_2 {a b c : Int32} (h_a : rc_uv (a - 8) < 2 ^ 3) (h_b : rc_uv (b - 8) < 2 ^ 3) : rc_fd (rc_cMm 49152 a b c) 4 2 = (a - 8) := by unfold rc_cMm; exact (rc_fo_r (by unfold rc_fo; decide) (rc_fo_l (by unfold rc_fo; decide) (rc_fo_l (by unfold rc_fo; decide) (rc_fo_l (by unfold rc_fo; decide) (rc_fo_l (by unfold rc_fo; decide) (by unfold rc_fd; decide) (rc_fd_hi (by unfold rc_fo; decide) (by decide) (by decide))) (rc_fd_hi (by unfold rc_fo; decide) (by decide) (by decide))) (rc_fd_hi (by unfold rc_fo; decide) (by decide) (by decide))) (rc_fd_hi (by unfold rc_fo; decide) (by decide) (by decide))) (rc_fd_in 3 h_a (by unfold rc_fo; decide) (by decide)))
theorem rc_ff_m49152_9_7 {a b c : Int32} (h_a : rc_uv (a - 8) < 2 ^ 3) (h_b : rc_uv (b - 8) < 2 ^ 3) : rc_fd (rc_cMm 49152 a b c) 9 7 = (b - 8) := by unfold rc_cMm; exact (rc_fo_l (by unfold rc_fo; decide) (rc_fo_l (by unfold rc_fo; decide) (rc_fo_l (by unfold rc_fo; decide) (rc_fo_r (by unfold rc_fo; decide) (rc_fo_l (by unfold rc_fo; decide) (by unfold rc_fd; decide) (rc_fd_hi (by unfold rc_fo; decide) (by decide) (by decide))) (rc_fd_in 3 h_b (by unfold rc_fo; decide) (by decide))) (rc_fd_lo 1 (rc_fd_w c (by unfold rc_fo; decide)) (by unfold rc_fo; decide) (by decide))) (rc_fd_lo 1 (rc_fd_w c (by unfold rc_fo; decide)) (by unfold rc_fo; decide) (by decide))) (rc_fd_lo 3 h_a (by unfold rc_fo; decide) (by decide)))
theorem rc_ff_m49152_12_10 {a b c : Int32} (h_a : rc_uv (a - 8) < 2 ^ 3) (h_b : rc_uv (b - 8) < 2 ^ 3) : rc_fd (rc_cMm 49152 a b c) 12 10 = (rc_fd c 5 3) := by unfold rc_cMm; exact (rc_fo_l (by unfold rc_fo; decide) (rc_fo_l (by unfold rc_fo; decide) (rc_fo_l (by unfold rc_fo; decide) (rc_fo_l (by unfold rc_fo; decide) (rc_fo_r (by unfold rc_fo; decide) (by unfold rc_fd; decide) (rc_fd_in 3 (rc_fd_w c (by unfold rc_fo; decide)) (by unfold rc_fo; decide) (by decide))) (rc_fd_lo 3 h_b (by unfold rc_fo; decide) (by decide))) (rc_fd_lo 1 (rc_fd_w c (by unfold rc_fo; decide)) (by unfold rc_fo; decide) (by decide))) (rc_fd_lo 1 (rc_fd_w c (by unfold rc_fo; decide)) (by unfold rc_fo; decide) (by decide))) (rc_fd_lo 3 h_a (by unfold rc_fo; decide) (by decide)))
theorem rc_ff_m49152_6_6 {a b c : Int32} (h_a : rc_uv (a - 8) < 2 ^ 3) (h_b : rc_uv (b - 8) < 2 ^ 3) : rc_fd (rc_cMm 49152 a b c) 6 6 = (rc_fd c 2 2) := by unfold rc_cMm; exact (rc_fo_l (by unfold rc_fo; decide) (rc_fo_l (by unfold rc_fo; decide) (rc_fo_r (by unfold rc_fo; decide) (rc_fo_l (by unfold rc_fo; decide) (rc_fo_l (by unfold rc_fo; decide) (by unfold rc_fd; decide) (rc_fd_hi (by unfold rc_fo; decide) (by decide) (by decide))) (rc_fd_hi (by unfold rc_fo; decide) (by decide) (by decide))) (rc_fd_in 1 (rc_fd_w c (by unfold rc_fo; decide)) (by unfold rc_fo; decide) (by decide))) (rc_fd_lo 1 (rc_fd_w c (by unfold rc_fo; decide)) (by unfold rc_fo; decide) (by decide))) (rc_fd_lo 3 h_a (by unfold rc_fo; decide) (by decide)))
theorem rc_ff_m49152_5_5 {a b c : Int32} (h_a : rc_uv (a - 8) < 2 ^ 3) (h_b : rc_uv (b - 8) < 2 ^ 3) : rc_fd (rc_cMm 49152 a b c) 5 5 = (rc_fd c 6 6) := by unfold rc_cMm; exact (rc_fo_l (by unfold rc_fo; decide) (rc_fo_r (by unfold rc_fo; decide) (rc_fo_l (by unfold rc_fo; decide) (rc_fo_l (by unfold rc_fo; decide) (rc_fo_l (by unfold rc_fo; decide) (by unfold rc_fd; decide) (rc_fd_hi (by unfold rc_fo; decide) (by decide) (by decide))) (rc_fd_hi (by unfold rc_fo; decide) (by decide) (by decide))) (rc_fd_hi (by unfold rc_fo; decide) (by decide) (by decide))) (rc_fd_in 1 (rc_fd_w c (by unfold rc_fo; decide)) (by unfold rc_fo; decide) (by decide))) (rc_fd_lo 3 h_a (by unfold rc_fo; decide) (by decide)))
theorem rc_fu_lw {a c : Int32} (h_a : rc_uv a < 2 ^ 5) : rc_uv (rc_cLw a c) < 2 ^ 16 := by unfold rc_cLw; exact (rc_uv_or (rc_uv_or (rc_uv_or (rc_uv_or (by unfold rc_uv; decide) (rc_uv_sl 1 (rc_fd_w c (by unfold rc_fo; decide)) (by decide) (by decide))) (rc_uv_sl 5 h_a (by decide) (by decide))) (rc_uv_sl 3 (rc_fd_w c (by unfold rc_fo; decide)) (by decide) (by decide))) (rc_uv_sl 2 (rc_fd_w c (by unfold rc_fo; decide)) (by decide) (by decide)))
theorem rc_ff_lw_1_0 {a c : Int32} (h_a : rc_uv a < 2 ^ 5) : rc_fd (rc_cLw a c) 1 0 = 2 := by unfold rc_cLw; exact (rc_fo_l (by unfold rc_fo; decide) (rc_fo_l (by unfold rc_fo; decide) (rc_fo_l (by unfold rc_fo; decide) (rc_fo_l (by unfold rc_fo; decide) (by unfold rc_fd; decide) (rc_fd_hi (by unfold rc_fo; decide) (by decide) (by decide))) (rc_fd_hi (by unfold rc_fo; decide) (by decide) (by decide))) (rc_fd_hi (by unfold rc_fo; decide) (by decide) (by decide))) (rc_fd_hi (by unfold rc_fo; decide) (by decide) (by decide)))
theorem rc_ff_lw_15_13 {a c : Int32} (h_a : rc_uv a < 2 ^ 5) : rc_fd (rc_cLw a c) 15 13 = 2 := by unfold rc_cLw; exact (rc_fo_l (by unfold rc_fo; decide) (rc_fo_l (by unfold rc_fo; decide) (rc_fo_l (by unfold rc_fo; decide) (rc_fo_l (by unfold rc_fo; decide) (by unfold rc_fd; decide) (rc_fd_lo 1 (rc_fd_w c (by unfold rc_fo; decide)) (by unfold rc_fo; decide) (by decide))) (rc_fd_lo 5 h_a (by unfold rc_fo; decide) (by decide))) (rc_fd_lo 3 (rc_fd_w c (by unfold rc_fo; decide)) (by unfold rc_fo; decide) (by decide))) (rc_fd_lo 2 (rc_fd_w c (by unfold rc_fo; decide)) (by unfold rc_fo; decide) (by decide)))
theorem rc_ff_lw_11_7 {a c : Int32} (h_a : rc_uv a < 2 ^ 5) : rc_fd (rc_cLw a c) 11 7 = a := by unfold rc_cLw; exact (rc_fo_l (by unfold rc_fo; decide) (rc_fo_l (by unfold rc_fo; decide) (rc_fo_r (by unfold rc_fo; decide) (rc_fo_l (by unfold rc_fo; decide) (by unfold rc_fd; decide) (rc_fd_hi (by unfold rc_fo; decide) (by decide) (by decide))) (rc_fd_in 5 h_a (by unfold rc_fo; decide) (by decide))) (rc_fd_lo 3 (rc_fd_w c (by unfold rc_fo; decide)) (by unfold rc_fo; decide) (by decide))) (rc_fd_lo 2 (rc_fd_w c (by unfold rc_fo; decide)) (by unfold rc_fo; decide) (by decide)))
theorem rc_ff_lw_12_12 {a c : Int32} (h_a : rc_uv a < 2 ^ 5) : rc_fd (rc_cLw a c) 12 12 = (rc_fd c 5 5) := by unfold rc_cLw; exact (rc_fo_l (by unfold rc_fo; decide) (rc_fo_l (by unfold rc_fo; decide) (rc_fo_l (by unfold rc_fo; decide) (rc_fo_r (by unfold rc_fo; decide) (by unfold rc_fd; decide) (rc_fd_in 1 (rc_fd_w c (by unfold rc_fo; decide)) (by unfold rc_fo; decide) (by decide))) (rc_fd_lo 5 h_a (by unfold rc_fo; decide) (by decide))) (rc_fd_lo 3 (rc_fd_w c (by unfold rc_fo; decide)) (by unfold rc_fo; decide) (by decide))) (rc_fd_lo 2 (rc_fd_w c (by unfold rc_fo; decide)) (by unfold rc_fo; decide) (by decide)))
theorem rc_ff_lw_6_4 {a c : Int32} (h_a : rc_uv a < 2 ^ 5) : rc_fd (rc_cLw a c) 6 4 = (rc_fd c 4 2) := by unfold rc_cLw; exact (rc_fo_l (by unfold rc_fo; decide) (rc_fo_r (by unfold rc_fo; decide) (rc_fo_l (by unfold rc_fo; decide) (rc_fo_l (by unfold rc_fo; decide) (by unfold rc_fd; decide) (rc_fd_hi (by unfold rc_fo; decide) (by decide) (by decide))) (rc_fd_hi (by unfold rc_fo; decide) (by decide) (by decide))) (rc_fd_in 3 (rc_fd_w c (by unfold rc_fo; decide)) (by unfold rc_fo; decide) (by decide))) (rc_fd_lo 2 (rc_fd_w c (by unfold rc_fo; decide)) (by unfold rc_fo; decide) (by decide)))
theorem rc_ff_lw_3_2 {a c : Int32} (h_a : rc_uv a < 2 ^ 5) : rc_fd (rc_cLw a c) 3 2 = (rc_fd c 7 6) := by unfold rc_cLw; exact (rc_fo_r (by unfold rc_fo; decide) (rc_fo_l (by unfold rc_fo; decide) (rc_fo_l (by unfold rc_fo; decide) (rc_fo_l (by unfold rc_fo; decide) (by unfold rc_fd; decide) (rc_fd_hi (by unfold rc_fo; decide) (by decide) (by decide))) (rc_fd_hi (by unfold rc_fo; decide) (by decide) (by decide))) (rc_fd_hi (by unfold rc_fo; decide) (by decide) (by decide))) (rc_fd_in 2 (rc_fd_w c (by unfold rc_fo; decide)) (by unfold rc_fo; decide) (by decide)))
theorem rc_fu_sw {a c : Int32} (h_a : rc_uv a < 2 ^ 5) : rc_uv (rc_cSw a c) < 2 ^ 16 := by unfold rc_cSw; exact (rc_uv_or (rc_uv_or (rc_uv_or (by unfold rc_uv; decide) (rc_uv_sl 4 (rc_fd_w c (by unfold rc_fo; decide)) (by decide) (by decide))) (rc_uv_sl 2 (rc_fd_w c (by unfold rc_fo; decide)) (by decide) (by decide))) (rc_uv_sl 5 h_a (by decide) (by decide)))
theorem rc_ff_sw_1_0 {a c : Int32} (h_a : rc_uv a < 2 ^ 5) : rc_fd (rc_cSw a c) 1 0 = 2 := by unfold rc_cSw; exact (rc_fo_l (by unfold rc_fo; decide) (rc_fo_l (by unfold rc_fo; decide) (rc_fo_l (by unfold rc_fo; decide) (by unfold rc_fd; decide) (rc_fd_hi (by unfold rc_fo; decide) (by decide) (by decide))) (rc_fd_hi (by unfold rc_fo; decide) (by decide) (by decide))) (rc_fd_hi (by unfold rc_fo; decide) (by decide) (by decide)))
theorem rc_ff_sw_15_13 {a c : Int32} (h_a : rc_uv a < 2 ^ 5) : rc_fd (rc_cSw a c) 15 13 = 6 := by unfold rc_cSw; exact (rc_fo_l (by unfold rc_fo; decide) (rc_fo_l (by unfold rc_fo; decide) (rc_fo_l (by unfold rc_fo; decide) (by unfold rc_fd; decide) (rc_fd_lo 4 (rc_fd_w c (by unfold rc_fo; decide)) (by unfold rc_fo; decide) (by decide))) (rc_fd_lo 2 (rc_fd_w c (by unfold rc_fo; decide)) (by unfold rc_fo; decide) (by decide))) (rc_fd_lo 5 h_a (by unfold rc_fo; decide) (by decide)))
theorem rc_ff_sw_6_2 {a c : Int32} (h_a : rc_uv a < 2 ^ 5) : rc_fd (rc_cSw a c) 6 2 = a := by unfold rc_cSw; exact (rc_fo_r (by unfold rc_fo; decide) (rc_fo_l (by unfold rc_fo; decide) (rc_fo_l (by unfold rc_fo; decide) (by unfold rc_fd; decide) (rc_fd_hi (by unfold rc_fo; decide) (by decide) (by decide))) (rc_fd_hi (by unfold rc_fo; decide) (by decide) (by decide))) (rc_fd_in 5 h_a (by unfold rc_fo; decide) (by decide)))
theorem rc_ff_sw_12_9 {a c : Int32} (h_a : rc_uv a < 2 ^ 5) : rc_fd (rc_cSw a c) 12 9 = (rc_fd c 5 2) := by unfold rc_cSw; exact (rc_fo_l (by unfold rc_fo; decide) (rc_fo_l (by unfold rc_fo; decide) (rc_fo_r (by unfold rc_fo; decide) (by unfold rc_fd; decide) (rc_fd_in 4 (rc_fd_w c (by unfold rc_fo; decide)) (by unfold rc_fo; decide) (by decide))) (rc_fd_lo 2 (rc_fd_w c (by unfold rc_fo; decide)) (by unfold rc_fo; decide) (by decide))) (rc_fd_lo 5 h_a (by unfold rc_fo; decide) (by decide)))
theorem rc_ff_sw_8_7 {a c : Int32} (h_a : rc_uv a < 2 ^ 5) : rc_fd (rc_cSw a c) 8 7 = (rc_fd c 7 6) := by unfold rc_cSw; exact (rc_fo_l (by unfold rc_fo; decide) (rc_fo_r (by unfold rc_fo; decide) (rc_fo_l (by unfold rc_fo; decide) (by unfold rc_fd; decide) (rc_fd_hi (by unfold rc_fo; decide) (by decide) (by decide))) (rc_fd_in 2 (rc_fd_w c (by unfold rc_fo; decide)) (by unfold rc_fo; decide) (by decide))) (rc_fd_lo 5 h_a (by unfold rc_fo; decide) (by decide)))
theorem rc_fu_j32770 {b : Int32} (h_b : rc_uv b < 2 ^ 5) : rc_uv (rc_cJr 32770 b) < 2 ^ 16 := by unfold rc_cJr; exact (rc_uv_or (by unfold rc_uv; decide) (rc_uv_sl 5 h_b (by decide) (by decide)))
theorem rc_ff_j32770_1_0 {b : Int32} (h_b : rc_uv b < 2 ^ 5) : rc_fd (rc_cJr 32770 b) 1 0 = 2 := by unfold rc_cJr; exact (rc_fo_l (by unfold rc_fo; decide) (by unfold rc_fd; decide) (rc_fd_hi (by unfold rc_fo; decide) (by decide) (by decide)))
theorem rc_ff_j32770_15_13 {b : Int32} (h_b : rc_uv b < 2 ^ 5) : rc_fd (rc_cJr 32770 b) 15 13 = 4 := by unfold rc_cJr; exact (rc_fo_l (by unfold rc_fo; decide) (by unfold rc_fd; decide) (rc_fd_lo 5 h_b (by unfold rc_fo; decide) (by decide)))
theorem rc_ff_j32770_11_7 {b : Int32} (h_b : rc_uv b < 2 ^ 5) : rc_fd (rc_cJr 32770 b) 11 7 = b := by unfold rc_cJr; exact (rc_fo_r (by unfold rc_fo; decide) (by unfold rc_fd; decide) (rc_fd_in 5 h_b (by unfold rc_fo; decide) (by decide)))
theorem rc_ff_j32770_6_2 {b : Int32} (h_b : rc_uv b < 2 ^ 5) : rc_fd (rc_cJr 32770 b) 6 2 = 0 := by unfold rc_cJr; exact (rc_fo_l (by unfold rc_fo; decide) (by unfold rc_fd; decide) (rc_fd_hi (by unfold rc_fo; decide) (by decide) (by decide)))
theorem rc_ff_j32770_12_12 {b : Int32} (h_b : rc_uv b < 2 ^ 5) : rc_fd (rc_cJr 32770 b) 12 12 = 0 := by unfold rc_cJr; exact (rc_fo_l (by unfold rc_fo; decide) (by unfold rc_fd; decide) (rc_fd_lo 5 h_b (by unfold rc_fo; decide) (by decide)))
theorem rc_fu_j36866 {b : Int32} (h_b : rc_uv b < 2 ^ 5) : rc_uv (rc_cJr 36866 b) < 2 ^ 16 := by unfold rc_cJr; exact (rc_uv_or (by unfold rc_uv; decide) (rc_uv_sl 5 h_b (by decide) (by decide)))
theorem rc_ff_j36866_1_0 {b : Int32} (h_b : rc_uv b < 2 ^ 5) : rc_fd (rc_cJr 36866 b) 1 0 = 2 := by unfold rc_cJr; exact (rc_fo_l (by unfold rc_fo; decide) (by unfold rc_fd; decide) (rc_fd_hi (by unfold rc_fo; decide) (by decide) (by decide)))
theorem rc_ff_j36866_15_13 {b : Int32} (h_b : rc_uv b < 2 ^ 5) : rc_fd (rc_cJr 36866 b) 15 13 = 4 := by unfold rc_cJr; exact (rc_fo_l (by unfold rc_fo; decide) (by unfold rc_fd; decide) (rc_fd_lo 5 h_b (by unfold rc_fo; decide) (by decide)))
theorem rc_ff_j36866_11_7 {b : Int32} (h_b : rc_uv b < 2 ^ 5) : rc_fd (rc_cJr 36866 b) 11 7 = b := by unfold rc_cJr; exact (rc_fo_r (by unfold rc_fo; decide) (by unfold rc_fd; decide) (rc_fd_in 5 h_b (by unfold rc_fo; decide) (by decide)))
theorem rc_ff_j36866_6_2 {b : Int32} (h_b : rc_uv b < 2 ^ 5) : rc_fd (rc_cJr 36866 b) 6 2 = 0 := by unfold rc_cJr; exact (rc_fo_l (by unfold rc_fo; decide) (by unfold rc_fd; decide) (rc_fd_hi (by unfold rc_fo; decide) (by decide) (by decide)))
theorem rc_ff_j36866_12_12 {b : Int32} (h_b : rc_uv b < 2 ^ 5) : rc_fd (rc_cJr 36866 b) 12 12 = 1 := by unfold rc_cJr; exact (rc_fo_l (by unfold rc_fo; decide) (by unfold rc_fd; decide) (rc_fd_lo 5 h_b (by unfold rc_fo; decide) (by decide)))
theorem rc_fu_jm40961 {d : Int32}  : rc_uv (rc_cJm 40961 d) < 2 ^ 16 := by unfold rc_cJm; exact (rc_uv_or (rc_uv_or (rc_uv_or (rc_uv_or (rc_uv_or (rc_uv_or (rc_uv_or (rc_uv_or (by unfold rc_uv; decide) (rc_uv_sl 1 (rc_fd_w d (by unfold rc_fo; decide)) (by decide) (by decide))) (rc_uv_sl 1 (rc_fd_w d (by unfold rc_fo; decide)) (by decide) (by decide))) (rc_uv_sl 2 (rc_fd_w d (by unfold rc_fo; decide)) (by decide) (by decide))) (rc_uv_sl 1 (rc_fd_w d (by unfold rc_fo; decide)) (by decide) (by decide))) (rc_uv_sl 1 (rc_fd_w d (by unfold rc_fo; decide)) (by decide) (by decide))) (rc_uv_sl 1 (rc_fd_w d (by unfold rc_fo; decide)) (by decide) (by decide))) (rc_uv_sl 3 (rc_fd_w d (by unfold rc_fo; decide)) (by decide) (by decide))) (rc_uv_sl 1 (rc_fd_w d (by unfold rc_fo; decide)) (by decide) (by decide)))
theorem rc_ff_jm40961_1_0 {d : Int32}  : rc_fd (rc_cJm 40961 d) 1 0 = 1 := by unfold rc_cJm; exact (rc_fo_l (by unfold rc_fo; decide) (rc_fo_l (by unfold rc_fo; decide) (rc_fo_l (by unfold rc_fo; decide) (rc_fo_l (by unfold rc_fo; decide) (rc_fo_l (by unfold rc_fo; decide) (rc_fo_l (by unfold rc_fo; decide) (rc_fo_l (by unfold rc_fo; decide) (rc_fo_l (by unfold rc_fo; decide) (by unfold rc_fd; decide) (rc_fd_hi (by unfold rc_fo; decide) (by decide) (by decide))) (rc_fd_hi (by unfold rc_fo; decide) (by decide) (by decide))) (rc_fd_hi (by unfold rc_fo; decide) (by decide) (by decide))) (rc_fd_hi (by unfold rc_fo; decide) (by decide) (by decide))) (rc_fd_hi (by unfold rc_fo; decide) (by decide) (by decide))) (rc_fd_hi (by unfold rc_fo; decide) (by decide) (by decide))) (rc_fd_hi (by unfold rc_fo; decide) (by decide) (by decide))) (rc_fd_hi (by unfold rc_fo; decide) (by decide) (by decide)))
theorem rc_ff_jm40961_15_13 {d : Int32}  : rc_fd (rc_cJm 40961 d) 15 13 = 5 := by unfold rc_cJm; exact (rc_fo_l (by unfold rc_fo; decide) (rc_fo_l (by unfold rc_fo; decide) (rc_fo_l (by unfold rc_fo; decide) (rc_fo_l (by unfold rc_fo; decide) (rc_fo_l (by unfold rc_fo; decide) (rc_fo_l (by unfold rc_fo; decide) (rc_fo_l (by unfold rc_fo; decide) (rc_fo_l (by unfold rc_fo; decide) (by unfold rc_fd; decide) (rc_fd_lo 1 (rc_fd_w d (by unfold rc_fo; decide)) (by unfold rc_fo; decide) (by decide))) (rc_fd_lo 1 (rc_fd_w d (by unfold rc_fo; decide)) (by unfold rc_fo; decide) (by decide))) (rc_fd_lo 2 (rc_fd_w d (by unfold rc_fo; decide)) (by unfold rc_fo; decide) (by decide))) (rc_fd_lo 1 (rc_fd_w d (by unfold rc_fo; decide)) (by unfold rc_fo; decide) (by decide))) (rc_fd_lo 1 (rc_fd_w d (by unfold rc_fo; decide)) (by unfold rc_fo; decide) (by decide))) (rc_fd_lo 1 (rc_fd_w d (by unfold rc_fo; decide)) (by unfold rc_fo; decide) (by decide))) (rc_fd_lo 3 (rc_fd_w d (by unfold rc_fo; decide)) (by unfold rc_fo; decide) (by decide))) (rc_fd_lo 1 (rc_fd_w d (by unfold rc_fo; decide)) (by unfold rc_fo; decide) (by decide)))
theorem rc_ff_jm40961_12_12 {d : Int32}  : rc_fd (rc_cJm 40961 d) 12 12 = (rc_fd d 11 11) := by unfold rc_cJm; exact (rc_fo_l (by unfold rc_fo; decide) (rc_fo_l (by unfold rc_fo; decide) (rc_fo_l (by unfold rc_fo; decide) (rc_fo_l (by unfold rc_fo; decide) (rc_fo_l (by unfold rc_fo; decide) (rc_fo_l (by unfold rc_fo; decide) (rc_fo_l (by unfold rc_fo; decide) (rc_fo_r (by unfold rc_fo; decide) (by unfold rc_fd; decide) (rc_fd_in 1 (rc_fd_w d (by unfold rc_fo; decide)) (by unfold rc_fo; decide) (by decide))) (rc_fd_lo 1 (rc_fd_w d (by unfold rc_fo; decide)) (by unfold rc_fo; decide) (by decide))) (rc_fd_lo 2 (rc_fd_w d (by unfold rc_fo; decide)) (by unfold rc_fo; decide) (by decide))) (rc_fd_lo 1 (rc_fd_w d (by unfold rc_fo; decide)) (by unfold rc_fo; decide) (by decide))) (rc_fd_lo 1 (rc_fd_w d (by unfold rc_fo; decide)) (by unfold rc_fo; decide) (by decide))) (rc_fd_lo 1 (rc_fd_w d (by unfold rc_fo; decide)) (by unfold rc_fo; decide) (by decide))) (rc_fd_lo 3 (rc_fd_w d (by unfold rc_fo; decide)) (by unfold rc_fo; decide) (by decide))) (rc_fd_lo 1 (rc_fd_w d (by unfold rc_fo; decide)) (by unfold rc_fo; decide) (by decide)))
theorem rc_ff_jm40961_11_11 {d : Int32}  : rc_fd (rc_cJm 40961 d) 11 11 = (rc_fd d 4 4) := by unfold rc_cJm; exact (rc_fo_l (by unfold rc_fo; decide) (rc_fo_l (by unfold rc_fo; decide) (rc_fo_l (by unfold rc_fo; decide) (rc_fo_l (by unfold rc_fo; decide) (rc_fo_l (by unfold rc_fo; decide) (rc_fo_l (by unfold rc_fo; decide) (rc_fo_r (by unfold rc_fo; decide) (rc_fo_l (by unfold rc_fo; decide) (by unfold rc_fd; decide) (rc_fd_hi (by unfold rc_fo; decide) (by decide) (by decide))) (rc_fd_in 1 (rc_fd_w d (by unfold rc_fo; decide)) (by unfold rc_fo; decide) (by decide))) (rc_fd_lo 2 (rc_fd_w d (by unfold rc_fo; decide)) (by unfold rc_fo; decide) (by decide))) (rc_fd_lo 1 (rc_fd_w d (by unfold rc_fo; decide)) (by unfold rc_fo; decide) (by decide))) (rc_fd_lo 1 (rc_fd_w d (by unfold rc_fo; decide)) (by unfold rc_fo; decide) (by decide))) (rc_fd_lo 1 (rc_fd_w d (by unfold rc_fo; decide)) (by unfold rc_fo; decide) (by decide))) (rc_fd_lo 3 (rc_fd_w d (by unfold rc_fo; decide)) (by unfold rc_fo; decide) (by decide))) (rc_fd_lo 1 (rc_fd_w d (by unfold rc_fo; decide)) (by unfold rc_fo; decide) (by decide)))
theorem rc_ff_jm40961_10_9 {d : Int32}  : rc_fd (rc_cJm 40961 d) 10 9 = (rc_fd d 9 8) := by unfold rc_cJm; exact (rc_fo_l (by unfold rc_fo; decide) (rc_fo_l (by unfold rc_fo; decide) (rc_fo_l (by unfold rc_fo; decide) (rc_fo_l (by unfold rc_fo; decide) (rc_fo_l (by unfold rc_fo; decide) (rc_fo_r (by unfold rc_fo; decide) (rc_fo_l (by unfold rc_fo; decide) (rc_fo_l (by unfold rc_fo; decide) (by unfold rc_fd; decide) (rc_fd_hi (by unfold rc_fo; decide) (by decide) (by decide))) (rc_fd_hi (by unfold rc_fo; decide) (by decide) (by decide))) (rc_fd_in 2 (rc_fd_w d (by unfold rc_fo; decide)) (by unfold rc_fo; decide) (by decide))) (rc_fd_lo 1 (rc_fd_w d (by unfold rc_fo; decide)) (by unfold rc_fo; decide) (by decide))) (rc_fd_lo 1 (rc_fd_w d (by unfold rc_fo; decide)) (by unfold rc_fo; decide) (by decide))) (rc_fd_lo 1 (rc_fd_w d (by unfold rc_fo; decide)) (by unfold rc_fo; decide) (by decide))) (rc_fd_lo 3 (rc_fd_w d (by unfold rc_fo; decide)) (by unfold rc_fo; decide) (by decide))) (rc_fd_lo 1 (rc_fd_w d (by unfold rc_fo; decide)) (by unfold rc_fo; decide) (by decide)))
theorem rc_ff_jm40961_8_8 {d : Int32}  : rc_fd (rc_cJm 40961 d) 8 8 = (rc_fd d 10 10) := by unfold rc_cJm; exact (rc_fo_l (by unfold rc_fo; decide) (rc_fo_l (by unfold rc_fo; decide) (rc_fo_l (by unfold rc_fo; decide) (rc_fo_l (by unfold rc_fo; decide) (rc_fo_r (by unfold rc_fo; decide) (rc_fo_l (by unfold rc_fo; decide) (rc_fo_l (by unfold rc_fo; decide) (rc_fo_l (by unfold rc_fo; decide) (by unfold rc_fd; decide) (rc_fd_hi (by unfold rc_fo; decide) (by decide) (by decide))) (rc_fd_hi (by unfold rc_fo; decide) (by decide) (by decide))) (rc_fd_hi (by unfold rc_fo; decide) (by decide) (by decide))) (rc_fd_in 1 (rc_fd_w d (by unfold rc_fo; decide)) (by unfold rc_fo; decide) (by decide))) (rc_fd_lo 1 (rc_fd_w d (by unfold rc_fo; decide)) (by unfold rc_fo; decide) (by decide))) (rc_fd_lo 1 (rc_fd_w d (by unfold rc_fo; decide)) (by unfold rc_fo; decide) (by decide))) (rc_fd_lo 3 (rc_fd_w d (by unfold rc_fo; decide)) (by unfold rc_fo; decide) (by decide))) (rc_fd_lo 1 (rc_fd_w d (by unfold rc_fo; decide)) (by unfold rc_fo; decide) (by decide)))
theorem rc_ff_jm40961_7_7 {d : Int32}  : rc_fd (rc_cJm 40961 d) 7 7 = (rc_fd d 6 6) := by unfold rc_cJm; exact (rc_fo_l (by unfold rc_fo; decide) (rc_fo_l (by unfold rc_fo; decide) (rc_fo_l (by unfold rc_fo; decide) (rc_fo_r (by unfold rc_fo; decide) (rc_fo_l (by unfold rc_fo; decide) (rc_fo_l (by unfold rc_fo; decide) (rc_fo_l (by unfold rc_fo; decide) (rc_fo_l (by unfold rc_fo; decide) (by unfold rc_fd; decide) (rc_fd_hi (by unfold rc_fo; decide) (by decide) (by decide))) (rc_fd_hi (by unfold rc_fo; decide) (by decide) (by decide))) (rc_fd_hi (by unfold rc_fo; decide) (by decide) (by decide))) (rc_fd_hi (by unfold rc_fo; decide) (by decide) (by decide))) (rc_fd_in 1 (rc_fd_w d (by unfold rc_fo; decide)) (by unfold rc_fo; decide) (by decide))) (rc_fd_lo 1 (rc_fd_w d (by unfold rc_fo; decide)) (by unfold rc_fo; decide) (by decide))) (rc_fd_lo 3 (rc_fd_w d (by unfold rc_fo; decide)) (by unfold rc_fo; decide) (by decide))) (rc_fd_lo 1 (rc_fd_w d (by unfold rc_fo; decide)) (by unfold rc_fo; decide) (by decide)))
theorem rc_ff_jm40961_6_6 {d : Int32}  : rc_fd (rc_cJm 40961 d) 6 6 = (rc_fd d 7 7) := by unfold rc_cJm; exact (rc_fo_l (by unfold rc_fo; decide) (rc_fo_l (by unfold rc_fo; decide) (rc_fo_r (by unfold rc_fo; decide) (rc_fo_l (by unfold rc_fo; decide) (rc_fo_l (by unfold rc_fo; decide) (rc_fo_l (by unfold rc_fo; decide) (rc_fo_l (by unfold rc_fo; decide) (rc_fo_l (by unfold rc_fo; decide) (by unfold rc_fd; decide) (rc_fd_hi (by unfold rc_fo; decide) (by decide) (by decide))) (rc_fd_hi (by unfold rc_fo; decide) (by decide) (by decide))) (rc_fd_hi (by unfold rc_fo; decide) (by decide) (by decide))) (rc_fd_hi (by unfold rc_fo; decide) (by decide) (by decide))) (rc_fd_hi (by unfold rc_fo; decide) (by decide) (by decide))) (rc_fd_in 1 (rc_fd_w d (by unfold rc_fo; decide)) (by unfold rc_fo; decide) (by decide))) (rc_fd_lo 3 (rc_fd_w d (by unfold rc_fo; decide)) (by unfold rc_fo; decide) (by decide))) (rc_fd_lo 1 (rc_fd_w d (by unfold rc_fo; decide)) (by unfold rc_fo; decide) (by decide)))
theorem rc_ff_jm40961_5_3 {d : Int32}  : rc_fd (rc_cJm 40961 d) 5 3 = (rc_fd d 3 1) := by unfold rc_cJm; exact (rc_fo_l (by unfold rc_fo; decide) (rc_fo_r (by unfold rc_fo; decide) (rc_fo_l (by unfold rc_fo; decide) (rc_fo_l (by unfold rc_fo; decide) (rc_fo_l (by unfold rc_fo; decide) (rc_fo_l (by unfold rc_fo; decide) (rc_fo_l (by unfold rc_fo; decide) (rc_fo_l (by unfold rc_fo; decide) (by unfold rc_fd; decide) (rc_fd_hi (by unfold rc_fo; decide) (by decide) (by decide))) (rc_fd_hi (by unfold rc_fo; decide) (by decide) (by decide))) (rc_fd_hi (by unfold rc_fo; decide) (by decide) (by decide))) (rc_fd_hi (by unfold rc_fo; decide) (by decide) (by decide))) (rc_fd_hi (by unfold rc_fo; decide) (by decide) (by decide))) (rc_fd_hi (by unfold rc_fo; decide) (by decide) (by decide))) (rc_fd_in 3 (rc_fd_w d (by unfold rc_fo; decide)) (by unfold rc_fo; decide) (by decide))) (rc_fd_lo 1 (rc_fd_w d (by unfold rc_fo; decide)) (by unfold rc_fo; decide) (by decide)))
theorem rc_ff_jm40961_2_2 {d : Int32}  : rc_fd (rc_cJm 40961 d) 2 2 = (rc_fd d 5 5) := by unfold rc_cJm; exact (rc_fo_r (by unfold rc_fo; decide) (rc_fo_l (by unfold rc_fo; decide) (rc_fo_l (by unfold rc_fo; decide) (rc_fo_l (by unfold rc_fo; decide) (rc_fo_l (by unfold rc_fo; decide) (rc_fo_l (by unfold rc_fo; decide) (rc_fo_l (by unfold rc_fo; decide) (rc_fo_l (by unfold rc_fo; decide) (by unfold rc_fd; decide) (rc_fd_hi (by unfold rc_fo; decide) (by decide) (by decide))) (rc_fd_hi (by unfold rc_fo; decide) (by decide) (by decide))) (rc_fd_hi (by unfold rc_fo; decide) (by decide) (by decide))) (rc_fd_hi (by unfold rc_fo; decide) (by decide) (by decide))) (rc_fd_hi (by unfold rc_fo; decide) (by decide) (by decide))) (rc_fd_hi (by unfold rc_fo; decide) (by decide) (by decide))) (rc_fd_hi (by unfold rc_fo; decide) (by decide) (by decide))) (rc_fd_in 1 (rc_fd_w d (by unfold rc_fo; decide)) (by unfold rc_fo; decide) (by decide)))
theorem rc_fu_jm8193 {d : Int32}  : rc_uv (rc_cJm 8193 d) < 2 ^ 16 := by unfold rc_cJm; exact (rc_uv_or (rc_uv_or (rc_uv_or (rc_uv_or (rc_uv_or (rc_uv_or (rc_uv_or (rc_uv_or (by unfold rc_uv; decide) (rc_uv_sl 1 (rc_fd_w d (by unfold rc_fo; decide)) (by decide) (by decide))) (rc_uv_sl 1 (rc_fd_w d (by unfold rc_fo; decide)) (by decide) (by decide))) (rc_uv_sl 2 (rc_fd_w d (by unfold rc_fo; decide)) (by decide) (by decide))) (rc_uv_sl 1 (rc_fd_w d (by unfold rc_fo; decide)) (by decide) (by decide))) (rc_uv_sl 1 (rc_fd_w d (by unfold rc_fo; decide)) (by decide) (by decide))) (rc_uv_sl 1 (rc_fd_w d (by unfold rc_fo; decide)) (by decide) (by decide))) (rc_uv_sl 3 (rc_fd_w d (by unfold rc_fo; decide)) (by decide) (by decide))) (rc_uv_sl 1 (rc_fd_w d (by unfold rc_fo; decide)) (by decide) (by decide)))
theorem rc_ff_jm8193_1_0 {d : Int32}  : rc_fd (rc_cJm 8193 d) 1 0 = 1 := by unfold rc_cJm; exact (rc_fo_l (by unfold rc_fo; decide) (rc_fo_l (by unfold rc_fo; decide) (rc_fo_l (by unfold rc_fo; decide) (rc_fo_l (by unfold rc_fo; decide) (rc_fo_l (by unfold rc_fo; decide) (rc_fo_l (by unfold rc_fo; decide) (rc_fo_l (by unfold rc_fo; decide) (rc_fo_l (by unfold rc_fo; decide) (by unfold rc_fd; decide) (rc_fd_hi (by unfold rc_fo; decide) (by decide) (by decide))) (rc_fd_hi (by unfold rc_fo; decide) (by decide) (by decide))) (rc_fd_hi (by unfold rc_fo; decide) (by decide) (by decide))) (rc_fd_hi (by unfold rc_fo; decide) (by decide) (by decide))) (rc_fd_hi (by unfold rc_fo; decide) (by decide) (by decide))) (rc_fd_hi (by unfold rc_fo; decide) (by decide) (by decide))) (rc_fd_hi (by unfold rc_fo; decide) (by decide) (by decide))) (rc_fd_hi (by unfold rc_fo; decide) (by decide) (by decide)))
theorem rc_ff_jm8193_15_13 {d : Int32}  : rc_fd (rc_cJm 8193 d) 15 13 = 1 := by unfold rc_cJm; exact (rc_fo_l (by unfold rc_fo; decide) (rc_fo_l (by unfold rc_fo; decide) (rc_fo_l (by unfold rc_fo; decide) (rc_fo_l (by unfold rc_fo; decide) (rc_fo_l (by unfold rc_fo; decide) (rc_fo_l (by unfold rc_fo; decide) (rc_fo_l (by unfold rc_fo; decide) (rc_fo_l (by unfold rc_fo; decide) (by unfold rc_fd; decide) (rc_fd_lo 1 (rc_fd_w d (by unfold rc_fo; decide)) (by unfold rc_fo; decide) (by decide))) (rc_fd_lo 1 (rc_fd_w d (by unfold rc_fo; decide)) (by unfold rc_fo; decide) (by decide))) (rc_fd_lo 2 (rc_fd_w d (by unfold rc_fo; decide)) (by unfold rc_fo; decide) (by decide))) (rc_fd_lo 1 (rc_fd_w d (by unfold rc_fo; decide)) (by unfold rc_fo; decide) (by decide))) (rc_fd_lo 1 (rc_fd_w d (by unfold rc_fo; decide)) (by unfold rc_fo; decide) (by decide))) (rc_fd_lo 1 (rc_fd_w d (by unfold rc_fo; decide)) (by unfold rc_fo; decide) (by decide))) (rc_fd_lo 3 (rc_fd_w d (by unfold rc_fo; decide)) (by unfold rc_fo; decide) (by decide))) (rc_fd_lo 1 (rc_fd_w d (by unfold rc_fo; decide)) (by unfold rc_fo; decide) (by decide)))
theorem rc_ff_jm8193_12_12 {d : Int32}  : rc_fd (rc_cJm 8193 d) 12 12 = (rc_fd d 11 11) := by unfold rc_cJm; exact (rc_fo_l (by unfold rc_fo; decide) (rc_fo_l (by unfold rc_fo; decide) (rc_fo_l (by unfold rc_fo; decide) (rc_fo_l (by unfold rc_fo; decide) (rc_fo_l (by unfold rc_fo; decide) (rc_fo_l (by unfold rc_fo; decide) (rc_fo_l (by unfold rc_fo; decide) (rc_fo_r (by unfold rc_fo; decide) (by unfold rc_fd; decide) (rc_fd_in 1 (rc_fd_w d (by unfold rc_fo; decide)) (by unfold rc_fo; decide) (by decide))) (rc_fd_lo 1 (rc_fd_w d (by unfold rc_fo; decide)) (by unfold rc_fo; decide) (by decide))) (rc_fd_lo 2 (rc_fd_w d (by unfold rc_fo; decide)) (by unfold rc_fo; decide) (by decide))) (rc_fd_lo 1 (rc_fd_w d (by unfold rc_fo; decide)) (by unfold rc_fo; decide) (by decide))) (rc_fd_lo 1 (rc_fd_w d (by unfold rc_fo; decide)) (by unfold rc_fo; decide) (by decide))) (rc_fd_lo 1 (rc_fd_w d (by unfold rc_fo; decide)) (by unfold rc_fo; decide) (by decide))) (rc_fd_lo 3 (rc_fd_w d (by unfold rc_fo; decide)) (by unfold rc_fo; decide) (by decide))) (rc_fd_lo 1 (rc_fd_w d (by unfold rc_fo; decide)) (by unfold rc_fo; decide) (by decide)))
theorem rc_ff_jm8193_11_11 {d : Int32}  : rc_fd (rc_cJm 8193 d) 11 11 = (rc_fd d 4 4) := by unfold rc_cJm; exact (rc_fo_l (by unfold rc_fo; decide) (rc_fo_l (by unfold rc_fo; decide) (rc_fo_l (by unfold rc_fo; decide) (rc_fo_l (by unfold rc_fo; decide) (rc_fo_l (by unfold rc_fo; decide) (rc_fo_l (by unfold rc_fo; decide) (rc_fo_r (by unfold rc_fo; decide) (rc_fo_l (by unfold rc_fo; decide) (by unfold rc_fd; decide) (rc_fd_hi (by unfold rc_fo; decide) (by decide) (by decide))) (rc_fd_in 1 (rc_fd_w d (by unfold rc_fo; decide)) (by unfold rc_fo; decide) (by decide))) (rc_fd_lo 2 (rc_fd_w d (by unfold rc_fo; decide)) (by unfold rc_fo; decide) (by decide))) (rc_fd_lo 1 (rc_fd_w d (by unfold rc_fo; decide)) (by unfold rc_fo; decide) (by decide))) (rc_fd_lo 1 (rc_fd_w d (by unfold rc_fo; decide)) (by unfold rc_fo; decide) (by decide))) (rc_fd_lo 1 (rc_fd_w d (by unfold rc_fo; decide)) (by unfold rc_fo; decide) (by decide))) (rc_fd_lo 3 (rc_fd_w d (by unfold rc_fo; decide)) (by unfold rc_fo; decide) (by decide))) (rc_fd_lo 1 (rc_fd_w d (by unfold rc_fo; decide)) (by unfold rc_fo; decide) (by decide)))
theorem rc_ff_jm8193_10_9 {d : Int32}  : rc_fd (rc_cJm 8193 d) 10 9 = (rc_fd d 9 8) := by unfold rc_cJm; exact (rc_fo_l (by unfold rc_fo; decide) (rc_fo_l (by unfold rc_fo; decide) (rc_fo_l (by unfold rc_fo; decide) (rc_fo_l (by unfold rc_fo; decide) (rc_fo_l (by unfold rc_fo; decide) (rc_fo_r (by unfold rc_fo; decide) (rc_fo_l (by unfold rc_fo; decide) (rc_fo_l (by unfold rc_fo; decide) (by unfold rc_fd; decide) (rc_fd_hi (by unfold rc_fo; decide) (by decide) (by decide))) (rc_fd_hi (by unfold rc_fo; decide) (by decide) (by decide))) (rc_fd_in 2 (rc_fd_w d (by unfold rc_fo; decide)) (by unfold rc_fo; decide) (by decide))) (rc_fd_lo 1 (rc_fd_w d (by unfold rc_fo; decide)) (by unfold rc_fo; decide) (by decide))) (rc_fd_lo 1 (rc_fd_w d (by unfold rc_fo; decide)) (by unfold rc_fo; decide) (by decide))) (rc_fd_lo 1 (rc_fd_w d (by unfold rc_fo; decide)) (by unfold rc_fo; decide) (by decide))) (rc_fd_lo 3 (rc_fd_w d (by unfold rc_fo; decide)) (by unfold rc_fo; decide) (by decide))) (rc_fd_lo 1 (rc_fd_w d (by unfold rc_fo; decide)) (by unfold rc_fo; decide) (by decide)))
theorem rc_ff_jm8193_8_8 {d : Int32}  : rc_fd (rc_cJm 8193 d) 8 8 = (rc_fd d 10 10) := by unfold rc_cJm; exact (rc_fo_l (by unfold rc_fo; decide) (rc_fo_l (by unfold rc_fo; decide) (rc_fo_l (by unfold rc_fo; decide) (rc_fo_l (by unfold rc_fo; decide) (rc_fo_r (by unfold rc_fo; decide) (rc_fo_l (by unfold rc_fo; decide) (rc_fo_l (by unfold rc_fo; decide) (rc_fo_l (by unfold rc_fo; decide) (by unfold rc_fd; decide) (rc_fd_hi (by unfold rc_fo; decide) (by decide) (by decide))) (rc_fd_hi (by unfold rc_fo; decide) (by decide) (by decide))) (rc_fd_hi (by unfold rc_fo; decide) (by decide) (by decide))) (rc_fd_in 1 (rc_fd_w d (by unfold rc_fo; decide)) (by unfold rc_fo; decide) (by decide))) (rc_fd_lo 1 (rc_fd_w d (by unfold rc_fo; decide)) (by unfold rc_fo; decide) (by decide))) (rc_fd_lo 1 (rc_fd_w d (by unfold rc_fo; decide)) (by unfold rc_fo; decide) (by decide))) (rc_fd_lo 3 (rc_fd_w d (by unfold rc_fo; decide)) (by unfold rc_fo; decide) (by decide))) (rc_fd_lo 1 (rc_fd_w d (by unfold rc_fo; decide)) (by unfold rc_fo; decide) (by decide)))
theorem rc_ff_jm8193_7_7 {d : Int32}  : rc_fd (rc_cJm 8193 d) 7 7 = (rc_fd d 6 6) := by unfold rc_cJm; exact (rc_fo_l (by unfold rc_fo; decide) (rc_fo_l (by unfold rc_fo; decide) (rc_fo_l (by unfold rc_fo; decide) (rc_fo_r (by unfold rc_fo; decide) (rc_fo_l (by unfold rc_fo; decide) (rc_fo_l (by unfold rc_fo; decide) (rc_fo_l (by unfold rc_fo; decide) (rc_fo_l (by unfold rc_fo; decide) (by unfold rc_fd; decide) (rc_fd_hi (by unfold rc_fo; decide) (by decide) (by decide))) (rc_fd_hi (by unfold rc_fo; decide) (by decide) (by decide))) (rc_fd_hi (by unfold rc_fo; decide) (by decide) (by decide))) (rc_fd_hi (by unfold rc_fo; decide) (by decide) (by decide))) (rc_fd_in 1 (rc_fd_w d (by unfold rc_fo; decide)) (by unfold rc_fo; decide) (by decide))) (rc_fd_lo 1 (rc_fd_w d (by unfold rc_fo; decide)) (by unfold rc_fo; decide) (by decide))) (rc_fd_lo 3 (rc_fd_w d (by unfold rc_fo; decide)) (by unfold rc_fo; decide) (by decide))) (rc_fd_lo 1 (rc_fd_w d (by unfold rc_fo; decide)) (by unfold rc_fo; decide) (by decide)))
theorem rc_ff_jm8193_6_6 {d : Int32}  : rc_fd (rc_cJm 8193 d) 6 6 = (rc_fd d 7 7) := by unfold rc_cJm; exact (rc_fo_l (by unfold rc_fo; decide) (rc_fo_l (by unfold rc_fo; decide) (rc_fo_r (by unfold rc_fo; decide) (rc_fo_l (by unfold rc_fo; decide) (rc_fo_l (by unfold rc_fo; decide) (rc_fo_l (by unfold rc_fo; decide) (rc_fo_l (by unfold rc_fo; decide) (rc_fo_l (by unfold rc_fo; decide) (by unfold rc_fd; decide) (rc_fd_hi (by unfold rc_fo; decide) (by decide) (by decide))) (rc_fd_hi (by unfold rc_fo; decide) (by decide) (by decide))) (rc_fd_hi (by unfold rc_fo; decide) (by decide) (by decide))) (rc_fd_hi (by unfold rc_fo; decide) (by decide) (by decide))) (rc_fd_hi (by unfold rc_fo; decide) (by decide) (by decide))) (rc_fd_in 1 (rc_fd_w d (by unfold rc_fo; decide)) (by unfold rc_fo; decide) (by decide))) (rc_fd_lo 3 (rc_fd_w d (by unfold rc_fo; decide)) (by unfold rc_fo; decide) (by decide))) (rc_fd_lo 1 (rc_fd_w d (by unfold rc_fo; decide)) (by unfold rc_fo; decide) (by decide)))
theorem rc_ff_jm8193_5_3 {d : Int32}  : rc_fd (rc_cJm 8193 d) 5 3 = (rc_fd d 3 1) := by unfold rc_cJm; exact (rc_fo_l (by unfold rc_fo; decide) (rc_fo_r (by unfold rc_fo; decide) (rc_fo_l (by unfold rc_fo; decide) (rc_fo_l (by unfold rc_fo; decide) (rc_fo_l (by unfold rc_fo; decide) (rc_fo_l (by unfold rc_fo; decide) (rc_fo_l (by unfold rc_fo; decide) (rc_fo_l (by unfold rc_fo; decide) (by unfold rc_fd; decide) (rc_fd_hi (by unfold rc_fo; decide) (by decide) (by decide))) (rc_fd_hi (by unfold rc_fo; decide) (by decide) (by decide))) (rc_fd_hi (by unfold rc_fo; decide) (by decide) (by decide))) (rc_fd_hi (by unfold rc_fo; decide) (by decide) (by decide))) (rc_fd_hi (by unfold rc_fo; decide) (by decide) (by decide))) (rc_fd_hi (by unfold rc_fo; decide) (by decide) (by decide))) (rc_fd_in 3 (rc_fd_w d (by unfold rc_fo; decide)) (by unfold rc_fo; decide) (by decide))) (rc_fd_lo 1 (rc_fd_w d (by unfold rc_fo; decide)) (by unfold rc_fo; decide) (by decide)))
theorem rc_ff_jm8193_2_2 {d : Int32}  : rc_fd (rc_cJm 8193 d) 2 2 = (rc_fd d 5 5) := by unfold rc_cJm; exact (rc_fo_r (by unfold rc_fo; decide) (rc_fo_l (by unfold rc_fo; decide) (rc_fo_l (by unfold rc_fo; decide) (rc_fo_l (by unfold rc_fo; decide) (rc_fo_l (by unfold rc_fo; decide) (rc_fo_l (by unfold rc_fo; decide) (rc_fo_l (by unfold rc_fo; decide) (rc_fo_l (by unfold rc_fo; decide) (by unfold rc_fd; decide) (rc_fd_hi (by unfold rc_fo; decide) (by decide) (by decide))) (rc_fd_hi (by unfold rc_fo; decide) (by decide) (by decide))) (rc_fd_hi (by unfold rc_fo; decide) (by decide) (by decide))) (rc_fd_hi (by unfold rc_fo; decide) (by decide) (by decide))) (rc_fd_hi (by unfold rc_fo; decide) (by decide) (by decide))) (rc_fd_hi (by unfold rc_fo; decide) (by decide) (by decide))) (rc_fd_hi (by unfold rc_fo; decide) (by decide) (by decide))) (rc_fd_in 1 (rc_fd_w d (by unfold rc_fo; decide)) (by unfold rc_fo; decide) (by decide)))
theorem rc_fu_b49153 {a d : Int32} (h_a : rc_uv (a - 8) < 2 ^ 3) : rc_uv (rc_cBr 49153 a d) < 2 ^ 16 := by unfold rc_cBr; exact (rc_uv_or (rc_uv_or (rc_uv_or (rc_uv_or (rc_uv_or (rc_uv_or (by unfold rc_uv; decide) (rc_uv_sl 1 (rc_fd_w d (by unfold rc_fo; decide)) (by decide) (by decide))) (rc_uv_sl 2 (rc_fd_w d (by unfold rc_fo; decide)) (by decide) (by decide))) (rc_uv_sl 3 h_a (by decide) (by decide))) (rc_uv_sl 2 (rc_fd_w d (by unfold rc_fo; decide)) (by decide) (by decide))) (rc_uv_sl 2 (rc_fd_w d (by unfold rc_fo; decide)) (by decide) (by decide))) (rc_uv_sl 1 (rc_fd_w d (by unfold rc_fo; decide)) (by decide) (by decide)))
theorem rc_ff_b49153_1_0 {a d : Int32} (h_a : rc_uv (a - 8) < 2 ^ 3) : rc_fd (rc_cBr 49153 a d) 1 0 = 1 := by unfold rc_cBr; exact (rc_fo_l (by unfold rc_fo; decide) (rc_fo_l (by unfold rc_fo; decide) (rc_fo_l (by unfold rc_fo; decide) (rc_fo_l (by unfold rc_fo; decide) (rc_fo_l (by unfold rc_fo; decide) (rc_fo_l (by unfold rc_fo; decide) (by unfold rc_fd; decide) (rc_fd_hi (by unfold rc_fo; decide) (by decide) (by decide))) (rc_fd_hi (by unfold rc_fo; decide) (by decide) (by decide))) (rc_fd_hi (by unfold rc_fo; decide) (by decide) (by decide))) (rc_fd_hi (by unfold rc_fo; decide) (by decide) (by decide))) (rc_fd_hi (by unfold rc_fo; decide) (by decide) (by decide))) (rc_fd_hi (by unfold rc_fo; decide) (by decide) (by decide)))
theorem rc_ff_b49153_15_13 {a d : Int32} (h_a : rc_uv (a - 8) < 2 ^ 3) : rc_fd (rc_cBr 49153 a d) 15 13 = 6 := by unfold rc_cBr; exact (rc_fo_l (by unfold rc_fo; decide) (rc_fo_l (by unfold rc_fo; decide) (rc_fo_l (by unfold rc_fo; decide) (rc_fo_l (by unfold rc_fo; decide) (rc_fo_l (by unfold rc_fo; decide) (rc_fo_l (by unfold rc_fo; decide) (by unfold rc_fd; decide) (rc_fd_lo 1 (rc_fd_w d (by unfold rc_fo; decide)) (by unfold rc_fo; decide) (by decide))) (rc_fd_lo 2 (rc_fd_w d (by unfold rc_fo; decide)) (by unfold rc_fo; decide) (by decide))) (rc_fd_lo 3 h_a (by unfold rc_fo; decide) (by decide))) (rc_fd_lo 2 (rc_fd_w d (by unfold rc_fo; decide)) (by unfold rc_fo; decide) (by decide))) (rc_fd_lo 2 (rc_fd_w d (by unfold rc_fo; decide)) (by unfold rc_fo; decide) (by decide))) (rc_fd_lo 1 (rc_fd_w d (by unfold rc_fo; decide)) (by unfold rc_fo; decide) (by decide)))
theorem rc_ff_b49153_9_7 {a d : Int32} (h_a : rc_uv (a - 8) < 2 ^ 3) : rc_fd (rc_cBr 49153 a d) 9 7 = (a - 8) := by unfold rc_cBr; exact (rc_fo_l (by unfold rc_fo; decide) (rc_fo_l (by unfold rc_fo; decide) (rc_fo_l (by unfold rc_fo; decide) (rc_fo_r (by unfold rc_fo; decide) (rc_fo_l (by unfold rc_fo; decide) (rc_fo_l (by unfold rc_fo; decide) (by unfold rc_fd; decide) (rc_fd_hi (by unfold rc_fo; decide) (by decide) (by decide))) (rc_fd_hi (by unfold rc_fo; decide) (by decide) (by decide))) (rc_fd_in 3 h_a (by unfold rc_fo; decide) (by decide))) (rc_fd_lo 2 (rc_fd_w d (by unfold rc_fo; decide)) (by unfold rc_fo; decide) (by decide))) (rc_fd_lo 2 (rc_fd_w d (by unfold rc_fo; decide)) (by unfold rc_fo; decide) (by decide))) (rc_fd_lo 1 (rc_fd_w d (by unfold rc_fo; decide)) (by unfold rc_fo; decide) (by decide)))
theorem rc_ff_b49153_12_12 {a d : Int32} (h_a : rc_uv (a - 8) < 2 ^ 3) : rc_fd (rc_cBr 49153 a d) 12 12 = (rc_fd d 8 8) := by unfold rc_cBr; exact (rc_fo_l (by unfold rc_fo; decide) (rc_fo_l (by unfold rc_fo; decide) (rc_fo_l (by unfold rc_fo; decide) (rc_fo_l (by unfold rc_fo; decide) (rc_fo_l (by unfold rc_fo; decide) (rc_fo_r (by unfold rc_fo; decide) (by unfold rc_fd; decide) (rc_fd_in 1 (rc_fd_w d (by unfold rc_fo; decide)) (by unfold rc_fo; decide) (by decide))) (rc_fd_lo 2 (rc_fd_w d (by unfold rc_fo; decide)) (by unfold rc_fo; decide) (by decide))) (rc_fd_lo 3 h_a (by unfold rc_fo; decide) (by decide))) (rc_fd_lo 2 (rc_fd_w d (by unfold rc_fo; decide)) (by unfold rc_fo; decide) (by decide))) (rc_fd_lo 2 (rc_fd_w d (by unfold rc_fo; decide)) (by unfold rc_fo; decide) (by decide))) (rc_fd_lo 1 (rc_fd_w d (by unfold rc_fo; decide)) (by unfold rc_fo; decide) (by decide)))
theorem rc_ff_b49153_11_10 {a d : Int32} (h_a : rc_uv (a - 8) < 2 ^ 3) : rc_fd (rc_cBr 49153 a d) 11 10 = (rc_fd d 4 3) := by unfold rc_cBr; exact (rc_fo_l (by unfold rc_fo; decide) (rc_fo_l (by unfold rc_fo; decide) (rc_fo_l (by unfold rc_fo; decide) (rc_fo_l (by unfold rc_fo; decide) (rc_fo_r (by unfold rc_fo; decide) (rc_fo_l (by unfold rc_fo; decide) (by unfold rc_fd; decide) (rc_fd_hi (by unfold rc_fo; decide) (by decide) (by decide))) (rc_fd_in 2 (rc_fd_w d (by unfold rc_fo; decide)) (by unfold rc_fo; decide) (by decide))) (rc_fd_lo 3 h_a (by unfold rc_fo; decide) (by decide))) (rc_fd_lo 2 (rc_fd_w d (by unfold rc_fo; decide)) (by unfold rc_fo; decide) (by decide))) (rc_fd_lo 2 (rc_fd_w d (by unfold rc_fo; decide)) (by unfold rc_fo; decide) (by decide))) (rc_fd_lo 1 (rc_fd_w d (by unfold rc_fo; decide)) (by unfold rc_fo; decide) (by decide)))
theorem rc_ff_b49153_6_5 {a d : Int32} (h_a : rc_uv (a - 8) < 2 ^ 3) : rc_fd (rc_cBr 49153 a d) 6 5 = (rc_fd d 7 6) := by unfold rc_cBr; exact (rc_fo_l (by unfold rc_fo; decide) (rc_fo_l (by unfold rc_fo; decide) (rc_fo_r (by unfold rc_fo; decide) (rc_fo_l (by unfold rc_fo; decide) (rc_fo_l (by unfold rc_fo; decide) (rc_fo_l (by unfold rc_fo; decide) (by unfold rc_fd; decide) (rc_fd_hi (by unfold rc_fo; decide) (by decide) (by decide))) (rc_fd_hi (by unfold rc_fo; decide) (by decide) (by decide))) (rc_fd_hi (by unfold rc_fo; decide) (by decide) (by decide))) (rc_fd_in 2 (rc_fd_w d (by unfold rc_fo; decide)) (by unfold rc_fo; decide) (by decide))) (rc_fd_lo 2 (rc_fd_w d (by unfold rc_fo; decide)) (by unfold rc_fo; decide) (by decide))) (rc_fd_lo 1 (rc_fd_w d (by unfold rc_fo; decide)) (by unfold rc_fo; decide) (by decide)))
theorem rc_ff_b49153_4_3 {a d : Int32} (h_a : rc_uv (a - 8) < 2 ^ 3) : rc_fd (rc_cBr 49153 a d) 4 3 = (rc_fd d 2 1) := by unfold rc_cBr; exact (rc_fo_l (by unfold rc_fo; decide) (rc_fo_r (by unfold rc_fo; decide) (rc_fo_l (by unfold rc_fo; decide) (rc_fo_l (by unfold rc_fo; decide) (rc_fo_l (by unfold rc_fo; decide) (rc_fo_l (by unfold rc_fo; decide) (by unfold rc_fd; decide) (rc_fd_hi (by unfold rc_fo; decide) (by decide) (by decide))) (rc_fd_hi (by unfold rc_fo; decide) (by decide) (by decide))) (rc_fd_hi (by unfold rc_fo; decide) (by decide) (by decide))) (rc_fd_hi (by unfold rc_fo; decide) (by decide) (by decide))) (rc_fd_in 2 (rc_fd_w d (by unfold rc_fo; decide)) (by unfold rc_fo; decide) (by decide))) (rc_fd_lo 1 (rc_fd_w d (by unfold rc_fo; decide)) (by unfold rc_fo; decide) (by decide)))
theorem rc_ff_b49153_2_2 {a d : Int32} (h_a : rc_uv (a - 8) < 2 ^ 3) : rc_fd (rc_cBr 49153 a d) 2 2 = (rc_fd d 5 5) := by unfold rc_cBr; exact (rc_fo_r (by unfold rc_fo; decide) (rc_fo_l (by unfold rc_fo; decide) (rc_fo_l (by unfold rc_fo; decide) (rc_fo_l (by unfold rc_fo; decide) (rc_fo_l (by unfold rc_fo; decide) (rc_fo_l (by unfold rc_fo; decide) (by unfold rc_fd; decide) (rc_fd_hi (by unfold rc_fo; decide) (by decide) (by decide))) (rc_fd_hi (by unfold rc_fo; decide) (by decide) (by decide))) (rc_fd_hi (by unfold rc_fo; decide) (by decide) (by decide))) (rc_fd_hi (by unfold rc_fo; decide) (by decide) (by decide))) (rc_fd_hi (by unfold rc_fo; decide) (by decide) (by decide))) (rc_fd_in 1 (rc_fd_w d (by unfold rc_fo; decide)) (by unfold rc_fo; decide) (by decide)))
theorem rc_fu_b57345 {a d : Int32} (h_a : rc_uv (a - 8) < 2 ^ 3) : rc_uv (rc_cBr 57345 a d) < 2 ^ 16 := by unfold rc_cBr; exact (rc_uv_or (rc_uv_or (rc_uv_or (rc_uv_or (rc_uv_or (rc_uv_or (by unfold rc_uv; decide) (rc_uv_sl 1 (rc_fd_w d (by unfold rc_fo; decide)) (by decide) (by decide))) (rc_uv_sl 2 (rc_fd_w d (by unfold rc_fo; decide)) (by decide) (by decide))) (rc_uv_sl 3 h_a (by decide) (by decide))) (rc_uv_sl 2 (rc_fd_w d (by unfold rc_fo; decide)) (by decide) (by decide))) (rc_uv_sl 2 (rc_fd_w d (by unfold rc_fo; decide)) (by decide) (by decide))) (rc_uv_sl 1 (rc_fd_w d (by unfold rc_fo; decide)) (by decide) (by decide)))
theorem rc_ff_b57345_1_0 {a d : Int32} (h_a : rc_uv (a - 8) < 2 ^ 3) : rc_fd (rc_cBr 57345 a d) 1 0 = 1 := by unfold rc_cBr; exact (rc_fo_l (by unfold rc_fo; decide) (rc_fo_l (by unfold rc_fo; decide) (rc_fo_l (by unfold rc_fo; decide) (rc_fo_l (by unfold rc_fo; decide) (rc_fo_l (by unfold rc_fo; decide) (rc_fo_l (by unfold rc_fo; decide) (by unfold rc_fd; decide) (rc_fd_hi (by unfold rc_fo; decide) (by decide) (by decide))) (rc_fd_hi (by unfold rc_fo; decide) (by decide) (by decide))) (rc_fd_hi (by unfold rc_fo; decide) (by decide) (by decide))) (rc_fd_hi (by unfold rc_fo; decide) (by decide) (by decide))) (rc_fd_hi (by unfold rc_fo; decide) (by decide) (by decide))) (rc_fd_hi (by unfold rc_fo; decide) (by decide) (by decide)))
theorem rc_ff_b57345_15_13 {a d : Int32} (h_a : rc_uv (a - 8) < 2 ^ 3) : rc_fd (rc_cBr 57345 a d) 15 13 = 7 := by unfold rc_cBr; exact (rc_fo_l (by unfold rc_fo; decide) (rc_fo_l (by unfold rc_fo; decide) (rc_fo_l (by unfold rc_fo; decide) (rc_fo_l (by unfold rc_fo; decide) (rc_fo_l (by unfold rc_fo; decide) (rc_fo_l (by unfold rc_fo; decide) (by unfold rc_fd; decide) (rc_fd_lo 1 (rc_fd_w d (by unfold rc_fo; decide)) (by unfold rc_fo; decide) (by decide))) (rc_fd_lo 2 (rc_fd_w d (by unfold rc_fo; decide)) (by unfold rc_fo; decide) (by decide))) (rc_fd_lo 3 h_a (by unfold rc_fo; decide) (by decide))) (rc_fd_lo 2 (rc_fd_w d (by unfold rc_fo; decide)) (by unfold rc_fo; decide) (by decide))) (rc_fd_lo 2 (rc_fd_w d (by unfold rc_fo; decide)) (by unfold rc_fo; decide) (by decide))) (rc_fd_lo 1 (rc_fd_w d (by unfold rc_fo; decide)) (by unfold rc_fo; decide) (by decide)))
theorem rc_ff_b57345_9_7 {a d : Int32} (h_a : rc_uv (a - 8) < 2 ^ 3) : rc_fd (rc_cBr 57345 a d) 9 7 = (a - 8) := by unfold rc_cBr; exact (rc_fo_l (by unfold rc_fo; decide) (rc_fo_l (by unfold rc_fo; decide) (rc_fo_l (by unfold rc_fo; decide) (rc_fo_r (by unfold rc_fo; decide) (rc_fo_l (by unfold rc_fo; decide) (rc_fo_l (by unfold rc_fo; decide) (by unfold rc_fd; decide) (rc_fd_hi (by unfold rc_fo; decide) (by decide) (by decide))) (rc_fd_hi (by unfold rc_fo; decide) (by decide) (by decide))) (rc_fd_in 3 h_a (by unfold rc_fo; decide) (by decide))) (rc_fd_lo 2 (rc_fd_w d (by unfold rc_fo; decide)) (by unfold rc_fo; decide) (by decide))) (rc_fd_lo 2 (rc_fd_w d (by unfold rc_fo; decide)) (by unfold rc_fo; decide) (by decide))) (rc_fd_lo 1 (rc_fd_w d (by unfold rc_fo; decide)) (by unfold rc_fo; decide) (by decide)))
theorem rc_ff_b57345_12_12 {a d : Int32} (h_a : rc_uv (a - 8) < 2 ^ 3) : rc_fd (rc_cBr 57345 a d) 12 12 = (rc_fd d 8 8) := by unfold rc_cBr; exact (rc_fo_l (by unfold rc_fo; decide) (rc_fo_l (by unfold rc_fo; decide) (rc_fo_l (by unfold rc_fo; decide) (rc_fo_l (by unfold rc_fo; decide) (rc_fo_l (by unfold rc_fo; decide) (rc_fo_r (by unfold rc_fo; decide) (by unfold rc_fd; decide) (rc_fd_in 1 (rc_fd_w d (by unfold rc_fo; decide)) (by unfold rc_fo; decide) (by decide))) (rc_fd_lo 2 (rc_fd_w d (by unfold rc_fo; decide)) (by unfold rc_fo; decide) (by decide))) (rc_fd_lo 3 h_a (by unfold rc_fo; decide) (by decide))) (rc_fd_lo 2 (rc_fd_w d (by unfold rc_fo; decide)) (by unfold rc_fo; decide) (by decide))) (rc_fd_lo 2 (rc_fd_w d (by unfold rc_fo; decide)) (by unfold rc_fo; decide) (by decide))) (rc_fd_lo 1 (rc_fd_w d (by unfold rc_fo; decide)) (by unfold rc_fo; decide) (by decide)))
theorem rc_ff_b57345_11_10 {a d : Int32} (h_a : rc_uv (a - 8) < 2 ^ 3) : rc_fd (rc_cBr 57345 a d) 11 10 = (rc_fd d 4 3) := by unfold rc_cBr; exact (rc_fo_l (by unfold rc_fo; decide) (rc_fo_l (by unfold rc_fo; decide) (rc_fo_l (by unfold rc_fo; decide) (rc_fo_l (by unfold rc_fo; decide) (rc_fo_r (by unfold rc_fo; decide) (rc_fo_l (by unfold rc_fo; decide) (by unfold rc_fd; decide) (rc_fd_hi (by unfold rc_fo; decide) (by decide) (by decide))) (rc_fd_in 2 (rc_fd_w d (by unfold rc_fo; decide)) (by unfold rc_fo; decide) (by decide))) (rc_fd_lo 3 h_a (by unfold rc_fo; decide) (by decide))) (rc_fd_lo 2 (rc_fd_w d (by unfold rc_fo; decide)) (by unfold rc_fo; decide) (by decide))) (rc_fd_lo 2 (rc_fd_w d (by unfold rc_fo; decide)) (by unfold rc_fo; decide) (by decide))) (rc_fd_lo 1 (rc_fd_w d (by unfold rc_fo; decide)) (by unfold rc_fo; decide) (by decide)))
theorem rc_ff_b57345_6_5 {a d : Int32} (h_a : rc_uv (a - 8) < 2 ^ 3) : rc_fd (rc_cBr 57345 a d) 6 5 = (rc_fd d 7 6) := by unfold rc_cBr; exact (rc_fo_l (by unfold rc_fo; decide) (rc_fo_l (by unfold rc_fo; decide) (rc_fo_r (by unfold rc_fo; decide) (rc_fo_l (by unfold rc_fo; decide) (rc_fo_l (by unfold rc_fo; decide) (rc_fo_l (by unfold rc_fo; decide) (by unfold rc_fd; decide) (rc_fd_hi (by unfold rc_fo; decide) (by decide) (by decide))) (rc_fd_hi (by unfold rc_fo; decide) (by decide) (by decide))) (rc_fd_hi (by unfold rc_fo; decide) (by decide) (by decide))) (rc_fd_in 2 (rc_fd_w d (by unfold rc_fo; decide)) (by unfold rc_fo; decide) (by decide))) (rc_fd_lo 2 (rc_fd_w d (by unfold rc_fo; decide)) (by unfold rc_fo; decide) (by decide))) (rc_fd_lo 1 (rc_fd_w d (by unfold rc_fo; decide)) (by unfold rc_fo; decide) (by decide)))
theorem rc_ff_b57345_4_3 {a d : Int32} (h_a : rc_uv (a - 8) < 2 ^ 3) : rc_fd (rc_cBr 57345 a d) 4 3 = (rc_fd d 2 1) := by unfold rc_cBr; exact (rc_fo_l (by unfold rc_fo; decide) (rc_fo_r (by unfold rc_fo; decide) (rc_fo_l (by unfold rc_fo; decide) (rc_fo_l (by unfold rc_fo; decide) (rc_fo_l (by unfold rc_fo; decide) (rc_fo_l (by unfold rc_fo; decide) (by unfold rc_fd; decide) (rc_fd_hi (by unfold rc_fo; decide) (by decide) (by decide))) (rc_fd_hi (by unfold rc_fo; decide) (by decide) (by decide))) (rc_fd_hi (by unfold rc_fo; decide) (by decide) (by decide))) (rc_fd_hi (by unfold rc_fo; decide) (by decide) (by decide))) (rc_fd_in 2 (rc_fd_w d (by unfold rc_fo; decide)) (by unfold rc_fo; decide) (by decide))) (rc_fd_lo 1 (rc_fd_w d (by unfold rc_fo; decide)) (by unfold rc_fo; decide) (by decide)))
theorem rc_ff_b57345_2_2 {a d : Int32} (h_a : rc_uv (a - 8) < 2 ^ 3) : rc_fd (rc_cBr 57345 a d) 2 2 = (rc_fd d 5 5) := by unfold rc_cBr; exact (rc_fo_r (by unfold rc_fo; decide) (rc_fo_l (by unfold rc_fo; decide) (rc_fo_l (by unfold rc_fo; decide) (rc_fo_l (by unfold rc_fo; decide) (rc_fo_l (by unfold rc_fo; decide) (rc_fo_l (by unfold rc_fo; decide) (by unfold rc_fd; decide) (rc_fd_hi (by unfold rc_fo; decide) (by decide) (by decide))) (rc_fd_hi (by unfold rc_fo; decide) (by decide) (by decide))) (rc_fd_hi (by unfold rc_fo; decide) (by decide) (by decide))) (rc_fd_hi (by unfold rc_fo; decide) (by decide) (by decide))) (rc_fd_hi (by unfold rc_fo; decide) (by decide) (by decide))) (rc_fd_in 1 (rc_fd_w d (by unfold rc_fo; decide)) (by unfold rc_fo; decide) (by decide)))
theorem rc_ff_L1_1_0 {a b c : Int32} (h_a : rc_uv a < 2 ^ 5) (h_b : rc_uv b < 2 ^ 5) (h_c : rc_uv c < 2 ^ 5) : rc_fd (rc_cRg 0 0 a b c) 1 0 = 3 := by unfold rc_cRg; exact (rc_fo_r (by unfold rc_fo; decide) (rc_fo_l (by unfold rc_fo; decide) (rc_fo_l (by unfold rc_fo; decide) (rc_fo_l (by unfold rc_fo; decide) (rc_fo_l (by unfold rc_fo; decide) (by unfold rc_fd rc_sl; decide) (rc_fd_hi (by unfold rc_fo; decide) (by decide) (by decide))) (rc_fd_hi (by unfold rc_fo; decide) (by decide) (by decide))) (by unfold rc_fd rc_sl; decide)) (rc_fd_hi (by unfold rc_fo; decide) (by decide) (by decide))) (by unfold rc_fd; decide))
theorem rc_ff_L1_6_0 {a b c : Int32} (h_a : rc_uv a < 2 ^ 5) (h_b : rc_uv b < 2 ^ 5) (h_c : rc_uv c < 2 ^ 5) : rc_fd (rc_cRg 0 0 a b c) 6 0 = 51 := by unfold rc_cRg; exact (rc_fo_r (by unfold rc_fo; decide) (rc_fo_l (by unfold rc_fo; decide) (rc_fo_l (by unfold rc_fo; decide) (rc_fo_l (by unfold rc_fo; decide) (rc_fo_l (by unfold rc_fo; decide) (by unfold rc_fd rc_sl; decide) (rc_fd_hi (by unfold rc_fo; decide) (by decide) (by decide))) (rc_fd_hi (by unfold rc_fo; decide) (by decide) (by decide))) (by unfold rc_fd rc_sl; decide)) (rc_fd_hi (by unfold rc_fo; decide) (by decide) (by decide))) (by unfold rc_fd; decide))
theorem rc_ff_L1_14_12 {a b c : Int32} (h_a : rc_uv a < 2 ^ 5) (h_b : rc_uv b < 2 ^ 5) (h_c : rc_uv c < 2 ^ 5) : rc_fd (rc_cRg 0 0 a b c) 14 12 = 0 := by unfold rc_cRg; exact (rc_fo_l (by unfold rc_fo; decide) (rc_fo_l (by unfold rc_fo; decide) (rc_fo_l (by unfold rc_fo; decide) (rc_fo_l (by unfold rc_fo; decide) (rc_fo_l (by unfold rc_fo; decide) (by unfold rc_fd rc_sl; decide) (rc_fd_hi (by unfold rc_fo; decide) (by decide) (by decide))) (rc_fd_hi (by unfold rc_fo; decide) (by decide) (by decide))) (by unfold rc_fd rc_sl; decide)) (rc_fd_lo 5 h_a (by unfold rc_fo; decide) (by decide))) (by unfold rc_fd; decide))
theorem rc_ff_L1_30_30 {a b c : Int32} (h_a : rc_uv a < 2 ^ 5) (h_b : rc_uv b < 2 ^ 5) (h_c : rc_uv c < 2 ^ 5) : rc_fd (rc_cRg 0 0 a b c) 30 30 = 0 := by unfold rc_cRg; exact (rc_fo_l (by unfold rc_fo; decide) (rc_fo_l (by unfold rc_fo; decide) (rc_fo_l (by unfold rc_fo; decide) (rc_fo_l (by unfold rc_fo; decide) (rc_fo_l (by unfold rc_fo; decide) (by unfold rc_fd rc_sl; decide) (rc_fd_lo 5 h_c (by unfold rc_fo; decide) (by decide))) (rc_fd_lo 5 h_b (by unfold rc_fo; decide) (by decide))) (by unfold rc_fd rc_sl; decide)) (rc_fd_lo 5 h_a (by unfold rc_fo; decide) (by decide))) (by unfold rc_fd; decide))
theorem rc_ff_L1_11_7 {a b c : Int32} (h_a : rc_uv a < 2 ^ 5) (h_b : rc_uv b < 2 ^ 5) (h_c : rc_uv c < 2 ^ 5) : rc_fd (rc_cRg 0 0 a b c) 11 7 = a := by unfold rc_cRg; exact (rc_fo_l (by unfold rc_fo; decide) (rc_fo_r (by unfold rc_fo; decide) (rc_fo_l (by unfold rc_fo; decide) (rc_fo_l (by unfold rc_fo; decide) (rc_fo_l (by unfold rc_fo; decide) (by unfold rc_fd rc_sl; decide) (rc_fd_hi (by unfold rc_fo; decide) (by decide) (by decide))) (rc_fd_hi (by unfold rc_fo; decide) (by decide) (by decide))) (by unfold rc_fd rc_sl; decide)) (rc_fd_in 5 h_a (by unfold rc_fo; decide) (by decide))) (by unfold rc_fd; decide))
theorem rc_ff_L1_19_15 {a b c : Int32} (h_a : rc_uv a < 2 ^ 5) (h_b : rc_uv b < 2 ^ 5) (h_c : rc_uv c < 2 ^ 5) : rc_fd (rc_cRg 0 0 a b c) 19 15 = b := by unfold rc_cRg; exact (rc_fo_l (by unfold rc_fo; decide) (rc_fo_l (by unfold rc_fo; decide) (rc_fo_l (by unfold rc_fo; decide) (rc_fo_r (by unfold rc_fo; decide) (rc_fo_l (by unfold rc_fo; decide) (by unfold rc_fd rc_sl; decide) (rc_fd_hi (by unfold rc_fo; decide) (by decide) (by decide))) (rc_fd_in 5 h_b (by unfold rc_fo; decide) (by decide))) (by unfold rc_fd rc_sl; decide)) (rc_fd_lo 5 h_a (by unfold rc_fo; decide) (by decide))) (by unfold rc_fd; decide))
theorem rc_ff_L1_24_20 {a b c : Int32} (h_a : rc_uv a < 2 ^ 5) (h_b : rc_uv b < 2 ^ 5) (h_c : rc_uv c < 2 ^ 5) : rc_fd (rc_cRg 0 0 a b c) 24 20 = c := by unfold rc_cRg; exact (rc_fo_l (by unfold rc_fo; decide) (rc_fo_l (by unfold rc_fo; decide) (rc_fo_l (by unfold rc_fo; decide) (rc_fo_l (by unfold rc_fo; decide) (rc_fo_r (by unfold rc_fo; decide) (by unfold rc_fd rc_sl; decide) (rc_fd_in 5 h_c (by unfold rc_fo; decide) (by decide))) (rc_fd_lo 5 h_b (by unfold rc_fo; decide) (by decide))) (by unfold rc_fd rc_sl; decide)) (rc_fd_lo 5 h_a (by unfold rc_fo; decide) (by decide))) (by unfold rc_fd; decide))
theorem rc_ff_L2_1_0 {a b c : Int32} (h_a : rc_uv a < 2 ^ 5) (h_b : rc_uv b < 2 ^ 5) (h_c : rc_uv c < 2 ^ 5) : rc_fd (rc_cRg 32 0 a b c) 1 0 = 3 := by unfold rc_cRg; exact (rc_fo_r (by unfold rc_fo; decide) (rc_fo_l (by unfold rc_fo; decide) (rc_fo_l (by unfold rc_fo; decide) (rc_fo_l (by unfold rc_fo; decide) (rc_fo_l (by unfold rc_fo; decide) (by unfold rc_fd rc_sl; decide) (rc_fd_hi (by unfold rc_fo; decide) (by decide) (by decide))) (rc_fd_hi (by unfold rc_fo; decide) (by decide) (by decide))) (by unfold rc_fd rc_sl; decide)) (rc_fd_hi (by unfold rc_fo; decide) (by decide) (by decide))) (by unfold rc_fd; decide))
theorem rc_ff_L2_6_0 {a b c : Int32} (h_a : rc_uv a < 2 ^ 5) (h_b : rc_uv b < 2 ^ 5) (h_c : rc_uv c < 2 ^ 5) : rc_fd (rc_cRg 32 0 a b c) 6 0 = 51 := by unfold rc_cRg; exact (rc_fo_r (by unfold rc_fo; decide) (rc_fo_l (by unfold rc_fo; decide) (rc_fo_l (by unfold rc_fo; decide) (rc_fo_l (by unfold rc_fo; decide) (rc_fo_l (by unfold rc_fo; decide) (by unfold rc_fd rc_sl; decide) (rc_fd_hi (by unfold rc_fo; decide) (by decide) (by decide))) (rc_fd_hi (by unfold rc_fo; decide) (by decide) (by decide))) (by unfold rc_fd rc_sl; decide)) (rc_fd_hi (by unfold rc_fo; decide) (by decide) (by decide))) (by unfold rc_fd; decide))
theorem rc_ff_L2_14_12 {a b c : Int32} (h_a : rc_uv a < 2 ^ 5) (h_b : rc_uv b < 2 ^ 5) (h_c : rc_uv c < 2 ^ 5) : rc_fd (rc_cRg 32 0 a b c) 14 12 = 0 := by unfold rc_cRg; exact (rc_fo_l (by unfold rc_fo; decide) (rc_fo_l (by unfold rc_fo; decide) (rc_fo_l (by unfold rc_fo; decide) (rc_fo_l (by unfold rc_fo; decide) (rc_fo_l (by unfold rc_fo; decide) (by unfold rc_fd rc_sl; decide) (rc_fd_hi (by unfold rc_fo; decide) (by decide) (by decide))) (rc_fd_hi (by unfold rc_fo; decide) (by decide) (by decide))) (by unfold rc_fd rc_sl; decide)) (rc_fd_lo 5 h_a (by unfold rc_fo; decide) (by decide))) (by unfold rc_fd; decide))
theorem rc_ff_L2_30_30 {a b c : Int32} (h_a : rc_uv a < 2 ^ 5) (h_b : rc_uv b < 2 ^ 5) (h_c : rc_uv c < 2 ^ 5) : rc_fd (rc_cRg 32 0 a b c) 30 30 = 1 := by unfold rc_cRg; exact (rc_fo_l (by unfold rc_fo; decide) (rc_fo_l (by unfold rc_fo; decide) (rc_fo_l (by unfold rc_fo; decide) (rc_fo_l (by unfold rc_fo; decide) (rc_fo_l (by unfold rc_fo; decide) (by unfold rc_fd rc_sl; decide) (rc_fd_lo 5 h_c (by unfold rc_fo; decide) (by decide))) (rc_fd_lo 5 h_b (by unfold rc_fo; decide) (by decide))) (by unfold rc_fd rc_sl; decide)) (rc_fd_lo 5 h_a (by unfold rc_fo; decide) (by decide))) (by unfold rc_fd; decide))
theorem rc_ff_L2_11_7 {a b c : Int32} (h_a : rc_uv a < 2 ^ 5) (h_b : rc_uv b < 2 ^ 5) (h_c : rc_uv c < 2 ^ 5) : rc_fd (rc_cRg 32 0 a b c) 11 7 = a := by unfold rc_cRg; exact (rc_fo_l (by unfold rc_fo; decide) (rc_fo_r (by unfold rc_fo; decide) (rc_fo_l (by unfold rc_fo; decide) (rc_fo_l (by unfold rc_fo; decide) (rc_fo_l (by unfold rc_fo; decide) (by unfold rc_fd rc_sl; decide) (rc_fd_hi (by unfold rc_fo; decide) (by decide) (by decide))) (rc_fd_hi (by unfold rc_fo; decide) (by decide) (by decide))) (by unfold rc_fd rc_sl; decide)) (rc_fd_in 5 h_a (by unfold rc_fo; decide) (by decide))) (by unfold rc_fd; decide))
theorem rc_ff_L2_19_15 {a b c : Int32} (h_a : rc_uv a < 2 ^ 5) (h_b : rc_uv b < 2 ^ 5) (h_c : rc_uv c < 2 ^ 5) : rc_fd (rc_cRg 32 0 a b c) 19 15 = b := by unfold rc_cRg; exact (rc_fo_l (by unfold rc_fo; decide) (rc_fo_l (by unfold rc_fo; decide) (rc_fo_l (by unfold rc_fo; decide) (rc_fo_r (by unfold rc_fo; decide) (rc_fo_l (by unfold rc_fo; decide) (by unfold rc_fd rc_sl; decide) (rc_fd_hi (by unfold rc_fo; decide) (by decide) (by decide))) (rc_fd_in 5 h_b (by unfold rc_fo; decide) (by decide))) (by unfold rc_fd rc_sl; decide)) (rc_fd_lo 5 h_a (by unfold rc_fo; decide) (by decide))) (by unfold rc_fd; decide))
theorem rc_ff_L2_24_20 {a b c : Int32} (h_a : rc_uv a < 2 ^ 5) (h_b : rc_uv b < 2 ^ 5) (h_c : rc_uv c < 2 ^ 5) : rc_fd (rc_cRg 32 0 a b c) 24 20 = c := by unfold rc_cRg; exact (rc_fo_l (by unfold rc_fo; decide) (rc_fo_l (by unfold rc_fo; decide) (rc_fo_l (by unfold rc_fo; decide) (rc_fo_l (by unfold rc_fo; decide) (rc_fo_r (by unfold rc_fo; decide) (by unfold rc_fd rc_sl; decide) (rc_fd_in 5 h_c (by unfold rc_fo; decide) (by decide))) (rc_fd_lo 5 h_b (by unfold rc_fo; decide) (by decide))) (by unfold rc_fd rc_sl; decide)) (rc_fd_lo 5 h_a (by unfold rc_fo; decide) (by decide))) (by unfold rc_fd; decide))
theorem rc_ff_L3_1_0 {a b c : Int32} (h_a : rc_uv a < 2 ^ 5) (h_b : rc_uv b < 2 ^ 5) (h_c : rc_uv c < 2 ^ 5) : rc_fd (rc_cRg 0 4 a b c) 1 0 = 3 := by unfold rc_cRg; exact (rc_fo_r (by unfold rc_fo; decide) (rc_fo_l (by unfold rc_fo; decide) (rc_fo_l (by unfold rc_fo; decide) (rc_fo_l (by unfold rc_fo; decide) (rc_fo_l (by unfold rc_fo; decide) (by unfold rc_fd rc_sl; decide) (rc_fd_hi (by unfold rc_fo; decide) (by decide) (by decide))) (rc_fd_hi (by unfold rc_fo; decide) (by decide) (by decide))) (by unfold rc_fd rc_sl; decide)) (rc_fd_hi (by unfold rc_fo; decide) (by decide) (by decide))) (by unfold rc_fd; decide))
theorem rc_ff_L3_6_0 {a b c : Int32} (h_a : rc_uv a < 2 ^ 5) (h_b : rc_uv b < 2 ^ 5) (h_c : rc_uv c < 2 ^ 5) : rc_fd (rc_cRg 0 4 a b c) 6 0 = 51 := by unfold rc_cRg; exact (rc_fo_r (by unfold rc_fo; decide) (rc_fo_l (by unfold rc_fo; decide) (rc_fo_l (by unfold rc_fo; decide) (rc_fo_l (by unfold rc_fo; decide) (rc_fo_l (by unfold rc_fo; decide) (by unfold rc_fd rc_sl; decide) (rc_fd_hi (by unfold rc_fo; decide) (by decide) (by decide))) (rc_fd_hi (by unfold rc_fo; decide) (by decide) (by decide))) (by unfold rc_fd rc_sl; decide)) (rc_fd_hi (by unfold rc_fo; decide) (by decide) (by decide))) (by unfold rc_fd; decide))
theorem rc_ff_L3_14_12 {a b c : Int32} (h_a : rc_uv a < 2 ^ 5) (h_b : rc_uv b < 2 ^ 5) (h_c : rc_uv c < 2 ^ 5) : rc_fd (rc_cRg 0 4 a b c) 14 12 = 4 := by unfold rc_cRg; exact (rc_fo_l (by unfold rc_fo; decide) (rc_fo_l (by unfold rc_fo; decide) (rc_fo_r (by unfold rc_fo; decide) (rc_fo_l (by unfold rc_fo; decide) (rc_fo_l (by unfold rc_fo; decide) (by unfold rc_fd rc_sl; decide) (rc_fd_hi (by unfold rc_fo; decide) (by decide) (by decide))) (rc_fd_hi (by unfold rc_fo; decide) (by decide) (by decide))) (by unfold rc_fd rc_sl; decide)) (rc_fd_lo 5 h_a (by unfold rc_fo; decide) (by decide))) (by unfold rc_fd; decide))
theorem rc_ff_L3_30_30 {a b c : Int32} (h_a : rc_uv a < 2 ^ 5) (h_b : rc_uv b < 2 ^ 5) (h_c : rc_uv c < 2 ^ 5) : rc_fd (rc_cRg 0 4 a b c) 30 30 = 0 := by unfold rc_cRg; exact (rc_fo_l (by unfold rc_fo; decide) (rc_fo_l (by unfold rc_fo; decide) (rc_fo_l (by unfold rc_fo; decide) (rc_fo_l (by unfold rc_fo; decide) (rc_fo_l (by unfold rc_fo; decide) (by unfold rc_fd rc_sl; decide) (rc_fd_lo 5 h_c (by unfold rc_fo; decide) (by decide))) (rc_fd_lo 5 h_b (by unfold rc_fo; decide) (by decide))) (by unfold rc_fd rc_sl; decide)) (rc_fd_lo 5 h_a (by unfold rc_fo; decide) (by decide))) (by unfold rc_fd; decide))
theorem rc_ff_L3_11_7 {a b c : Int32} (h_a : rc_uv a < 2 ^ 5) (h_b : rc_uv b < 2 ^ 5) (h_c : rc_uv c < 2 ^ 5) : rc_fd (rc_cRg 0 4 a b c) 11 7 = a := by unfold rc_cRg; exact (rc_fo_l (by unfold rc_fo; decide) (rc_fo_r (by unfold rc_fo; decide) (rc_fo_l (by unfold rc_fo; decide) (rc_fo_l (by unfold rc_fo; decide) (rc_fo_l (by unfold rc_fo; decide) (by unfold rc_fd rc_sl; decide) (rc_fd_hi (by unfold rc_fo; decide) (by decide) (by decide))) (rc_fd_hi (by unfold rc_fo; decide) (by decide) (by decide))) (by unfold rc_fd rc_sl; decide)) (rc_fd_in 5 h_a (by unfold rc_fo; decide) (by decide))) (by unfold rc_fd; decide))
theorem rc_ff_L3_19_15 {a b c : Int32} (h_a : rc_uv a < 2 ^ 5) (h_b : rc_uv b < 2 ^ 5) (h_c : rc_uv c < 2 ^ 5) : rc_fd (rc_cRg 0 4 a b c) 19 15 = b := by unfold rc_cRg; exact (rc_fo_l (by unfold rc_fo; decide) (rc_fo_l (by unfold rc_fo; decide) (rc_fo_l (by unfold rc_fo; decide) (rc_fo_r (by unfold rc_fo; decide) (rc_fo_l (by unfold rc_fo; decide) (by unfold rc_fd rc_sl; decide) (rc_fd_hi (by unfold rc_fo; decide) (by decide) (by decide))) (rc_fd_in 5 h_b (by unfold rc_fo; decide) (by decide))) (by unfold rc_fd rc_sl; decide)) (rc_fd_lo 5 h_a (by unfold rc_fo; decide) (by decide))) (by unfold rc_fd; decide))
theorem rc_ff_L3_24_20 {a b c : Int32} (h_a : rc_uv a < 2 ^ 5) (h_b : rc_uv b < 2 ^ 5) (h_c : rc_uv c < 2 ^ 5) : rc_fd (rc_cRg 0 4 a b c) 24 20 = c := by unfold rc_cRg; exact (rc_fo_l (by unfold rc_fo; decide) (rc_fo_l (by unfold rc_fo; decide) (rc_fo_l (by unfold rc_fo; decide) (rc_fo_l (by unfold rc_fo; decide) (rc_fo_r (by unfold rc_fo; decide) (by unfold rc_fd rc_sl; decide) (rc_fd_in 5 h_c (by unfold rc_fo; decide) (by decide))) (rc_fd_lo 5 h_b (by unfold rc_fo; decide) (by decide))) (by unfold rc_fd rc_sl; decide)) (rc_fd_lo 5 h_a (by unfold rc_fo; decide) (by decide))) (by unfold rc_fd; decide))
theorem rc_ff_L4_1_0 {a b c : Int32} (h_a : rc_uv a < 2 ^ 5) (h_b : rc_uv b < 2 ^ 5) (h_c : rc_uv c < 2 ^ 5) : rc_fd (rc_cRg 0 6 a b c) 1 0 = 3 := by unfold rc_cRg; exact (rc_fo_r (by unfold rc_fo; decide) (rc_fo_l (by unfold rc_fo; decide) (rc_fo_l (by unfold rc_fo; decide) (rc_fo_l (by unfold rc_fo; decide) (rc_fo_l (by unfold rc_fo; decide) (by unfold rc_fd rc_sl; decide) (rc_fd_hi (by unfold rc_fo; decide) (by decide) (by decide))) (rc_fd_hi (by unfold rc_fo; decide) (by decide) (by decide))) (by unfold rc_fd rc_sl; decide)) (rc_fd_hi (by unfold rc_fo; decide) (by decide) (by decide))) (by unfold rc_fd; decide))
theorem rc_ff_L4_6_0 {a b c : Int32} (h_a : rc_uv a < 2 ^ 5) (h_b : rc_uv b < 2 ^ 5) (h_c : rc_uv c < 2 ^ 5) : rc_fd (rc_cRg 0 6 a b c) 6 0 = 51 := by unfold rc_cRg; exact (rc_fo_r (by unfold rc_fo; decide) (rc_fo_l (by unfold rc_fo; decide) (rc_fo_l (by unfold rc_fo; decide) (rc_fo_l (by unfold rc_fo; decide) (rc_fo_l (by unfold rc_fo; decide) (by unfold rc_fd rc_sl; decide) (rc_fd_hi (by unfold rc_fo; decide) (by decide) (by decide))) (rc_fd_hi (by unfold rc_fo; decide) (by decide) (by decide))) (by unfold rc_fd rc_sl; decide)) (rc_fd_hi (by unfold rc_fo; decide) (by decide) (by decide))) (by unfold rc_fd; decide))
theorem rc_ff_L4_14_12 {a b c : Int32} (h_a : rc_uv a < 2 ^ 5) (h_b : rc_uv b < 2 ^ 5) (h_c : rc_uv c < 2 ^ 5) : rc_fd (rc_cRg 0 6 a b c) 14 12 = 6 := by unfold rc_cRg; exact (rc_fo_l (by unfold rc_fo; decide) (rc_fo_l (by unfold rc_fo; decide) (rc_fo_r (by unfold rc_fo; decide) (rc_fo_l (by unfold rc_fo; decide) (rc_fo_l (by unfold rc_fo; decide) (by unfold rc_fd rc_sl; decide) (rc_fd_hi (by unfold rc_fo; decide) (by decide) (by decide))) (rc_fd_hi (by unfold rc_fo; decide) (by decide) (by decide))) (by unfold rc_fd rc_sl; decide)) (rc_fd_lo 5 h_a (by unfold rc_fo; decide) (by decide))) (by unfold rc_fd; decide))
theorem rc_ff_L4_30_30 {a b c : Int32} (h_a : rc_uv a < 2 ^ 5) (h_b : rc_uv b < 2 ^ 5) (h_c : rc_uv c < 2 ^ 5) : rc_fd (rc_cRg 0 6 a b c) 30 30 = 0 := by unfold rc_cRg; exact (rc_fo_l (by unfold rc_fo; decide) (rc_fo_l (by unfold rc_fo; decide) (rc_fo_l (by unfold rc_fo; decide) (rc_fo_l (by unfold rc_fo; decide) (rc_fo_l (by unfold rc_fo; decide) (by unfold rc_fd rc_sl; decide) (rc_fd_lo 5 h_c (by unfold rc_fo; decide) (by decide))) (rc_fd_lo 5 h_b (by unfold rc_fo; decide) (by decide))) (by unfold rc_fd rc_sl; decide)) (rc_fd_lo 5 h_a (by unfold rc_fo; decide) (by decide))) (by unfold rc_fd; decide))
theorem rc_ff_L4_11_7 {a b c : Int32} (h_a : rc_uv a < 2 ^ 5) (h_b : rc_uv b < 2 ^ 5) (h_c : rc_uv c < 2 ^ 5) : rc_fd (rc_cRg 0 6 a b c) 11 7 = a := by unfold rc_cRg; exact (rc_fo_l (by unfold rc_fo; decide) (rc_fo_r (by unfold rc_fo; decide) (rc_fo_l (by unfold rc_fo; decide) (rc_fo_l (by unfold rc_fo; decide) (rc_fo_l (by unfold rc_fo; decide) (by unfold rc_fd rc_sl; decide) (rc_fd_hi (by unfold rc_fo; decide) (by decide) (by decide))) (rc_fd_hi (by unfold rc_fo; decide) (by decide) (by decide))) (by unfold rc_fd rc_sl; decide)) (rc_fd_in 5 h_a (by unfold rc_fo; decide) (by decide))) (by unfold rc_fd; decide))
theorem rc_ff_L4_19_15 {a b c : Int32} (h_a : rc_uv a < 2 ^ 5) (h_b : rc_uv b < 2 ^ 5) (h_c : rc_uv c < 2 ^ 5) : rc_fd (rc_cRg 0 6 a b c) 19 15 = b := by unfold rc_cRg; exact (rc_fo_l (by unfold rc_fo; decide) (rc_fo_l (by unfold rc_fo; decide) (rc_fo_l (by unfold rc_fo; decide) (rc_fo_r (by unfold rc_fo; decide) (rc_fo_l (by unfold rc_fo; decide) (by unfold rc_fd rc_sl; decide) (rc_fd_hi (by unfold rc_fo; decide) (by decide) (by decide))) (rc_fd_in 5 h_b (by unfold rc_fo; decide) (by decide))) (by unfold rc_fd rc_sl; decide)) (rc_fd_lo 5 h_a (by unfold rc_fo; decide) (by decide))) (by unfold rc_fd; decide))
theorem rc_ff_L4_24_20 {a b c : Int32} (h_a : rc_uv a < 2 ^ 5) (h_b : rc_uv b < 2 ^ 5) (h_c : rc_uv c < 2 ^ 5) : rc_fd (rc_cRg 0 6 a b c) 24 20 = c := by unfold rc_cRg; exact (rc_fo_l (by unfold rc_fo; decide) (rc_fo_l (by unfold rc_fo; decide) (rc_fo_l (by unfold rc_fo; decide) (rc_fo_l (by unfold rc_fo; decide) (rc_fo_r (by unfold rc_fo; decide) (by unfold rc_fd rc_sl; decide) (rc_fd_in 5 h_c (by unfold rc_fo; decide) (by decide))) (rc_fd_lo 5 h_b (by unfold rc_fo; decide) (by decide))) (by unfold rc_fd rc_sl; decide)) (rc_fd_lo 5 h_a (by unfold rc_fo; decide) (by decide))) (by unfold rc_fd; decide))
theorem rc_ff_L5_1_0 {a b c : Int32} (h_a : rc_uv a < 2 ^ 5) (h_b : rc_uv b < 2 ^ 5) (h_c : rc_uv c < 2 ^ 5) : rc_fd (rc_cRg 0 7 a b c) 1 0 = 3 := by unfold rc_cRg; exact (rc_fo_r (by unfold rc_fo; decide) (rc_fo_l (by unfold rc_fo; decide) (rc_fo_l (by unfold rc_fo; decide) (rc_fo_l (by unfold rc_fo; decide) (rc_fo_l (by unfold rc_fo; decide) (by unfold rc_fd rc_sl; decide) (rc_fd_hi (by unfold rc_fo; decide) (by decide) (by decide))) (rc_fd_hi (by unfold rc_fo; decide) (by decide) (by decide))) (by unfold rc_fd rc_sl; decide)) (rc_fd_hi (by unfold rc_fo; decide) (by decide) (by decide))) (by unfold rc_fd; decide))
theorem rc_ff_L5_6_0 {a b c : Int32} (h_a : rc_uv a < 2 ^ 5) (h_b : rc_uv b < 2 ^ 5) (h_c : rc_uv c < 2 ^ 5) : rc_fd (rc_cRg 0 7 a b c) 6 0 = 51 := by unfold rc_cRg; exact (rc_fo_r (by unfold rc_fo; decide) (rc_fo_l (by unfold rc_fo; decide) (rc_fo_l (by unfold rc_fo; decide) (rc_fo_l (by unfold rc_fo; decide) (rc_fo_l (by unfold rc_fo; decide) (by unfold rc_fd rc_sl; decide) (rc_fd_hi (by unfold rc_fo; decide) (by decide) (by decide))) (rc_fd_hi (by unfold rc_fo; decide) (by decide) (by decide))) (by unfold rc_fd rc_sl; decide)) (rc_fd_hi (by unfold rc_fo; decide) (by decide) (by decide))) (by unfold rc_fd; decide))
theorem rc_ff_L5_14_12 {a b c : Int32} (h_a : rc_uv a < 2 ^ 5) (h_b : rc_uv b < 2 ^ 5) (h_c : rc_uv c < 2 ^ 5) : rc_fd (rc_cRg 0 7 a b c) 14 12 = 7 := by unfold rc_cRg; exact (rc_fo_l (by unfold rc_fo; decide) (rc_fo_l (by unfold rc_fo; decide) (rc_fo_r (by unfold rc_fo; decide) (rc_fo_l (by unfold rc_fo; decide) (rc_fo_l (by unfold rc_fo; decide) (by unfold rc_fd rc_sl; decide) (rc_fd_hi (by unfold rc_fo; decide) (by decide) (by decide))) (rc_fd_hi (by unfold rc_fo; decide) (by decide) (by decide))) (by unfold rc_fd rc_sl; decide)) (rc_fd_lo 5 h_a (by unfold rc_fo; decide) (by decide))) (by unfold rc_fd; decide))
theorem rc_ff_L5_30_30 {a b c : Int32} (h_a : rc_uv a < 2 ^ 5) (h_b : rc_uv b < 2 ^ 5) (h_c : rc_uv c < 2 ^ 5) : rc_fd (rc_cRg 0 7 a b c) 30 30 = 0 := by unfold rc_cRg; exact (rc_fo_l (by unfold rc_fo; decide) (rc_fo_l (by unfold rc_fo; decide) (rc_fo_l (by unfold rc_fo; decide) (rc_fo_l (by unfold rc_fo; decide) (rc_fo_l (by unfold rc_fo; decide) (by unfold rc_fd rc_sl; decide) (rc_fd_lo 5 h_c (by unfold rc_fo; decide) (by decide))) (rc_fd_lo 5 h_b (by unfold rc_fo; decide) (by decide))) (by unfold rc_fd rc_sl; decide)) (rc_fd_lo 5 h_a (by unfold rc_fo; decide) (by decide))) (by unfold rc_fd; decide))
theorem rc_ff_L5_11_7 {a b c : Int32} (h_a : rc_uv a < 2 ^ 5) (h_b : rc_uv b < 2 ^ 5) (h_c : rc_uv c < 2 ^ 5) : rc_fd (rc_cRg 0 7 a b c) 11 7 = a := by unfold rc_cRg; exact (rc_fo_l (by unfold rc_fo; decide) (rc_fo_r (by unfold rc_fo; decide) (rc_fo_l (by unfold rc_fo; decide) (rc_fo_l (by unfold rc_fo; decide) (rc_fo_l (by unfold rc_fo; decide) (by unfold rc_fd rc_sl; decide) (rc_fd_hi (by unfold rc_fo; decide) (by decide) (by decide))) (rc_fd_hi (by unfold rc_fo; decide) (by decide) (by decide))) (by unfold rc_fd rc_sl; decide)) (rc_fd_in 5 h_a (by unfold rc_fo; decide) (by decide))) (by unfold rc_fd; decide))
theorem rc_ff_L5_19_15 {a b c : Int32} (h_a : rc_uv a < 2 ^ 5) (h_b : rc_uv b < 2 ^ 5) (h_c : rc_uv c < 2 ^ 5) : rc_fd (rc_cRg 0 7 a b c) 19 15 = b := by unfold rc_cRg; exact (rc_fo_l (by unfold rc_fo; decide) (rc_fo_l (by unfold rc_fo; decide) (rc_fo_l (by unfold rc_fo; decide) (rc_fo_r (by unfold rc_fo; decide) (rc_fo_l (by unfold rc_fo; decide) (by unfold rc_fd rc_sl; decide) (rc_fd_hi (by unfold rc_fo; decide) (by decide) (by decide))) (rc_fd_in 5 h_b (by unfold rc_fo; decide) (by decide))) (by unfold rc_fd rc_sl; decide)) (rc_fd_lo 5 h_a (by unfold rc_fo; decide) (by decide))) (by unfold rc_fd; decide))
theorem rc_ff_L5_24_20 {a b c : Int32} (h_a : rc_uv a < 2 ^ 5) (h_b : rc_uv b < 2 ^ 5) (h_c : rc_uv c < 2 ^ 5) : rc_fd (rc_cRg 0 7 a b c) 24 20 = c := by unfold rc_cRg; exact (rc_fo_l (by unfold rc_fo; decide) (rc_fo_l (by unfold rc_fo; decide) (rc_fo_l (by unfold rc_fo; decide) (rc_fo_l (by unfold rc_fo; decide) (rc_fo_r (by unfold rc_fo; decide) (by unfold rc_fd rc_sl; decide) (rc_fd_in 5 h_c (by unfold rc_fo; decide) (by decide))) (rc_fd_lo 5 h_b (by unfold rc_fo; decide) (by decide))) (by unfold rc_fd rc_sl; decide)) (rc_fd_lo 5 h_a (by unfold rc_fo; decide) (by decide))) (by unfold rc_fd; decide))
theorem rc_ff_L6_1_0 {a b c : Int32} (h_a : rc_uv a < 2 ^ 5) (h_b : rc_uv b < 2 ^ 5) (h_c : rc_uv c < 2 ^ 5) : rc_fd (rc_cRg 0 2 a b c) 1 0 = 3 := by unfold rc_cRg; exact (rc_fo_r (by unfold rc_fo; decide) (rc_fo_l (by unfold rc_fo; decide) (rc_fo_l (by unfold rc_fo; decide) (rc_fo_l (by unfold rc_fo; decide) (rc_fo_l (by unfold rc_fo; decide) (by unfold rc_fd rc_sl; decide) (rc_fd_hi (by unfold rc_fo; decide) (by decide) (by decide))) (rc_fd_hi (by unfold rc_fo; decide) (by decide) (by decide))) (by unfold rc_fd rc_sl; decide)) (rc_fd_hi (by unfold rc_fo; decide) (by decide) (by decide))) (by unfold rc_fd; decide))
theorem rc_ff_L6_6_0 {a b c : Int32} (h_a : rc_uv a < 2 ^ 5) (h_b : rc_uv b < 2 ^ 5) (h_c : rc_uv c < 2 ^ 5) : rc_fd (rc_cRg 0 2 a b c) 6 0 = 51 := by unfold rc_cRg; exact (rc_fo_r (by unfold rc_fo; decide) (rc_fo_l (by unfold rc_fo; decide) (rc_fo_l (by unfold rc_fo; decide) (rc_fo_l (by unfold rc_fo; decide) (rc_fo_l (by unfold rc_fo; decide) (by unfold rc_fd rc_sl; decide) (rc_fd_hi (by unfold rc_fo; decide) (by decide) (by decide))) (rc_fd_hi (by unfold rc_fo; decide) (by decide) (by decide))) (by unfold rc_fd rc_sl; decide)) (rc_fd_hi (by unfold rc_fo; decide) (by decide) (by decide))) (by unfold rc_fd; decide))
theorem rc_ff_L6_14_12 {a b c : Int32} (h_a : rc_uv a < 2 ^ 5) (h_b : rc_uv b < 2 ^ 5) (h_c : rc_uv c < 2 ^ 5) : rc_fd (rc_cRg 0 2 a b c) 14 12 = 2 := by unfold rc_cRg; exact (rc_fo_l (by unfold rc_fo; decide) (rc_fo_l (by unfold rc_fo; decide) (rc_fo_r (by unfold rc_fo; decide) (rc_fo_l (by unfold rc_fo; decide) (rc_fo_l (by unfold rc_fo; decide) (by unfold rc_fd rc_sl; decide) (rc_fd_hi (by unfold rc_fo; decide) (by decide) (by decide))) (rc_fd_hi (by unfold rc_fo; decide) (by decide) (by decide))) (by unfold rc_fd rc_sl; decide)) (rc_fd_lo 5 h_a (by unfold rc_fo; decide) (by decide))) (by unfold rc_fd; decide))
theorem rc_ff_L6_30_30 {a b c : Int32} (h_a : rc_uv a < 2 ^ 5) (h_b : rc_uv b < 2 ^ 5) (h_c : rc_uv c < 2 ^ 5) : rc_fd (rc_cRg 0 2 a b c) 30 30 = 0 := by unfold rc_cRg; exact (rc_fo_l (by unfold rc_fo; decide) (rc_fo_l (by unfold rc_fo; decide) (rc_fo_l (by unfold rc_fo; decide) (rc_fo_l (by unfold rc_fo; decide) (rc_fo_l (by unfold rc_fo; decide) (by unfold rc_fd rc_sl; decide) (rc_fd_lo 5 h_c (by unfold rc_fo; decide) (by decide))) (rc_fd_lo 5 h_b (by unfold rc_fo; decide) (by decide))) (by unfold rc_fd rc_sl; decide)) (rc_fd_lo 5 h_a (by unfold rc_fo; decide) (by decide))) (by unfold rc_fd; decide))
theorem rc_ff_L6_11_7 {a b c : Int32} (h_a : rc_uv a < 2 ^ 5) (h_b : rc_uv b < 2 ^ 5) (h_c : rc_uv c < 2 ^ 5) : rc_fd (rc_cRg 0 2 a b c) 11 7 = a := by unfold rc_cRg; exact (rc_fo_l (by unfold rc_fo; decide) (rc_fo_r (by unfold rc_fo; decide) (rc_fo_l (by unfold rc_fo; decide) (rc_fo_l (by unfold rc_fo; decide) (rc_fo_l (by unfold rc_fo; decide) (by unfold rc_fd rc_sl; decide) (rc_fd_hi (by unfold rc_fo; decide) (by decide) (by decide))) (rc_fd_hi (by unfold rc_fo; decide) (by decide) (by decide))) (by unfold rc_fd rc_sl; decide)) (rc_fd_in 5 h_a (by unfold rc_fo; decide) (by decide))) (by unfold rc_fd; decide))
theorem rc_ff_L6_19_15 {a b c : Int32} (h_a : rc_uv a < 2 ^ 5) (h_b : rc_uv b < 2 ^ 5) (h_c : rc_uv c < 2 ^ 5) : rc_fd (rc_cRg 0 2 a b c) 19 15 = b := by unfold rc_cRg; exact (rc_fo_l (by unfold rc_fo; decide) (rc_fo_l (by unfold rc_fo; decide) (rc_fo_l (by unfold rc_fo; decide) (rc_fo_r (by unfold rc_fo; decide) (rc_fo_l (by unfold rc_fo; decide) (by unfold rc_fd rc_sl; decide) (rc_fd_hi (by unfold rc_fo; decide) (by decide) (by decide))) (rc_fd_in 5 h_b (by unfold rc_fo; decide) (by decide))) (by unfold rc_fd rc_sl; decide)) (rc_fd_lo 5 h_a (by unfold rc_fo; decide) (by decide))) (by unfold rc_fd; decide))
theorem rc_ff_L6_24_20 {a b c : Int32} (h_a : rc_uv a < 2 ^ 5) (h_b : rc_uv b < 2 ^ 5) (h_c : rc_uv c < 2 ^ 5) : rc_fd (rc_cRg 0 2 a b c) 24 20 = c := by unfold rc_cRg; exact (rc_fo_l (by unfold rc_fo; decide) (rc_fo_l (by unfold rc_fo; decide) (rc_fo_l (by unfold rc_fo; decide) (rc_fo_l (by unfold rc_fo; decide) (rc_fo_r (by unfold rc_fo; decide) (by unfold rc_fd rc_sl; decide) (rc_fd_in 5 h_c (by unfold rc_fo; decide) (by decide))) (rc_fd_lo 5 h_b (by unfold rc_fo; decide) (by decide))) (by unfold rc_fd rc_sl; decide)) (rc_fd_lo 5 h_a (by unfold rc_fo; decide) (by decide))) (by unfold rc_fd; decide))
theorem rc_ff_L7_1_0 {a b c : Int32} (h_a : rc_uv a < 2 ^ 5) (h_b : rc_uv b < 2 ^ 5) : rc_fd (rc_cIm 19 0 a b c) 1 0 = 3 := by unfold rc_cIm; exact (rc_fo_r (by unfold rc_fo; decide) (rc_fo_l (by unfold rc_fo; decide) (rc_fo_l (by unfold rc_fo; decide) (rc_fo_l (by unfold rc_fo; decide) (rc_fd_hi (by unfold rc_fo; decide) (by decide) (by decide)) (rc_fd_hi (by unfold rc_fo; decide) (by decide) (by decide))) (by unfold rc_fd rc_sl; decide)) (rc_fd_hi (by unfold rc_fo; decide) (by decide) (by decide))) (by unfold rc_fd; decide))
theorem rc_ff_L7_6_0 {a b c : Int32} (h_a : rc_uv a < 2 ^ 5) (h_b : rc_uv b < 2 ^ 5) : rc_fd (rc_cIm 19 0 a b c) 6 0 = 19 := by unfold rc_cIm; exact (rc_fo_r (by unfold rc_fo; decide) (rc_fo_l (by unfold rc_fo; decide) (rc_fo_l (by unfold rc_fo; decide) (rc_fo_l (by unfold rc_fo; decide) (rc_fd_hi (by unfold rc_fo; decide) (by decide) (by decide)) (rc_fd_hi (by unfold rc_fo; decide) (by decide) (by decide))) (by unfold rc_fd rc_sl; decide)) (rc_fd_hi (by unfold rc_fo; decide) (by decide) (by decide))) (by unfold rc_fd; decide))
theorem rc_ff_L7_14_12 {a b c : Int32} (h_a : rc_uv a < 2 ^ 5) (h_b : rc_uv b < 2 ^ 5) : rc_fd (rc_cIm 19 0 a b c) 14 12 = 0 := by unfold rc_cIm; exact (rc_fo_l (by unfold rc_fo; decide) (rc_fo_l (by unfold rc_fo; decide) (rc_fo_l (by unfold rc_fo; decide) (rc_fo_l (by unfold rc_fo; decide) (rc_fd_hi (by unfold rc_fo; decide) (by decide) (by decide)) (rc_fd_hi (by unfold rc_fo; decide) (by decide) (by decide))) (by unfold rc_fd rc_sl; decide)) (rc_fd_lo 5 h_a (by unfold rc_fo; decide) (by decide))) (by unfold rc_fd; decide))
theorem rc_ff_L7_11_7 {a b c : Int32} (h_a : rc_uv a < 2 ^ 5) (h_b : rc_uv b < 2 ^ 5) : rc_fd (rc_cIm 19 0 a b c) 11 7 = a := by unfold rc_cIm; exact (rc_fo_l (by unfold rc_fo; decide) (rc_fo_r (by unfold rc_fo; decide) (rc_fo_l (by unfold rc_fo; decide) (rc_fo_l (by unfold rc_fo; decide) (rc_fd_hi (by unfold rc_fo; decide) (by decide) (by decide)) (rc_fd_hi (by unfold rc_fo; decide) (by decide) (by decide))) (by unfold rc_fd rc_sl; decide)) (rc_fd_in 5 h_a (by unfold rc_fo; decide) (by decide))) (by unfold rc_fd; decide))
theorem rc_ff_L7_19_15 {a b c : Int32} (h_a : rc_uv a < 2 ^ 5) (h_b : rc_uv b < 2 ^ 5) : rc_fd (rc_cIm 19 0 a b c) 19 15 = b := by unfold rc_cIm; exact (rc_fo_l (by unfold rc_fo; decide) (rc_fo_l (by unfold rc_fo; decide) (rc_fo_l (by unfold rc_fo; decide) (rc_fo_r (by unfold rc_fo; decide) (rc_fd_hi (by unfold rc_fo; decide) (by decide) (by decide)) (rc_fd_in 5 h_b (by unfold rc_fo; decide) (by decide))) (by unfold rc_fd rc_sl; decide)) (rc_fd_lo 5 h_a (by unfold rc_fo; decide) (by decide))) (by unfold rc_fd; decide))
theorem rc_ff_L8_1_0 {a b c : Int32} (h_a : rc_uv a < 2 ^ 5) (h_b : rc_uv b < 2 ^ 5) : rc_fd (rc_cIm 19 7 a b c) 1 0 = 3 := by unfold rc_cIm; exact (rc_fo_r (by unfold rc_fo; decide) (rc_fo_l (by unfold rc_fo; decide) (rc_fo_l (by unfold rc_fo; decide) (rc_fo_l (by unfold rc_fo; decide) (rc_fd_hi (by unfold rc_fo; decide) (by decide) (by decide)) (rc_fd_hi (by unfold rc_fo; decide) (by decide) (by decide))) (by unfold rc_fd rc_sl; decide)) (rc_fd_hi (by unfold rc_fo; decide) (by decide) (by decide))) (by unfold rc_fd; decide))
theorem rc_ff_L8_6_0 {a b c : Int32} (h_a : rc_uv a < 2 ^ 5) (h_b : rc_uv b < 2 ^ 5) : rc_fd (rc_cIm 19 7 a b c) 6 0 = 19 := by unfold rc_cIm; exact (rc_fo_r (by unfold rc_fo; decide) (rc_fo_l (by unfold rc_fo; decide) (rc_fo_l (by unfold rc_fo; decide) (rc_fo_l (by unfold rc_fo; decide) (rc_fd_hi (by unfold rc_fo; decide) (by decide) (by decide)) (rc_fd_hi (by unfold rc_fo; decide) (by decide) (by decide))) (by unfold rc_fd rc_sl; decide)) (rc_fd_hi (by unfold rc_fo; decide) (by decide) (by decide))) (by unfold rc_fd; decide))
theorem rc_ff_L8_14_12 {a b c : Int32} (h_a : rc_uv a < 2 ^ 5) (h_b : rc_uv b < 2 ^ 5) : rc_fd (rc_cIm 19 7 a b c) 14 12 = 7 := by unfold rc_cIm; exact (rc_fo_l (by unfold rc_fo; decide) (rc_fo_l (by unfold rc_fo; decide) (rc_fo_r (by unfold rc_fo; decide) (rc_fo_l (by unfold rc_fo; decide) (rc_fd_hi (by unfold rc_fo; decide) (by decide) (by decide)) (rc_fd_hi (by unfold rc_fo; decide) (by decide) (by decide))) (by unfold rc_fd rc_sl; decide)) (rc_fd_lo 5 h_a (by unfold rc_fo; decide) (by decide))) (by unfold rc_fd; decide))
theorem rc_ff_L8_11_7 {a b c : Int32} (h_a : rc_uv a < 2 ^ 5) (h_b : rc_uv b < 2 ^ 5) : rc_fd (rc_cIm 19 7 a b c) 11 7 = a := by unfold rc_cIm; exact (rc_fo_l (by unfold rc_fo; decide) (rc_fo_r (by unfold rc_fo; decide) (rc_fo_l (by unfold rc_fo; decide) (rc_fo_l (by unfold rc_fo; decide) (rc_fd_hi (by unfold rc_fo; decide) (by decide) (by decide)) (rc_fd_hi (by unfold rc_fo; decide) (by decide) (by decide))) (by unfold rc_fd rc_sl; decide)) (rc_fd_in 5 h_a (by unfold rc_fo; decide) (by decide))) (by unfold rc_fd; decide))
theorem rc_ff_L8_19_15 {a b c : Int32} (h_a : rc_uv a < 2 ^ 5) (h_b : rc_uv b < 2 ^ 5) : rc_fd (rc_cIm 19 7 a b c) 19 15 = b := by unfold rc_cIm; exact (rc_fo_l (by unfold rc_fo; decide) (rc_fo_l (by unfold rc_fo; decide) (rc_fo_l (by unfold rc_fo; decide) (rc_fo_r (by unfold rc_fo; decide) (rc_fd_hi (by unfold rc_fo; decide) (by decide) (by decide)) (rc_fd_in 5 h_b (by unfold rc_fo; decide) (by decide))) (by unfold rc_fd rc_sl; decide)) (rc_fd_lo 5 h_a (by unfold rc_fo; decide) (by decide))) (by unfold rc_fd; decide))
theorem rc_ff_L9_1_0 {a b c : Int32} (h_a : rc_uv a < 2 ^ 5) (h_b : rc_uv b < 2 ^ 5) : rc_fd (rc_cIm 19 4 a b c) 1 0 = 3 := by unfold rc_cIm; exact (rc_fo_r (by unfold rc_fo; decide) (rc_fo_l (by unfold rc_fo; decide) (rc_fo_l (by unfold rc_fo; decide) (rc_fo_l (by unfold rc_fo; decide) (rc_fd_hi (by unfold rc_fo; decide) (by decide) (by decide)) (rc_fd_hi (by unfold rc_fo; decide) (by decide) (by decide))) (by unfold rc_fd rc_sl; decide)) (rc_fd_hi (by unfold rc_fo; decide) (by decide) (by decide))) (by unfold rc_fd; decide))
theorem rc_ff_L9_6_0 {a b c : Int32} (h_a : rc_uv a < 2 ^ 5) (h_b : rc_uv b < 2 ^ 5) : rc_fd (rc_cIm 19 4 a b c) 6 0 = 19 := by unfold rc_cIm; exact (rc_fo_r (by unfold rc_fo; decide) (rc_fo_l (by unfold rc_fo; decide) (rc_fo_l (by unfold rc_fo; decide) (rc_fo_l (by unfold rc_fo; decide) (rc_fd_hi (by unfold rc_fo; decide) (by decide) (by decide)) (rc_fd_hi (by unfold rc_fo; decide) (by decide) (by decide))) (by unfold rc_fd rc_sl; decide)) (rc_fd_hi (by unfold rc_fo; decide) (by decide) (by decide))) (by unfold rc_fd; decide))
theorem rc_ff_L9_14_12 {a b c : Int32} (h_a : rc_uv a < 2 ^ 5) (h_b : rc_uv b < 2 ^ 5) : rc_fd (rc_cIm 19 4 a b c) 14 12 = 4 := by unfold rc_cIm; exact (rc_fo_l (by unfold rc_fo; decide) (rc_fo_l (by unfold rc_fo; decide) (rc_fo_r (by unfold rc_fo; decide) (rc_fo_l (by unfold rc_fo; decide) (rc_fd_hi (by unfold rc_fo; decide) (by decide) (by decide)) (rc_fd_hi (by unfold rc_fo; decide) (by decide) (by decide))) (by unfold rc_fd rc_sl; decide)) (rc_fd_lo 5 h_a (by unfold rc_fo; decide) (by decide))) (by unfold rc_fd; decide))
theorem rc_ff_L9_11_7 {a b c : Int32} (h_a : rc_uv a < 2 ^ 5) (h_b : rc_uv b < 2 ^ 5) : rc_fd (rc_cIm 19 4 a b c) 11 7 = a := by unfold rc_cIm; exact (rc_fo_l (by unfold rc_fo; decide) (rc_fo_r (by unfold rc_fo; decide) (rc_fo_l (by unfold rc_fo; decide) (rc_fo_l (by unfold rc_fo; decide) (rc_fd_hi (by unfold rc_fo; decide) (by decide) (by decide)) (rc_fd_hi (by unfold rc_fo; decide) (by decide) (by decide))) (by unfold rc_fd rc_sl; decide)) (rc_fd_in 5 h_a (by unfold rc_fo; decide) (by decide))) (by unfold rc_fd; decide))
theorem rc_ff_L9_19_15 {a b c : Int32} (h_a : rc_uv a < 2 ^ 5) (h_b : rc_uv b < 2 ^ 5) : rc_fd (rc_cIm 19 4 a b c) 19 15 = b := by unfold rc_cIm; exact (rc_fo_l (by unfold rc_fo; decide) (rc_fo_l (by unfold rc_fo; decide) (rc_fo_l (by unfold rc_fo; decide) (rc_fo_r (by unfold rc_fo; decide) (rc_fd_hi (by unfold rc_fo; decide) (by decide) (by decide)) (rc_fd_in 5 h_b (by unfold rc_fo; decide) (by decide))) (by unfold rc_fd rc_sl; decide)) (rc_fd_lo 5 h_a (by unfold rc_fo; decide) (by decide))) (by unfold rc_fd; decide))
theorem rc_ff_L13_1_0 {a b c : Int32} (h_a : rc_uv a < 2 ^ 5) (h_b : rc_uv b < 2 ^ 5) : rc_fd (rc_cIm 3 2 a b c) 1 0 = 3 := by unfold rc_cIm; exact (rc_fo_r (by unfold rc_fo; decide) (rc_fo_l (by unfold rc_fo; decide) (rc_fo_l (by unfold rc_fo; decide) (rc_fo_l (by unfold rc_fo; decide) (rc_fd_hi (by unfold rc_fo; decide) (by decide) (by decide)) (rc_fd_hi (by unfold rc_fo; decide) (by decide) (by decide))) (by unfold rc_fd rc_sl; decide)) (rc_fd_hi (by unfold rc_fo; decide) (by decide) (by decide))) (by unfold rc_fd; decide))
theorem rc_ff_L13_6_0 {a b c : Int32} (h_a : rc_uv a < 2 ^ 5) (h_b : rc_uv b < 2 ^ 5) : rc_fd (rc_cIm 3 2 a b c) 6 0 = 3 := by unfold rc_cIm; exact (rc_fo_r (by unfold rc_fo; decide) (rc_fo_l (by unfold rc_fo; decide) (rc_fo_l (by unfold rc_fo; decide) (rc_fo_l (by unfold rc_fo; decide) (rc_fd_hi (by unfold rc_fo; decide) (by decide) (by decide)) (rc_fd_hi (by unfold rc_fo; decide) (by decide) (by decide))) (by unfold rc_fd rc_sl; decide)) (rc_fd_hi (by unfold rc_fo; decide) (by decide) (by decide))) (by unfold rc_fd; decide))
theorem rc_ff_L13_14_12 {a b c : Int32} (h_a : rc_uv a < 2 ^ 5) (h_b : rc_uv b < 2 ^ 5) : rc_fd (rc_cIm 3 2 a b c) 14 12 = 2 := by unfold rc_cIm; exact (rc_fo_l (by unfold rc_fo; decide) (rc_fo_l (by unfold rc_fo; decide) (rc_fo_r (by unfold rc_fo; decide) (rc_fo_l (by unfold rc_fo; decide) (rc_fd_hi (by unfold rc_fo; decide) (by decide) (by decide)) (rc_fd_hi (by unfold rc_fo; decide) (by decide) (by decide))) (by unfold rc_fd rc_sl; decide)) (rc_fd_lo 5 h_a (by unfold rc_fo; decide) (by decide))) (by unfold rc_fd; decide))
theorem rc_ff_L13_11_7 {a b c : Int32} (h_a : rc_uv a < 2 ^ 5) (h_b : rc_uv b < 2 ^ 5) : rc_fd (rc_cIm 3 2 a b c) 11 7 = a := by unfold rc_cIm; exact (rc_fo_l (by unfold rc_fo; decide) (rc_fo_r (by unfold rc_fo; decide) (rc_fo_l (by unfold rc_fo; decide) (rc_fo_l (by unfold rc_fo; decide) (rc_fd_hi (by unfold rc_fo; decide) (by decide) (by decide)) (rc_fd_hi (by unfold rc_fo; decide) (by decide) (by decide))) (by unfold rc_fd rc_sl; decide)) (rc_fd_in 5 h_a (by unfold rc_fo; decide) (by decide))) (by unfold rc_fd; decide))
theorem rc_ff_L13_19_15 {a b c : Int32} (h_a : rc_uv a < 2 ^ 5) (h_b : rc_uv b < 2 ^ 5) : rc_fd (rc_cIm 3 2 a b c) 19 15 = b := by unfold rc_cIm; exact (rc_fo_l (by unfold rc_fo; decide) (rc_fo_l (by unfold rc_fo; decide) (rc_fo_l (by unfold rc_fo; decide) (rc_fo_r (by unfold rc_fo; decide) (rc_fd_hi (by unfold rc_fo; decide) (by decide) (by decide)) (rc_fd_in 5 h_b (by unfold rc_fo; decide) (by decide))) (by unfold rc_fd rc_sl; decide)) (rc_fd_lo 5 h_a (by unfold rc_fo; decide) (by decide))) (by unfold rc_fd; decide))
theorem rc_ff_L16_1_0 {a b c : Int32} (h_a : rc_uv a < 2 ^ 5) (h_b : rc_uv b < 2 ^ 5) : rc_fd (rc_cIm 103 0 a b c) 1 0 = 3 := by unfold rc_cIm; exact (rc_fo_r (by unfold rc_fo; decide) (rc_fo_l (by unfold rc_fo; decide) (rc_fo_l (by unfold rc_fo; decide) (rc_fo_l (by unfold rc_fo; decide) (rc_fd_hi (by unfold rc_fo; decide) (by decide) (by decide)) (rc_fd_hi (by unfold rc_fo; decide) (by decide) (by decide))) (by unfold rc_fd rc_sl; decide)) (rc_fd_hi (by unfold rc_fo; decide) (by decide) (by decide))) (by unfold rc_fd; decide))
theorem rc_ff_L16_6_0 {a b c : Int32} (h_a : rc_uv a < 2 ^ 5) (h_b : rc_uv b < 2 ^ 5) : rc_fd (rc_cIm 103 0 a b c) 6 0 = 103 := by unfold rc_cIm; exact (rc_fo_r (by unfold rc_fo; decide) (rc_fo_l (by unfold rc_fo; decide) (rc_fo_l (by unfold rc_fo; decide) (rc_fo_l (by unfold rc_fo; decide) (rc_fd_hi (by unfold rc_fo; decide) (by decide) (by decide)) (rc_fd_hi (by unfold rc_fo; decide) (by decide) (by decide))) (by unfold rc_fd rc_sl; decide)) (rc_fd_hi (by unfold rc_fo; decide) (by decide) (by decide))) (by unfold rc_fd; decide))
theorem rc_ff_L16_14_12 {a b c : Int32} (h_a : rc_uv a < 2 ^ 5) (h_b : rc_uv b < 2 ^ 5) : rc_fd (rc_cIm 103 0 a b c) 14 12 = 0 := by unfold rc_cIm; exact (rc_fo_l (by unfold rc_fo; decide) (rc_fo_l (by unfold rc_fo; decide) (rc_fo_l (by unfold rc_fo; decide) (rc_fo_l (by unfold rc_fo; decide) (rc_fd_hi (by unfold rc_fo; decide) (by decide) (by decide)) (rc_fd_hi (by unfold rc_fo; decide) (by decide) (by decide))) (by unfold rc_fd rc_sl; decide)) (rc_fd_lo 5 h_a (by unfold rc_fo; decide) (by decide))) (by unfold rc_fd; decide))
theorem rc_ff_L16_11_7 {a b c : Int32} (h_a : rc_uv a < 2 ^ 5) (h_b : rc_uv b < 2 ^ 5) : rc_fd (rc_cIm 103 0 a b c) 11 7 = a := by unfold rc_cIm; exact (rc_fo_l (by unfold rc_fo; decide) (rc_fo_r (by unfold rc_fo; decide) (rc_fo_l (by unfold rc_fo; decide) (rc_fo_l (by unfold rc_fo; decide) (rc_fd_hi (by unfold rc_fo; decide) (by decide) (by decide)) (rc_fd_hi (by unfold rc_fo; decide) (by decide) (by decide))) (by unfold rc_fd rc_sl; decide)) (rc_fd_in 5 h_a (by unfold rc_fo; decide) (by decide))) (by unfold rc_fd; decide))
theorem rc_ff_L16_19_15 {a b c : Int32} (h_a : rc_uv a < 2 ^ 5) (h_b : rc_uv b < 2 ^ 5) : rc_fd (rc_cIm 103 0 a b c) 19 15 = b := by unfold rc_cIm; exact (rc_fo_l (by unfold rc_fo; decide) (rc_fo_l (by unfold rc_fo; decide) (rc_fo_l (by unfold rc_fo; decide) (rc_fo_r (by unfold rc_fo; decide) (rc_fd_hi (by unfold rc_fo; decide) (by decide) (by decide)) (rc_fd_in 5 h_b (by unfold rc_fo; decide) (by decide))) (by unfold rc_fd rc_sl; decide)) (rc_fd_lo 5 h_a (by unfold rc_fo; decide) (by decide))) (by unfold rc_fd; decide))
theorem rc_ff_L10_1_0 {a b c : Int32} (h_a : rc_uv a < 2 ^ 5) (h_b : rc_uv b < 2 ^ 5) (h_c : rc_uv c < 2 ^ 5) : rc_fd (rc_cSh 0 1 a b c) 1 0 = 3 := by unfold rc_cSh; exact (rc_fo_r (by unfold rc_fo; decide) (rc_fo_l (by unfold rc_fo; decide) (rc_fo_l (by unfold rc_fo; decide) (rc_fo_l (by unfold rc_fo; decide) (rc_fo_l (by unfold rc_fo; decide) (by unfold rc_fd rc_sl; decide) (rc_fd_hi (by unfold rc_fo; decide) (by decide) (by decide))) (rc_fd_hi (by unfold rc_fo; decide) (by decide) (by decide))) (by unfold rc_fd rc_sl; decide)) (rc_fd_hi (by unfold rc_fo; decide) (by decide) (by decide))) (by unfold rc_fd; decide))
theorem rc_ff_L10_6_0 {a b c : Int32} (h_a : rc_uv a < 2 ^ 5) (h_b : rc_uv b < 2 ^ 5) (h_c : rc_uv c < 2 ^ 5) : rc_fd (rc_cSh 0 1 a b c) 6 0 = 19 := by unfold rc_cSh; exact (rc_fo_r (by unfold rc_fo; decide) (rc_fo_l (by unfold rc_fo; decide) (rc_fo_l (by unfold rc_fo; decide) (rc_fo_l (by unfold rc_fo; decide) (rc_fo_l (by unfold rc_fo; decide) (by unfold rc_fd rc_sl; decide) (rc_fd_hi (by unfold rc_fo; decide) (by decide) (by decide))) (rc_fd_hi (by unfold rc_fo; decide) (by decide) (by decide))) (by unfold rc_fd rc_sl; decide)) (rc_fd_hi (by unfold rc_fo; decide) (by decide) (by decide))) (by unfold rc_fd; decide))
theorem rc_ff_L10_14_12 {a b c : Int32} (h_a : rc_uv a < 2 ^ 5) (h_b : rc_uv b < 2 ^ 5) (h_c : rc_uv c < 2 ^ 5) : rc_fd (rc_cSh 0 1 a b c) 14 12 = 1 := by unfold rc_cSh; exact (rc_fo_l (by unfold rc_fo; decide) (rc_fo_l (by unfold rc_fo; decide) (rc_fo_r (by unfold rc_fo; decide) (rc_fo_l (by unfold rc_fo; decide) (rc_fo_l (by unfold rc_fo; decide) (by unfold rc_fd rc_sl; decide) (rc_fd_hi (by unfold rc_fo; decide) (by decide) (by decide))) (rc_fd_hi (by unfold rc_fo; decide) (by decide) (by decide))) (by unfold rc_fd rc_sl; decide)) (rc_fd_lo 5 h_a (by unfold rc_fo; decide) (by decide))) (by unfold rc_fd; decide))
theorem rc_ff_L10_30_30 {a b c : Int32} (h_a : rc_uv a < 2 ^ 5) (h_b : rc_uv b < 2 ^ 5) (h_c : rc_uv c < 2 ^ 5) : rc_fd (rc_cSh 0 1 a b c) 30 30 = 0 := by unfold rc_cSh; exact (rc_fo_l (by unfold rc_fo; decide) (rc_fo_l (by unfold rc_fo; decide) (rc_fo_l (by unfold rc_fo; decide) (rc_fo_l (by unfold rc_fo; decide) (rc_fo_l (by unfold rc_fo; decide) (by unfold rc_fd rc_sl; decide) (rc_fd_lo 5 h_c (by unfold rc_fo; decide) (by decide))) (rc_fd_lo 5 h_b (by unfold rc_fo; decide) (by decide))) (by unfold rc_fd rc_sl; decide)) (rc_fd_lo 5 h_a (by unfold rc_fo; decide) (by decide))) (by unfold rc_fd; decide))
theorem rc_ff_L10_11_7 {a b c : Int32} (h_a : rc_uv a < 2 ^ 5) (h_b : rc_uv b < 2 ^ 5) (h_c : rc_uv c < 2 ^ 5) : rc_fd (rc_cSh 0 1 a b c) 11 7 = a := by unfold rc_cSh; exact (rc_fo_l (by unfold rc_fo; decide) (rc_fo_r (by unfold rc_fo; decide) (rc_fo_l (by unfold rc_fo; decide) (rc_fo_l (by unfold rc_fo; decide) (rc_fo_l (by unfold rc_fo; decide) (by unfold rc_fd rc_sl; decide) (rc_fd_hi (by unfold rc_fo; decide) (by decide) (by decide))) (rc_fd_hi (by unfold rc_fo; decide) (by decide) (by decide))) (by unfold rc_fd rc_sl; decide)) (rc_fd_in 5 h_a (by unfold rc_fo; decide) (by decide))) (by unfold rc_fd; decide))
theorem rc_ff_L10_19_15 {a b c : Int32} (h_a : rc_uv a < 2 ^ 5) (h_b : rc_uv b < 2 ^ 5) (h_c : rc_uv c < 2 ^ 5) : rc_fd (rc_cSh 0 1 a b c) 19 15 = b := by unfold rc_cSh; exact (rc_fo_l (by unfold rc_fo; decide) (rc_fo_l (by unfold rc_fo; decide) (rc_fo_l (by unfold rc_fo; decide) (rc_fo_r (by unfold rc_fo; decide) (rc_fo_l (by unfold rc_fo; decide) (by unfold rc_fd rc_sl; decide) (rc_fd_hi (by unfold rc_fo; decide) (by decide) (by decide))) (rc_fd_in 5 h_b (by unfold rc_fo; decide) (by decide))) (by unfold rc_fd rc_sl; decide)) (rc_fd_lo 5 h_a (by unfold rc_fo; decide) (by decide))) (by unfold rc_fd; decide))
theorem rc_ff_L10_24_20 {a b c : Int32} (h_a : rc_uv a < 2 ^ 5) (h_b : rc_uv b < 2 ^ 5) (h_c : rc_uv c < 2 ^ 5) : rc_fd (rc_cSh 0 1 a b c) 24 20 = c := by unfold rc_cSh; exact (rc_fo_l (by unfold rc_fo; decide) (rc_fo_l (by unfold rc_fo; decide) (rc_fo_l (by unfold rc_fo; decide) (rc_fo_l (by unfold rc_fo; decide) (rc_fo_r (by unfold rc_fo; decide) (by unfold rc_fd rc_sl; decide) (rc_fd_in 5 h_c (by unfold rc_fo; decide) (by decide))) (rc_fd_lo 5 h_b (by unfold rc_fo; decide) (by decide))) (by unfold rc_fd rc_sl; decide)) (rc_fd_lo 5 h_a (by unfold rc_fo; decide) (by decide))) (by unfold rc_fd; decide))
theorem rc_ff_L11_1_0 {a b c : Int32} (h_a : rc_uv a < 2 ^ 5) (h_b : rc_uv b < 2 ^ 5) (h_c : rc_uv c < 2 ^ 5) : rc_fd (rc_cSh 0 5 a b c) 1 0 = 3 := by unfold rc_cSh; exact (rc_fo_r (by unfold rc_fo; decide) (rc_fo_l (by unfold rc_fo; decide) (rc_fo_l (by unfold rc_fo; decide) (rc_fo_l (by unfold rc_fo; decide) (rc_fo_l (by unfold rc_fo; decide) (by unfold rc_fd rc_sl; decide) (rc_fd_hi (by unfold rc_fo; decide) (by decide) (by decide))) (rc_fd_hi (by unfold rc_fo; decide) (by decide) (by decide))) (by unfold rc_fd rc_sl; decide)) (rc_fd_hi (by unfold rc_fo; decide) (by decide) (by decide))) (by unfold rc_fd; decide))
theorem rc_ff_L11_6_0 {a b c : Int32} (h_a : rc_uv a < 2 ^ 5) (h_b : rc_uv b < 2 ^ 5) (h_c : rc_uv c < 2 ^ 5) : rc_fd (rc_cSh 0 5 a b c) 6 0 = 19 := by unfold rc_cSh; exact (rc_fo_r (by unfold rc_fo; decide) (rc_fo_l (by unfold rc_fo; decide) (rc_fo_l (by unfold rc_fo; decide) (rc_fo_l (by unfold rc_fo; decide) (rc_fo_l (by unfold rc_fo; decide) (by unfold rc_fd rc_sl; decide) (rc_fd_hi (by unfold rc_fo; decide) (by decide) (by decide))) (rc_fd_hi (by unfold rc_fo; decide) (by decide) (by decide))) (by unfold rc_fd rc_sl; decide)) (rc_fd_hi (by unfold rc_fo; decide) (by decide) (by decide))) (by unfold rc_fd; decide))
theorem rc_ff_L11_14_12 {a b c : Int32} (h_a : rc_uv a < 2 ^ 5) (h_b : rc_uv b < 2 ^ 5) (h_c : rc_uv c < 2 ^ 5) : rc_fd (rc_cSh 0 5 a b c) 14 12 = 5 := by unfold rc_cSh; exact (rc_fo_l (by unfold rc_fo; decide) (rc_fo_l (by unfold rc_fo; decide) (rc_fo_r (by unfold rc_fo; decide) (rc_fo_l (by unfold rc_fo; decide) (rc_fo_l (by unfold rc_fo; decide) (by unfold rc_fd rc_sl; decide) (rc_fd_hi (by unfold rc_fo; decide) (by decide) (by decide))) (rc_fd_hi (by unfold rc_fo; decide) (by decide) (by decide))) (by unfold rc_fd rc_sl; decide)) (rc_fd_lo 5 h_a (by unfold rc_fo; decide) (by decide))) (by unfold rc_fd; decide))
theorem rc_ff_L11_30_30 {a b c : Int32} (h_a : rc_uv a < 2 ^ 5) (h_b : rc_uv b < 2 ^ 5) (h_c : rc_uv c < 2 ^ 5) : rc_fd (rc_cSh 0 5 a b c) 30 30 = 0 := by unfold rc_cSh; exact (rc_fo_l (by unfold rc_fo; decide) (rc_fo_l (by unfold rc_fo; decide) (rc_fo_l (by unfold rc_fo; decide) (rc_fo_l (by unfold rc_fo; decide) (rc_fo_l (by unfold rc_fo; decide) (by unfold rc_fd rc_sl; decide) (rc_fd_lo 5 h_c (by unfold rc_fo; decide) (by decide))) (rc_fd_lo 5 h_b (by unfold rc_fo; decide) (by decide))) (by unfold rc_fd rc_sl; decide)) (rc_fd_lo 5 h_a (by unfold rc_fo; decide) (by decide))) (by unfold rc_fd; decide))
theorem rc_ff_L11_11_7 {a b c : Int32} (h_a : rc_uv a < 2 ^ 5) (h_b : rc_uv b < 2 ^ 5) (h_c : rc_uv c < 2 ^ 5) : rc_fd (rc_cSh 0 5 a b c) 11 7 = a := by unfold rc_cSh; exact (rc_fo_l (by unfold rc_fo; decide) (rc_fo_r (by unfold rc_fo; decide) (rc_fo_l (by unfold rc_fo; decide) (rc_fo_l (by unfold rc_fo; decide) (rc_fo_l (by unfold rc_fo; decide) (by unfold rc_fd rc_sl; decide) (rc_fd_hi (by unfold rc_fo; decide) (by decide) (by decide))) (rc_fd_hi (by unfold rc_fo; decide) (by decide) (by decide))) (by unfold rc_fd rc_sl; decide)) (rc_fd_in 5 h_a (by unfold rc_fo; decide) (by decide))) (by unfold rc_fd; decide))
theorem rc_ff_L11_19_15 {a b c : Int32} (h_a : rc_uv a < 2 ^ 5) (h_b : rc_uv b < 2 ^ 5) (h_c : rc_uv c < 2 ^ 5) : rc_fd (rc_cSh 0 5 a b c) 19 15 = b := by unfold rc_cSh; exact (rc_fo_l (by unfold rc_fo; decide) (rc_fo_l (by unfold rc_fo; decide) (rc_fo_l (by unfold rc_fo; decide) (rc_fo_r (by unfold rc_fo; decide) (rc_fo_l (by unfold rc_fo; decide) (by unfold rc_fd rc_sl; decide) (rc_fd_hi (by unfold rc_fo; decide) (by decide) (by decide))) (rc_fd_in 5 h_b (by unfold rc_fo; decide) (by decide))) (by unfold rc_fd rc_sl; decide)) (rc_fd_lo 5 h_a (by unfold rc_fo; decide) (by decide))) (by unfold rc_fd; decide))
theorem rc_ff_L11_24_20 {a b c : Int32} (h_a : rc_uv a < 2 ^ 5) (h_b : rc_uv b < 2 ^ 5) (h_c : rc_uv c < 2 ^ 5) : rc_fd (rc_cSh 0 5 a b c) 24 20 = c := by unfold rc_cSh; exact (rc_fo_l (by unfold rc_fo; decide) (rc_fo_l (by unfold rc_fo; decide) (rc_fo_l (by unfold rc_fo; decide) (rc_fo_l (by unfold rc_fo; decide) (rc_fo_r (by unfold rc_fo; decide) (by unfold rc_fd rc_sl; decide) (rc_fd_in 5 h_c (by unfold rc_fo; decide) (by decide))) (rc_fd_lo 5 h_b (by unfold rc_fo; decide) (by decide))) (by unfold rc_fd rc_sl; decide)) (rc_fd_lo 5 h_a (by unfold rc_fo; decide) (by decide))) (by unfold rc_fd; decide))
theorem rc_ff_L12_1_0 {a b c : Int32} (h_a : rc_uv a < 2 ^ 5) (h_b : rc_uv b < 2 ^ 5) (h_c : rc_uv c < 2 ^ 5) : rc_fd (rc_cSh 32 5 a b c) 1 0 = 3 := by unfold rc_cSh; exact (rc_fo_r (by unfold rc_fo; decide) (rc_fo_l (by unfold rc_fo; decide) (rc_fo_l (by unfold rc_fo; decide) (rc_fo_l (by unfold rc_fo; decide) (rc_fo_l (by unfold rc_fo; decide) (by unfold rc_fd rc_sl; decide) (rc_fd_hi (by unfold rc_fo; decide) (by decide) (by decide))) (rc_fd_hi (by unfold rc_fo; decide) (by decide) (by decide))) (by unfold rc_fd rc_sl; decide)) (rc_fd_hi (by unfold rc_fo; decide) (by decide) (by decide))) (by unfold rc_fd; decide))
theorem rc_ff_L12_6_0 {a b c : Int32} (h_a : rc_uv a < 2 ^ 5) (h_b : rc_uv b < 2 ^ 5) (h_c : rc_uv c < 2 ^ 5) : rc_fd (rc_cSh 32 5 a b c) 6 0 = 19 := by unfold rc_cSh; exact (rc_fo_r (by unfold rc_fo; decide) (rc_fo_l (by unfold rc_fo; decide) (rc_fo_l (by unfold rc_fo; decide) (rc_fo_l (by unfold rc_fo; decide) (rc_fo_l (by unfold rc_fo; decide) (by unfold rc_fd rc_sl; decide) (rc_fd_hi (by unfold rc_fo; decide) (by decide) (by decide))) (rc_fd_hi (by unfold rc_fo; decide) (by decide) (by decide))) (by unfold rc_fd rc_sl; decide)) (rc_fd_hi (by unfold rc_fo; decide) (by decide) (by decide))) (by unfold rc_fd; decide))
theorem rc_ff_L12_14_12 {a b c : Int32} (h_a : rc_uv a < 2 ^ 5) (h_b : rc_uv b < 2 ^ 5) (h_c : rc_uv c < 2 ^ 5) : rc_fd (rc_cSh 32 5 a b c) 14 12 = 5 := by unfold rc_cSh; exact (rc_fo_l (by unfold rc_fo; decide) (rc_fo_l (by unfold rc_fo; decide) (rc_fo_r (by unfold rc_fo; decide) (rc_fo_l (by unfold rc_fo; decide) (rc_fo_l (by unfold rc_fo; decide) (by unfold rc_fd rc_sl; decide) (rc_fd_hi (by unfold rc_fo; decide) (by decide) (by decide))) (rc_fd_hi (by unfold rc_fo; decide) (by decide) (by decide))) (by unfold rc_fd rc_sl; decide)) (rc_fd_lo 5 h_a (by unfold rc_fo; decide) (by decide))) (by unfold rc_fd; decide))
theorem rc_ff_L12_30_30 {a b c : Int32} (h_a : rc_uv a < 2 ^ 5) (h_b : rc_uv b < 2 ^ 5) (h_c : rc_uv c < 2 ^ 5) : rc_fd (rc_cSh 32 5 a b c) 30 30 = 1 := by unfold rc_cSh; exact (rc_fo_l (by unfold rc_fo; decide) (rc_fo_l (by unfold rc_fo; decide) (rc_fo_l (by unfold rc_fo; decide) (rc_fo_l (by unfold rc_fo; decide) (rc_fo_l (by unfold rc_fo; decide) (by unfold rc_fd rc_sl; decide) (rc_fd_lo 5 h_c (by unfold rc_fo; decide) (by decide))) (rc_fd_lo 5 h_b (by unfold rc_fo; decide) (by decide))) (by unfold rc_fd rc_sl; decide)) (rc_fd_lo 5 h_a (by unfold rc_fo; decide) (by decide))) (by unfold rc_fd; decide))
theorem rc_ff_L12_11_7 {a b c : Int32} (h_a : rc_uv a < 2 ^ 5) (h_b : rc_uv b < 2 ^ 5) (h_c : rc_uv c < 2 ^ 5) : rc_fd (rc_cSh 32 5 a b c) 11 7 = a := by unfold rc_cSh; exact (rc_fo_l (by unfold rc_fo; decide) (rc_fo_r (by unfold rc_fo; decide) (rc_fo_l (by unfold rc_fo; decide) (rc_fo_l (by unfold rc_fo; decide) (rc_fo_l (by unfold rc_fo; decide) (by unfold rc_fd rc_sl; decide) (rc_fd_hi (by unfold rc_fo; decide) (by decide) (by decide))) (rc_fd_hi (by unfold rc_fo; decide) (by decide) (by decide))) (by unfold rc_fd rc_sl; decide)) (rc_fd_in 5 h_a (by unfold rc_fo; decide) (by decide))) (by unfold rc_fd; decide))
theorem rc_ff_L12_19_15 {a b c : Int32} (h_a : rc_uv a < 2 ^ 5) (h_b : rc_uv b < 2 ^ 5) (h_c : rc_uv c < 2 ^ 5) : rc_fd (rc_cSh 32 5 a b c) 19 15 = b := by unfold rc_cSh; exact (rc_fo_l (by unfold rc_fo; decide) (rc_fo_l (by unfold rc_fo; decide) (rc_fo_l (by unfold rc_fo; decide) (rc_fo_r (by unfold rc_fo; decide) (rc_fo_l (by unfold rc_fo; decide) (by unfold rc_fd rc_sl; decide) (rc_fd_hi (by unfold rc_fo; decide) (by decide) (by decide))) (rc_fd_in 5 h_b (by unfold rc_fo; decide) (by decide))) (by unfold rc_fd rc_sl; decide)) (rc_fd_lo 5 h_a (by unfold rc_fo; decide) (by decide))) (by unfold rc_fd; decide))
theorem rc_ff_L12_24_20 {a b c : Int32} (h_a : rc_uv a < 2 ^ 5) (h_b : rc_uv b < 2 ^ 5) (h_c : rc_uv c < 2 ^ 5) : rc_fd (rc_cSh 32 5 a b c) 24 20 = c := by unfold rc_cSh; exact (rc_fo_l (by unfold rc_fo; decide) (rc_fo_l (by unfold rc_fo; decide) (rc_fo_l (by unfold rc_fo; decide) (rc_fo_l (by unfold rc_fo; decide) (rc_fo_r (by unfold rc_fo; decide) (by unfold rc_fd rc_sl; decide) (rc_fd_in 5 h_c (by unfold rc_fo; decide) (by decide))) (rc_fd_lo 5 h_b (by unfold rc_fo; decide) (by decide))) (by unfold rc_fd rc_sl; decide)) (rc_fd_lo 5 h_a (by unfold rc_fo; decide) (by decide))) (by unfold rc_fd; decide))
theorem rc_ff_L14_1_0 {a b c : Int32} (h_a : rc_uv a < 2 ^ 5) (h_b : rc_uv b < 2 ^ 5) : rc_fd (rc_cSt a b c) 1 0 = 3 := by unfold rc_cSt; exact (rc_fo_r (by unfold rc_fo; decide) (rc_fo_l (by unfold rc_fo; decide) (rc_fo_l (by unfold rc_fo; decide) (rc_fo_l (by unfold rc_fo; decide) (rc_fo_l (by unfold rc_fo; decide) (rc_fd_hi (by unfold rc_fo; decide) (by decide) (by decide)) (rc_fd_hi (by unfold rc_fo; decide) (by decide) (by decide))) (rc_fd_hi (by unfold rc_fo; decide) (by decide) (by decide))) (by unfold rc_fd rc_sl; decide)) (rc_fd_hi (by unfold rc_fo; decide) (by decide) (by decide))) (by unfold rc_fd; decide))
theorem rc_ff_L14_6_0 {a b c : Int32} (h_a : rc_uv a < 2 ^ 5) (h_b : rc_uv b < 2 ^ 5) : rc_fd (rc_cSt a b c) 6 0 = 35 := by unfold rc_cSt; exact (rc_fo_r (by unfold rc_fo; decide) (rc_fo_l (by unfold rc_fo; decide) (rc_fo_l (by unfold rc_fo; decide) (rc_fo_l (by unfold rc_fo; decide) (rc_fo_l (by unfold rc_fo; decide) (rc_fd_hi (by unfold rc_fo; decide) (by decide) (by decide)) (rc_fd_hi (by unfold rc_fo; decide) (by decide) (by decide))) (rc_fd_hi (by unfold rc_fo; decide) (by decide) (by decide))) (by unfold rc_fd rc_sl; decide)) (rc_fd_hi (by unfold rc_fo; decide) (by decide) (by decide))) (by unfold rc_fd; decide))
theorem rc_ff_L14_11_7 {a b c : Int32} (h_a : rc_uv a < 2 ^ 5) (h_b : rc_uv b < 2 ^ 5) : rc_fd (rc_cSt a b c) 11 7 = (rc_fd c 4 0) := by unfold rc_cSt; exact (rc_fo_l (by unfold rc_fo; decide) (rc_fo_r (by unfold rc_fo; decide) (rc_fo_l (by unfold rc_fo; decide) (rc_fo_l (by unfold rc_fo; decide) (rc_fo_l (by unfold rc_fo; decide) (rc_fd_hi (by unfold rc_fo; decide) (by decide) (by decide)) (rc_fd_hi (by unfold rc_fo; decide) (by decide) (by decide))) (rc_fd_hi (by unfold rc_fo; decide) (by decide) (by decide))) (by unfold rc_fd rc_sl; decide)) (rc_fd_in 5 (rc_fd_w c (by unfold rc_fo; decide)) (by unfold rc_fo; decide) (by decide))) (by unfold rc_fd; decide))
theorem rc_ff_L14_19_15 {a b c : Int32} (h_a : rc_uv a < 2 ^ 5) (h_b : rc_uv b < 2 ^ 5) : rc_fd (rc_cSt a b c) 19 15 = b := by unfold rc_cSt; exact (rc_fo_l (by unfold rc_fo; decide) (rc_fo_l (by unfold rc_fo; decide) (rc_fo_l (by unfold rc_fo; decide) (rc_fo_r (by unfold rc_fo; decide) (rc_fo_l (by unfold rc_fo; decide) (rc_fd_hi (by unfold rc_fo; decide) (by decide) (by decide)) (rc_fd_hi (by unfold rc_fo; decide) (by decide) (by decide))) (rc_fd_in 5 h_b (by unfold rc_fo; decide) (by decide))) (by unfold rc_fd rc_sl; decide)) (rc_fd_lo 5 (rc_fd_w c (by unfold rc_fo; decide)) (by unfold rc_fo; decide) (by decide))) (by unfold rc_fd; decide))
theorem rc_ff_L14_24_20 {a b c : Int32} (h_a : rc_uv a < 2 ^ 5) (h_b : rc_uv b < 2 ^ 5) : rc_fd (rc_cSt a b c) 24 20 = a := by unfold rc_cSt; exact (rc_fo_l (by unfold rc_fo; decide) (rc_fo_l (by unfold rc_fo; decide) (rc_fo_l (by unfold rc_fo; decide) (rc_fo_l (by unfold rc_fo; decide) (rc_fo_r (by unfold rc_fo; decide) (rc_fd_hi (by unfold rc_fo; decide) (by decide) (by decide)) (rc_fd_in 5 h_a (by unfold rc_fo; decide) (by decide))) (rc_fd_lo 5 h_b (by unfold rc_fo; decide) (by decide))) (by unfold rc_fd rc_sl; decide)) (rc_fd_lo 5 (rc_fd_w c (by unfold rc_fo; decide)) (by unfold rc_fo; decide) (by decide))) (by unfold rc_fd; decide))
theorem rc_ff_L15_1_0 {a b : Int32} (h_a : rc_uv a < 2 ^ 5) : rc_fd (rc_cLu a b) 1 0 = 3 := by unfold rc_cLu; exact (rc_fo_r (by unfold rc_fo; decide) (rc_fo_l (by unfold rc_fo; decide) (rc_fd_hi (by unfold rc_fo; decide) (by decide) (by decide)) (rc_fd_hi (by unfold rc_fo; decide) (by decide) (by decide))) (by unfold rc_fd; decide))
theorem rc_ff_L15_6_0 {a b : Int32} (h_a : rc_uv a < 2 ^ 5) : rc_fd (rc_cLu a b) 6 0 = 55 := by unfold rc_cLu; exact (rc_fo_r (by unfold rc_fo; decide) (rc_fo_l (by unfold rc_fo; decide) (rc_fd_hi (by unfold rc_fo; decide) (by decide) (by decide)) (rc_fd_hi (by unfold rc_fo; decide) (by decide) (by decide))) (by unfold rc_fd; decide))
theorem rc_ff_L15_11_7 {a b : Int32} (h_a : rc_uv a < 2 ^ 5) : rc_fd (rc_cLu a b) 11 7 = a := by unfold rc_cLu; exact (rc_fo_l (by unfold rc_fo; decide) (rc_fo_r (by unfold rc_fo; decide) (rc_fd_hi (by unfold rc_fo; decide) (by decide) (by decide)) (rc_fd_in 5 h_a (by unfold rc_fo; decide) (by decide))) (by unfold rc_fd; decide))
theorem rc_ff_L17_1_0 {a d : Int32} (h_a : rc_uv a < 2 ^ 5) : rc_fd (rc_cJl a d) 1 0 = 3 := by unfold rc_cJl; exact (rc_fo_r (by unfold rc_fo; decide) (rc_fo_l (by unfold rc_fo; decide) (rc_fo_l (by unfold rc_fo; decide) (rc_fo_l (by unfold rc_fo; decide) (rc_fo_l (by unfold rc_fo; decide) (rc_fd_hi (by unfold rc_fo; decide) (by decide) (by decide)) (rc_fd_hi (by unfold rc_fo; decide) (by decide) (by decide))) (rc_fd_hi (by unfold rc_fo; decide) (by decide) (by decide))) (rc_fd_hi (by unfold rc_fo; decide) (by decide) (by decide))) (rc_fd_hi (by unfold rc_fo; decide) (by decide) (by decide))) (by unfold rc_fd; decide))
theorem rc_ff_L17_6_0 {a d : Int32} (h_a : rc_uv a < 2 ^ 5) : rc_fd (rc_cJl a d) 6 0 = 111 := by unfold rc_cJl; exact (rc_fo_r (by unfold rc_fo; decide) (rc_fo_l (by unfold rc_fo; decide) (rc_fo_l (by unfold rc_fo; decide) (rc_fo_l (by unfold rc_fo; decide) (rc_fo_l (by unfold rc_fo; decide) (rc_fd_hi (by unfold rc_fo; decide) (by decide) (by decide)) (rc_fd_hi (by unfold rc_fo; decide) (by decide) (by decide))) (rc_fd_hi (by unfold rc_fo; decide) (by decide) (by decide))) (rc_fd_hi (by unfold rc_fo; decide) (by decide) (by decide))) (rc_fd_hi (by unfold rc_fo; decide) (by decide) (by decide))) (by unfold rc_fd; decide))
theorem rc_ff_L17_11_7 {a d : Int32} (h_a : rc_uv a < 2 ^ 5) : rc_fd (rc_cJl a d) 11 7 = a := by unfold rc_cJl; exact (rc_fo_l (by unfold rc_fo; decide) (rc_fo_r (by unfold rc_fo; decide) (rc_fo_l (by unfold rc_fo; decide) (rc_fo_l (by unfold rc_fo; decide) (rc_fo_l (by unfold rc_fo; decide) (rc_fd_hi (by unfold rc_fo; decide) (by decide) (by decide)) (rc_fd_hi (by unfold rc_fo; decide) (by decide) (by decide))) (rc_fd_hi (by unfold rc_fo; decide) (by decide) (by decide))) (rc_fd_hi (by unfold rc_fo; decide) (by decide) (by decide))) (rc_fd_in 5 h_a (by unfold rc_fo; decide) (by decide))) (by unfold rc_fd; decide))
theorem rc_ff_L17_31_31 {a d : Int32} (h_a : rc_uv a < 2 ^ 5) : rc_fd (rc_cJl a d) 31 31 = (rc_fd d 20 20) := by unfold rc_cJl; exact (rc_fo_l (by unfold rc_fo; decide) (rc_fo_l (by unfold rc_fo; decide) (rc_fo_l (by unfold rc_fo; decide) (rc_fo_l (by unfold rc_fo; decide) (rc_fo_l (by unfold rc_fo; decide) (rc_fd_in 1 (rc_fd_w d (by unfold rc_fo; decide)) (by unfold rc_fo; decide) (by decide)) (rc_fd_lo 10 (rc_fd_w d (by unfold rc_fo; decide)) (by unfold rc_fo; decide) (by decide))) (rc_fd_lo 1 (rc_fd_w d (by unfold rc_fo; decide)) (by unfold rc_fo; decide) (by decide))) (rc_fd_lo 8 (rc_fd_w d (by unfold rc_fo; decide)) (by unfold rc_fo; decide) (by decide))) (rc_fd_lo 5 h_a (by unfold rc_fo; decide) (by decide))) (by unfold rc_fd; decide))
theorem rc_ff_L17_30_21 {a d : Int32} (h_a : rc_uv a < 2 ^ 5) : rc_fd (rc_cJl a d) 30 21 = (rc_fd d 10 1) := by unfold rc_cJl; exact (rc_fo_l (by unfold rc_fo; decide) (rc_fo_l (by unfold rc_fo; decide) (rc_fo_l (by unfold rc_fo; decide) (rc_fo_l (by unfold rc_fo; decide) (rc_fo_r (by unfold rc_fo; decide) (rc_fd_hi (by unfold rc_fo; decide) (by decide) (by decide)) (rc_fd_in 10 (rc_fd_w d (by unfold rc_fo; decide)) (by unfold rc_fo; decide) (by decide))) (rc_fd_lo 1 (rc_fd_w d (by unfold rc_fo; decide)) (by unfold rc_fo; decide) (by decide))) (rc_fd_lo 8 (rc_fd_w d (by unfold rc_fo; decide)) (by unfold rc_fo; decide) (by decide))) (rc_fd_lo 5 h_a (by unfold rc_fo; decide) (by decide))) (by unfold rc_fd; decide))
theorem rc_ff_L17_20_20 {a d : Int32} (h_a : rc_uv a < 2 ^ 5) : rc_fd (rc_cJl a d) 20 20 = (rc_fd d 11 11) := by unfold rc_cJl; exact (rc_fo_l (by unfold rc_fo; decide) (rc_fo_l (by unfold rc_fo; decide) (rc_fo_l (by unfold rc_fo; decide) (rc_fo_r (by unfold rc_fo; decide) (rc_fo_l (by unfold rc_fo; decide) (rc_fd_hi (by unfold rc_fo; decide) (by decide) (by decide)) (rc_fd_hi (by unfold rc_fo; decide) (by decide) (by decide))) (rc_fd_in 1 (rc_fd_w d (by unfold rc_fo; decide)) (by unfold rc_fo; decide) (by decide))) (rc_fd_lo 8 (rc_fd_w d (by unfold rc_fo; decide)) (by unfold rc_fo; decide) (by decide))) (rc_fd_lo 5 h_a (by unfold rc_fo; decide) (by decide))) (by unfold rc_fd; decide))
theorem rc_ff_L17_19_12 {a d : Int32} (h_a : rc_uv a < 2 ^ 5) : rc_fd (rc_cJl a d) 19 12 = (rc_fd d 19 12) := by unfold rc_cJl; exact (rc_fo_l (by unfold rc_fo; decide) (rc_fo_l (by unfold rc_fo; decide) (rc_fo_r (by unfold rc_fo; decide) (rc_fo_l (by unfold rc_fo; decide) (rc_fo_l (by unfold rc_fo; decide) (rc_fd_hi (by unfold rc_fo; decide) (by decide) (by decide)) (rc_fd_hi (by unfold rc_fo; decide) (by decide) (by decide))) (rc_fd_hi (by unfold rc_fo; decide) (by decide) (by decide))) (rc_fd_in 8 (rc_fd_w d (by unfold rc_fo; decide)) (by unfold rc_fo; decide) (by decide))) (rc_fd_lo 5 h_a (by unfold rc_fo; decide) (by decide))) (by unfold rc_fd; decide))
theorem rc_ff_L18_1_0 {a b d : Int32} (h_a : rc_uv a < 2 ^ 5) (h_b : rc_uv b < 2 ^ 5) : rc_fd (rc_cBl 0 a b d) 1 0 = 3 := by unfold rc_cBl; exact (rc_fo_r (by unfold rc_fo; decide) (rc_fo_l (by unfold rc_fo; decide) (rc_fo_l (by unfold rc_fo; decide) (rc_fo_l (by unfold rc_fo; decide) (rc_fo_l (by unfold rc_fo; decide) (rc_fo_l (by unfold rc_fo; decide) (rc_fo_l (by unfold rc_fo; decide) (rc_fd_hi (by unfold rc_fo; decide) (by decide) (by decide)) (rc_fd_hi (by unfold rc_fo; decide) (by decide) (by decide))) (rc_fd_hi (by unfold rc_fo; decide) (by decide) (by decide))) (rc_fd_hi (by unfold rc_fo; decide) (by decide) (by decide))) (by unfold rc_fd rc_sl; decide)) (rc_fd_hi (by unfold rc_fo; decide) (by decide) (by decide))) (rc_fd_hi (by unfold rc_fo; decide) (by decide) (by decide))) (by unfold rc_fd; decide))
theorem rc_ff_L18_6_0 {a b d : Int32} (h_a : rc_uv a < 2 ^ 5) (h_b : rc_uv b < 2 ^ 5) : rc_fd (rc_cBl 0 a b d) 6 0 = 99 := by unfold rc_cBl; exact (rc_fo_r (by unfold rc_fo; decide) (rc_fo_l (by unfold rc_fo; decide) (rc_fo_l (by unfold rc_fo; decide) (rc_fo_l (by unfold rc_fo; decide) (rc_fo_l (by unfold rc_fo; decide) (rc_fo_l (by unfold rc_fo; decide) (rc_fo_l (by unfold rc_fo; decide) (rc_fd_hi (by unfold rc_fo; decide) (by decide) (by decide)) (rc_fd_hi (by unfold rc_fo; decide) (by decide) (by decide))) (rc_fd_hi (by unfold rc_fo; decide) (by decide) (by decide))) (rc_fd_hi (by unfold rc_fo; decide) (by decide) (by decide))) (by unfold rc_fd rc_sl; decide)) (rc_fd_hi (by unfold rc_fo; decide) (by decide) (by decide))) (rc_fd_hi (by unfold rc_fo; decide) (by decide) (by decide))) (by unfold rc_fd; decide))
theorem rc_ff_L18_14_12 {a b d : Int32} (h_a : rc_uv a < 2 ^ 5) (h_b : rc_uv b < 2 ^ 5) : rc_fd (rc_cBl 0 a b d) 14 12 = 0 := by unfold rc_cBl; exact (rc_fo_l (by unfold rc_fo; decide) (rc_fo_l (by unfold rc_fo; decide) (rc_fo_l (by unfold rc_fo; decide) (rc_fo_l (by unfold rc_fo; decide) (rc_fo_l (by unfold rc_fo; decide) (rc_fo_l (by unfold rc_fo; decide) (rc_fo_l (by unfold rc_fo; decide) (rc_fd_hi (by unfold rc_fo; decide) (by decide) (by decide)) (rc_fd_hi (by unfold rc_fo; decide) (by decide) (by decide))) (rc_fd_hi (by unfold rc_fo; decide) (by decide) (by decide))) (rc_fd_hi (by unfold rc_fo; decide) (by decide) (by decide))) (by unfold rc_fd rc_sl; decide)) (rc_fd_lo 4 (rc_fd_w d (by unfold rc_fo; decide)) (by unfold rc_fo; decide) (by decide))) (rc_fd_lo 1 (rc_fd_w d (by unfold rc_fo; decide)) (by unfold rc_fo; decide) (by decide))) (by unfold rc_fd; decide))
theorem rc_ff_L18_19_15 {a b d : Int32} (h_a : rc_uv a < 2 ^ 5) (h_b : rc_uv b < 2 ^ 5) : rc_fd (rc_cBl 0 a b d) 19 15 = a := by unfold rc_cBl; exact (rc_fo_l (by unfold rc_fo; decide) (rc_fo_l (by unfold rc_fo; decide) (rc_fo_l (by unfold rc_fo; decide) (rc_fo_l (by unfold rc_fo; decide) (rc_fo_r (by unfold rc_fo; decide) (rc_fo_l (by unfold rc_fo; decide) (rc_fo_l (by unfold rc_fo; decide) (rc_fd_hi (by unfold rc_fo; decide) (by decide) (by decide)) (rc_fd_hi (by unfold rc_fo; decide) (by decide) (by decide))) (rc_fd_hi (by unfold rc_fo; decide) (by decide) (by decide))) (rc_fd_in 5 h_a (by unfold rc_fo; decide) (by decide))) (by unfold rc_fd rc_sl; decide)) (rc_fd_lo 4 (rc_fd_w d (by unfold rc_fo; decide)) (by unfold rc_fo; decide) (by decide))) (rc_fd_lo 1 (rc_fd_w d (by unfold rc_fo; decide)) (by unfold rc_fo; decide) (by decide))) (by unfold rc_fd; decide))
theorem rc_ff_L18_24_20 {a b d : Int32} (h_a : rc_uv a < 2 ^ 5) (h_b : rc_uv b < 2 ^ 5) : rc_fd (rc_cBl 0 a b d) 24 20 = b := by unfold rc_cBl; exact (rc_fo_l (by unfold rc_fo; decide) (rc_fo_l (by unfold rc_fo; decide) (rc_fo_l (by unfold rc_fo; decide) (rc_fo_l (by unfold rc_fo; decide) (rc_fo_l (by unfold rc_fo; decide) (rc_fo_r (by unfold rc_fo; decide) (rc_fo_l (by unfold rc_fo; decide) (rc_fd_hi (by unfold rc_fo; decide) (by decide) (by decide)) (rc_fd_hi (by unfold rc_fo; decide) (by decide) (by decide))) (rc_fd_in 5 h_b (by unfold rc_fo; decide) (by decide))) (rc_fd_lo 5 h_a (by unfold rc_fo; decide) (by decide))) (by unfold rc_fd rc_sl; decide)) (rc_fd_lo 4 (rc_fd_w d (by unfold rc_fo; decide)) (by unfold rc_fo; decide) (by decide))) (rc_fd_lo 1 (rc_fd_w d (by unfold rc_fo; decide)) (by unfold rc_fo; decide) (by decide))) (by unfold rc_fd; decide))
theorem rc_ff_L18_31_31 {a b d : Int32} (h_a : rc_uv a < 2 ^ 5) (h_b : rc_uv b < 2 ^ 5) : rc_fd (rc_cBl 0 a b d) 31 31 = (rc_fd d 12 12) := by unfold rc_cBl; exact (rc_fo_l (by unfold rc_fo; decide) (rc_fo_l (by unfold rc_fo; decide) (rc_fo_l (by unfold rc_fo; decide) (rc_fo_l (by unfold rc_fo; decide) (rc_fo_l (by unfold rc_fo; decide) (rc_fo_l (by unfold rc_fo; decide) (rc_fo_l (by unfold rc_fo; decide) (rc_fd_in 1 (rc_fd_w d (by unfold rc_fo; decide)) (by unfold rc_fo; decide) (by decide)) (rc_fd_lo 6 (rc_fd_w d (by unfold rc_fo; decide)) (by unfold rc_fo; decide) (by decide))) (rc_fd_lo 5 h_b (by unfold rc_fo; decide) (by decide))) (rc_fd_lo 5 h_a (by unfold rc_fo; decide) (by decide))) (by unfold rc_fd rc_sl; decide)) (rc_fd_lo 4 (rc_fd_w d (by unfold rc_fo; decide)) (by unfold rc_fo; decide) (by decide))) (rc_fd_lo 1 (rc_fd_w d (by unfold rc_fo; decide)) (by unfold rc_fo; decide) (by decide))) (by unfold rc_fd; decide))
theorem rc_ff_L18_30_25 {a b d : Int32} (h_a : rc_uv a < 2 ^ 5) (h_b : rc_uv b < 2 ^ 5) : rc_fd (rc_cBl 0 a b d) 30 25 = (rc_fd d 10 5) := by unfold rc_cBl; exact (rc_fo_l (by unfold rc_fo; decide) (rc_fo_l (by unfold rc_fo; decide) (rc_fo_l (by unfold rc_fo; decide) (rc_fo_l (by unfold rc_fo; decide) (rc_fo_l (by unfold rc_fo; decide) (rc_fo_l (by unfold rc_fo; decide) (rc_fo_r (by unfold rc_fo; decide) (rc_fd_hi (by unfold rc_fo; decide) (by decide) (by decide)) (rc_fd_in 6 (rc_fd_w d (by unfold rc_fo; decide)) (by unfold rc_fo; decide) (by decide))) (rc_fd_lo 5 h_b (by unfold rc_fo; decide) (by decide))) (rc_fd_lo 5 h_a (by unfold rc_fo; decide) (by decide))) (by unfold rc_fd rc_sl; decide)) (rc_fd_lo 4 (rc_fd_w d (by unfold rc_fo; decide)) (by unfold rc_fo; decide) (by decide))) (rc_fd_lo 1 (rc_fd_w d (by unfold rc_fo; decide)) (by unfold rc_fo; decide) (by decide))) (by unfold rc_fd; decide))
theorem rc_ff_L18_11_8 {a b d : Int32} (h_a : rc_uv a < 2 ^ 5) (h_b : rc_uv b < 2 ^ 5) : rc_fd (rc_cBl 0 a b d) 11 8 = (rc_fd d 4 1) := by unfold rc_cBl; exact (rc_fo_l (by unfold rc_fo; decide) (rc_fo_l (by unfold rc_fo; decide) (rc_fo_r (by unfold rc_fo; decide) (rc_fo_l (by unfold rc_fo; decide) (rc_fo_l (by unfold rc_fo; decide) (rc_fo_l (by unfold rc_fo; decide) (rc_fo_l (by unfold rc_fo; decide) (rc_fd_hi (by unfold rc_fo; decide) (by decide) (by decide)) (rc_fd_hi (by unfold rc_fo; decide) (by decide) (by decide))) (rc_fd_hi (by unfold rc_fo; decide) (by decide) (by decide))) (rc_fd_hi (by unfold rc_fo; decide) (by decide) (by decide))) (by unfold rc_fd rc_sl; decide)) (rc_fd_in 4 (rc_fd_w d (by unfold rc_fo; decide)) (by unfold rc_fo; decide) (by decide))) (rc_fd_lo 1 (rc_fd_w d (by unfold rc_fo; decide)) (by unfold rc_fo; decide) (by decide))) (by unfold rc_fd; decide))
theorem rc_ff_L18_7_7 {a b d : Int32} (h_a : rc_uv a < 2 ^ 5) (h_b : rc_uv b < 2 ^ 5) : rc_fd (rc_cBl 0 a b d) 7 7 = (rc_fd d 11 11) := by unfold rc_cBl; exact (rc_fo_l (by unfold rc_fo; decide) (rc_fo_r (by unfold rc_fo; decide) (rc_fo_l (by unfold rc_fo; decide) (rc_fo_l (by unfold rc_fo; decide) (rc_fo_l (by unfold rc_fo; decide) (rc_fo_l (by unfold rc_fo; decide) (rc_fo_l (by unfold rc_fo; decide) (rc_fd_hi (by unfold rc_fo; decide) (by decide) (by decide)) (rc_fd_hi (by unfold rc_fo; decide) (by decide) (by decide))) (rc_fd_hi (by unfold rc_fo; decide) (by decide) (by decide))) (rc_fd_hi (by unfold rc_fo; decide) (by decide) (by decide))) (by unfold rc_fd rc_sl; decide)) (rc_fd_hi (by unfold rc_fo; decide) (by decide) (by decide))) (rc_fd_in 1 (rc_fd_w d (by unfold rc_fo; decide)) (by unfold rc_fo; decide) (by decide))) (by unfold rc_fd; decide))
theorem rc_ff_L19_1_0 {a b d : Int32} (h_a : rc_uv a < 2 ^ 5) (h_b : rc_uv b < 2 ^ 5) : rc_fd (rc_cBl 1 a b d) 1 0 = 3 := by unfold rc_cBl; exact (rc_fo_r (by unfold rc_fo; decide) (rc_fo_l (by unfold rc_fo; decide) (rc_fo_l (by unfold rc_fo; decide) (rc_fo_l (by unfold rc_fo; decide) (rc_fo_l (by unfold rc_fo; decide) (rc_fo_l (by unfold rc_fo; decide) (rc_fo_l (by unfold rc_fo; decide) (rc_fd_hi (by unfold rc_fo; decide) (by decide) (by decide)) (rc_fd_hi (by unfold rc_fo; decide) (by decide) (by decide))) (rc_fd_hi (by unfold rc_fo; decide) (by decide) (by decide))) (rc_fd_hi (by unfold rc_fo; decide) (by decide) (by decide))) (by unfold rc_fd rc_sl; decide)) (rc_fd_hi (by unfold rc_fo; decide) (by decide) (by decide))) (rc_fd_hi (by unfold rc_fo; decide) (by decide) (by decide))) (by unfold rc_fd; decide))
theorem rc_ff_L19_6_0 {a b d : Int32} (h_a : rc_uv a < 2 ^ 5) (h_b : rc_uv b < 2 ^ 5) : rc_fd (rc_cBl 1 a b d) 6 0 = 99 := by unfold rc_cBl; exact (rc_fo_r (by unfold rc_fo; decide) (rc_fo_l (by unfold rc_fo; decide) (rc_fo_l (by unfold rc_fo; decide) (rc_fo_l (by unfold rc_fo; decide) (rc_fo_l (by unfold rc_fo; decide) (rc_fo_l (by unfold rc_fo; decide) (rc_fo_l (by unfold rc_fo; decide) (rc_fd_hi (by unfold rc_fo; decide) (by decide) (by decide)) (rc_fd_hi (by unfold rc_fo; decide) (by decide) (by decide))) (rc_fd_hi (by unfold rc_fo; decide) (by decide) (by decide))) (rc_fd_hi (by unfold rc_fo; decide) (by decide) (by decide))) (by unfold rc_fd rc_sl; decide)) (rc_fd_hi (by unfold rc_fo; decide) (by decide) (by decide))) (rc_fd_hi (by unfold rc_fo; decide) (by decide) (by decide))) (by unfold rc_fd; decide))
theorem rc_ff_L19_14_12 {a b d : Int32} (h_a : rc_uv a < 2 ^ 5) (h_b : rc_uv b < 2 ^ 5) : rc_fd (rc_cBl 1 a b d) 14 12 = 1 := by unfold rc_cBl; exact (rc_fo_l (by unfold rc_fo; decide) (rc_fo_l (by unfold rc_fo; decide) (rc_fo_l (by unfold rc_fo; decide) (rc_fo_r (by unfold rc_fo; decide) (rc_fo_l (by unfold rc_fo; decide) (rc_fo_l (by unfold rc_fo; decide) (rc_fo_l (by unfold rc_fo; decide) (rc_fd_hi (by unfold rc_fo; decide) (by decide) (by decide)) (rc_fd_hi (by unfold rc_fo; decide) (by decide) (by decide))) (rc_fd_hi (by unfold rc_fo; decide) (by decide) (by decide))) (rc_fd_hi (by unfold rc_fo; decide) (by decide) (by decide))) (by unfold rc_fd rc_sl; decide)) (rc_fd_lo 4 (rc_fd_w d (by unfold rc_fo; decide)) (by unfold rc_fo; decide) (by decide))) (rc_fd_lo 1 (rc_fd_w d (by unfold rc_fo; decide)) (by unfold rc_fo; decide) (by decide))) (by unfold rc_fd; decide))
theorem rc_ff_L19_19_15 {a b d : Int32} (h_a : rc_uv a < 2 ^ 5) (h_b : rc_uv b < 2 ^ 5) : rc_fd (rc_cBl 1 a b d) 19 15 = a := by unfold rc_cBl; exact (rc_fo_l (by unfold rc_fo; decide) (rc_fo_l (by unfold rc_fo; decide) (rc_fo_l (by unfold rc_fo; decide) (rc_fo_l (by unfold rc_fo; decide) (rc_fo_r (by unfold rc_fo; decide) (rc_fo_l (by unfold rc_fo; decide) (rc_fo_l (by unfold rc_fo; decide) (rc_fd_hi (by unfold rc_fo; decide) (by decide) (by decide)) (rc_fd_hi (by unfold rc_fo; decide) (by decide) (by decide))) (rc_fd_hi (by unfold rc_fo; decide) (by decide) (by decide))) (rc_fd_in 5 h_a (by unfold rc_fo; decide) (by decide))) (by unfold rc_fd rc_sl; decide)) (rc_fd_lo 4 (rc_fd_w d (by unfold rc_fo; decide)) (by unfold rc_fo; decide) (by decide))) (rc_fd_lo 1 (rc_fd_w d (by unfold rc_fo; decide)) (by unfold rc_fo; decide) (by decide))) (by unfold rc_fd; decide))
theorem rc_ff_L19_24_20 {a b d : Int32} (h_a : rc_uv a < 2 ^ 5) (h_b : rc_uv b < 2 ^ 5) : rc_fd (rc_cBl 1 a b d) 24 20 = b := by unfold rc_cBl; exact (rc_fo_l (by unfold rc_fo; decide) (rc_fo_l (by unfold rc_fo; decide) (rc_fo_l (by unfold rc_fo; decide) (rc_fo_l (by unfold rc_fo; decide) (rc_fo_l (by unfold rc_fo; decide) (rc_fo_r (by unfold rc_fo; decide) (rc_fo_l (by unfold rc_fo; decide) (rc_fd_hi (by unfold rc_fo; decide) (by decide) (by decide)) (rc_fd_hi (by unfold rc_fo; decide) (by decide) (by decide))) (rc_fd_in 5 h_b (by unfold rc_fo; decide) (by decide))) (rc_fd_lo 5 h_a (by unfold rc_fo; decide) (by decide))) (by unfold rc_fd rc_sl; decide)) (rc_fd_lo 4 (rc_fd_w d (by unfold rc_fo; decide)) (by unfold rc_fo; decide) (by decide))) (rc_fd_lo 1 (rc_fd_w d (by unfold rc_fo; decide)) (by unfold rc_fo; decide) (by decide))) (by unfold rc_fd; decide))
theorem rc_ff_L19_31_31 {a b d : Int32} (h_a : rc_uv a < 2 ^ 5) (h_b : rc_uv b < 2 ^ 5) : rc_fd (rc_cBl 1 a b d) 31 31 = (rc_fd d 12 12) := by unfold rc_cBl; exact (rc_fo_l (by unfold rc_fo; decide) (rc_fo_l (by unfold rc_fo; decide) (rc_fo_l (by unfold rc_fo; decide) (rc_fo_l (by unfold rc_fo; decide) (rc_fo_l (by unfold rc_fo; decide) (rc_fo_l (by unfold rc_fo; decide) (rc_fo_l (by unfold rc_fo; decide) (rc_fd_in 1 (rc_fd_w d (by unfold rc_fo; decide)) (by unfold rc_fo; decide) (by decide)) (rc_fd_lo 6 (rc_fd_w d (by unfold rc_fo; decide)) (by unfold rc_fo; decide) (by decide))) (rc_fd_lo 5 h_b (by unfold rc_fo; decide) (by decide))) (rc_fd_lo 5 h_a (by unfold rc_fo; decide) (by decide))) (by unfold rc_fd rc_sl; decide)) (rc_fd_lo 4 (rc_fd_w d (by unfold rc_fo; decide)) (by unfold rc_fo; decide) (by decide))) (rc_fd_lo 1 (rc_fd_w d (by unfold rc_fo; decide)) (by unfold rc_fo; decide) (by decide))) (by unfold rc_fd; decide))
theorem rc_ff_L19_30_25 {a b d : Int32} (h_a : rc_uv a < 2 ^ 5) (h_b : rc_uv b < 2 ^ 5) : rc_fd (rc_cBl 1 a b d) 30 25 = (rc_fd d 10 5) := by unfold rc_cBl; exact (rc_fo_l (by unfold rc_fo; decide) (rc_fo_l (by unfold rc_fo; decide) (rc_fo_l (by unfold rc_fo; decide) (rc_fo_l (by unfold rc_fo; decide) (rc_fo_l (by unfold rc_fo; decide) (rc_fo_l (by unfold rc_fo; decide) (rc_fo_r (by unfold rc_fo; decide) (rc_fd_hi (by unfold rc_fo; decide) (by decide) (by decide)) (rc_fd_in 6 (rc_fd_w d (by unfold rc_fo; decide)) (by unfold rc_fo; decide) (by decide))) (rc_fd_lo 5 h_b (by unfold rc_fo; decide) (by decide))) (rc_fd_lo 5 h_a (by unfold rc_fo; decide) (by decide))) (by unfold rc_fd rc_sl; decide)) (rc_fd_lo 4 (rc_fd_w d (by unfold rc_fo; decide)) (by unfold rc_fo; decide) (by decide))) (rc_fd_lo 1 (rc_fd_w d (by unfold rc_fo; decide)) (by unfold rc_fo; decide) (by decide))) (by unfold rc_fd; decide))
theorem rc_ff_L19_11_8 {a b d : Int32} (h_a : rc_uv a < 2 ^ 5) (h_b : rc_uv b < 2 ^ 5) : rc_fd (rc_cBl 1 a b d) 11 8 = (rc_fd d 4 1) := by unfold rc_cBl; exact (rc_fo_l (by unfold rc_fo; decide) (rc_fo_l (by unfold rc_fo; decide) (rc_fo_r (by unfold rc_fo; decide) (rc_fo_l (by unfold rc_fo; decide) (rc_fo_l (by unfold rc_fo; decide) (rc_fo_l (by unfold rc_fo; decide) (rc_fo_l (by unfold rc_fo; decide) (rc_fd_hi (by unfold rc_fo; decide) (by decide) (by decide)) (rc_fd_hi (by unfold rc_fo; decide) (by decide) (by decide))) (rc_fd_hi (by unfold rc_fo; decide) (by decide) (by decide))) (rc_fd_hi (by unfold rc_fo; decide) (by decide) (by decide))) (by unfold rc_fd rc_sl; decide)) (rc_fd_in 4 (rc_fd_w d (by unfold rc_fo; decide)) (by unfold rc_fo; decide) (by decide))) (rc_fd_lo 1 (rc_fd_w d (by unfold rc_fo; decide)) (by unfold rc_fo; decide) (by decide))) (by unfold rc_fd; decide))
theorem rc_ff_L19_7_7 {a b d : Int32} (h_a : rc_uv a < 2 ^ 5) (h_b : rc_uv b < 2 ^ 5) : rc_fd (rc_cBl 1 a b d) 7 7 = (rc_fd d 11 11) := by unfold rc_cBl; exact (rc_fo_l (by unfold rc_fo; decide) (rc_fo_r (by unfold rc_fo; decide) (rc_fo_l (by unfold rc_fo; decide) (rc_fo_l (by unfold rc_fo; decide) (rc_fo_l (by unfold rc_fo; decide) (rc_fo_l (by unfold rc_fo; decide) (rc_fo_l (by unfold rc_fo; decide) (rc_fd_hi (by unfold rc_fo; decide) (by decide) (by decide)) (rc_fd_hi (by unfold rc_fo; decide) (by decide) (by decide))) (rc_fd_hi (by unfold rc_fo; decide) (by decide) (by decide))) (rc_fd_hi (by unfold rc_fo; decide) (by decide) (by decide))) (by unfold rc_fd rc_sl; decide)) (rc_fd_hi (by unfold rc_fo; decide) (by decide) (by decide))) (rc_fd_in 1 (rc_fd_w d (by unfold rc_fo; decide)) (by unfold rc_fo; decide) (by decide))) (by unfold rc_fd; decide))
theorem rc_ff_L20_1_0 {a b d : Int32} (h_a : rc_uv a < 2 ^ 5) (h_b : rc_uv b < 2 ^ 5) : rc_fd (rc_cBl 4 a b d) 1 0 = 3 := by unfold rc_cBl; exact (rc_fo_r (by unfold rc_fo; decide) (rc_fo_l (by unfold rc_fo; decide) (rc_fo_l (by unfold rc_fo; decide) (rc_fo_l (by unfold rc_fo; decide) (rc_fo_l (by unfold rc_fo; decide) (rc_fo_l (by unfold rc_fo; decide) (rc_fo_l (by unfold rc_fo; decide) (rc_fd_hi (by unfold rc_fo; decide) (by decide) (by decide)) (rc_fd_hi (by unfold rc_fo; decide) (by decide) (by decide))) (rc_fd_hi (by unfold rc_fo; decide) (by decide) (by decide))) (rc_fd_hi (by unfold rc_fo; decide) (by decide) (by decide))) (by unfold rc_fd rc_sl; decide)) (rc_fd_hi (by unfold rc_fo; decide) (by decide) (by decide))) (rc_fd_hi (by unfold rc_fo; decide) (by decide) (by decide))) (by unfold rc_fd; decide))
theorem rc_ff_L20_6_0 {a b d : Int32} (h_a : rc_uv a < 2 ^ 5) (h_b : rc_uv b < 2 ^ 5) : rc_fd (rc_cBl 4 a b d) 6 0 = 99 := by unfold rc_cBl; exact (rc_fo_r (by unfold rc_fo; decide) (rc_fo_l (by unfold rc_fo; decide) (rc_fo_l (by unfold rc_fo; decide) (rc_fo_l (by unfold rc_fo; decide) (rc_fo_l (by unfold rc_fo; decide) (rc_fo_l (by unfold rc_fo; decide) (rc_fo_l (by unfold rc_fo; decide) (rc_fd_hi (by unfold rc_fo; decide) (by decide) (by decide)) (rc_fd_hi (by unfold rc_fo; decide) (by decide) (by decide))) (rc_fd_hi (by unfold rc_fo; decide) (by decide) (by decide))) (rc_fd_hi (by unfold rc_fo; decide) (by decide) (by decide))) (by unfold rc_fd rc_sl; decide)) (rc_fd_hi (by unfold rc_fo; decide) (by decide) (by decide))) (rc_fd_hi (by unfold rc_fo; decide) (by decide) (by decide))) (by unfold rc_fd; decide))
theorem rc_ff_L20_14_12 {a b d : Int32} (h_a : rc_uv a < 2 ^ 5) (h_b : rc_uv b < 2 ^ 5) : rc_fd (rc_cBl 4 a b d) 14 12 = 4 := by unfold rc_cBl; exact (rc_fo_l (by unfold rc_fo; decide) (rc_fo_l (by unfold rc_fo; decide) (rc_fo_l (by unfold rc_fo; decide) (rc_fo_r (by unfold rc_fo; decide) (rc_fo_l (by unfold rc_fo; decide) (rc_fo_l (by unfold rc_fo; decide) (rc_fo_l (by unfold rc_fo; decide) (rc_fd_hi (by unfold rc_fo; decide) (by decide) (by decide)) (rc_fd_hi (by unfold rc_fo; decide) (by decide) (by decide))) (rc_fd_hi (by unfold rc_fo; decide) (by decide) (by decide))) (rc_fd_hi (by unfold rc_fo; decide) (by decide) (by decide))) (by unfold rc_fd rc_sl; decide)) (rc_fd_lo 4 (rc_fd_w d (by unfold rc_fo; decide)) (by unfold rc_fo; decide) (by decide))) (rc_fd_lo 1 (rc_fd_w d (by unfold rc_fo; decide)) (by unfold rc_fo; decide) (by decide))) (by unfold rc_fd; decide))
theorem rc_ff_L20_19_15 {a b d : Int32} (h_a : rc_uv a < 2 ^ 5) (h_b : rc_uv b < 2 ^ 5) : rc_fd (rc_cBl 4 a b d) 19 15 = a := by unfold rc_cBl; exact (rc_fo_l (by unfold rc_fo; decide) (rc_fo_l (by unfold rc_fo; decide) (rc_fo_l (by unfold rc_fo; decide) (rc_fo_l (by unfold rc_fo; decide) (rc_fo_r (by unfold rc_fo; decide) (rc_fo_l (by unfold rc_fo; decide) (rc_fo_l (by unfold rc_fo; decide) (rc_fd_hi (by unfold rc_fo; decide) (by decide) (by decide)) (rc_fd_hi (by unfold rc_fo; decide) (by decide) (by decide))) (rc_fd_hi (by unfold rc_fo; decide) (by decide) (by decide))) (rc_fd_in 5 h_a (by unfold rc_fo; decide) (by decide))) (by unfold rc_fd rc_sl; decide)) (rc_fd_lo 4 (rc_fd_w d (by unfold rc_fo; decide)) (by unfold rc_fo; decide) (by decide))) (rc_fd_lo 1 (rc_fd_w d (by unfold rc_fo; decide)) (by unfold rc_fo; decide) (by decide))) (by unfold rc_fd; decide))
theorem rc_ff_L20_24_20 {a b d : Int32} (h_a : rc_uv a < 2 ^ 5) (h_b : rc_uv b < 2 ^ 5) : rc_fd (rc_cBl 4 a b d) 24 20 = b := by unfold rc_cBl; exact (rc_fo_l (by unfold rc_fo; decide) (rc_fo_l (by unfold rc_fo; decide) (rc_fo_l (by unfold rc_fo; decide) (rc_fo_l (by unfold rc_fo; decide) (rc_fo_l (by unfold rc_fo; decide) (rc_fo_r (by unfold rc_fo; decide) (rc_fo_l (by unfold rc_fo; decide) (rc_fd_hi (by unfold rc_fo; decide) (by decide) (by decide)) (rc_fd_hi (by unfold rc_fo; decide) (by decide) (by decide))) (rc_fd_in 5 h_b (by unfold rc_fo; decide) (by decide))) (rc_fd_lo 5 h_a (by unfold rc_fo; decide) (by decide))) (by unfold rc_fd rc_sl; decide)) (rc_fd_lo 4 (rc_fd_w d (by unfold rc_fo; decide)) (by unfold rc_fo; decide) (by decide))) (rc_fd_lo 1 (rc_fd_w d (by unfold rc_fo; decide)) (by unfold rc_fo; decide) (by decide))) (by unfold rc_fd; decide))
theorem rc_ff_L20_31_31 {a b d : Int32} (h_a : rc_uv a < 2 ^ 5) (h_b : rc_uv b < 2 ^ 5) : rc_fd (rc_cBl 4 a b d) 31 31 = (rc_fd d 12 12) := by unfold rc_cBl; exact (rc_fo_l (by unfold rc_fo; decide) (rc_fo_l (by unfold rc_fo; decide) (rc_fo_l (by unfold rc_fo; decide) (rc_fo_l (by unfold rc_fo; decide) (rc_fo_l (by unfold rc_fo; decide) (rc_fo_l (by unfold rc_fo; decide) (rc_fo_l (by unfold rc_fo; decide) (rc_fd_in 1 (rc_fd_w d (by unfold rc_fo; decide)) (by unfold rc_fo; decide) (by decide)) (rc_fd_lo 6 (rc_fd_w d (by unfold rc_fo; decide)) (by unfold rc_fo; decide) (by decide))) (rc_fd_lo 5 h_b (by unfold rc_fo; decide) (by decide))) (rc_fd_lo 5 h_a (by unfold rc_fo; decide) (by decide))) (by unfold rc_fd rc_sl; decide)) (rc_fd_lo 4 (rc_fd_w d (by unfold rc_fo; decide)) (by unfold rc_fo; decide) (by decide))) (rc_fd_lo 1 (rc_fd_w d (by unfold rc_fo; decide)) (by unfold rc_fo; decide) (by decide))) (by unfold rc_fd; decide))
theorem rc_ff_L20_30_25 {a b d : Int32} (h_a : rc_uv a < 2 ^ 5) (h_b : rc_uv b < 2 ^ 5) : rc_fd (rc_cBl 4 a b d) 30 25 = (rc_fd d 10 5) := by unfold rc_cBl; exact (rc_fo_l (by unfold rc_fo; decide) (rc_fo_l (by unfold rc_fo; decide) (rc_fo_l (by unfold rc_fo; decide) (rc_fo_l (by unfold rc_fo; decide) (rc_fo_l (by unfold rc_fo; decide) (rc_fo_l (by unfold rc_fo; decide) (rc_fo_r (by unfold rc_fo; decide) (rc_fd_hi (by unfold rc_fo; decide) (by decide) (by decide)) (rc_fd_in 6 (rc_fd_w d (by unfold rc_fo; decide)) (by unfold rc_fo; decide) (by decide))) (rc_fd_lo 5 h_b (by unfold rc_fo; decide) (by decide))) (rc_fd_lo 5 h_a (by unfold rc_fo; decide) (by decide))) (by unfold rc_fd rc_sl; decide)) (rc_fd_lo 4 (rc_fd_w d (by unfold rc_fo; decide)) (by unfold rc_fo; decide) (by decide))) (rc_fd_lo 1 (rc_fd_w d (by unfold rc_fo; decide)) (by unfold rc_fo; decide) (by decide))) (by unfold rc_fd; decide))
theorem rc_ff_L20_11_8 {a b d : Int32} (h_a : rc_uv a < 2 ^ 5) (h_b : rc_uv b < 2 ^ 5) : rc_fd (rc_cBl 4 a b d) 11 8 = (rc_fd d 4 1) := by unfold rc_cBl; exact (rc_fo_l (by unfold rc_fo; decide) (rc_fo_l (by unfold rc_fo; decide) (rc_fo_r (by unfold rc_fo; decide) (rc_fo_l (by unfold rc_fo; decide) (rc_fo_l (by unfold rc_fo; decide) (rc_fo_l (by unfold rc_fo; decide) (rc_fo_l (by unfold rc_fo; decide) (rc_fd_hi (by unfold rc_fo; decide) (by decide) (by decide)) (rc_fd_hi (by unfold rc_fo; decide) (by decide) (by decide))) (rc_fd_hi (by unfold rc_fo; decide) (by decide) (by decide))) (rc_fd_hi (by unfold rc_fo; decide) (by decide) (by decide))) (by unfold rc_fd rc_sl; decide)) (rc_fd_in 4 (rc_fd_w d (by unfold rc_fo; decide)) (by unfold rc_fo; decide) (by decide))) (rc_fd_lo 1 (rc_fd_w d (by unfold rc_fo; decide)) (by unfold rc_fo; decide) (by decide))) (by unfold rc_fd; decide))
theorem rc_ff_L20_7_7 {a b d : Int32} (h_a : rc_uv a < 2 ^ 5) (h_b : rc_uv b < 2 ^ 5) : rc_fd (rc_cBl 4 a b d) 7 7 = (rc_fd d 11 11) := by unfold rc_cBl; exact (rc_fo_l (by unfold rc_fo; decide) (rc_fo_r (by unfold rc_fo; decide) (rc_fo_l (by unfold rc_fo; decide) (rc_fo_l (by unfold rc_fo; decide) (rc_fo_l (by unfold rc_fo; decide) (rc_fo_l (by unfold rc_fo; decide) (rc_fo_l (by unfold rc_fo; decide) (rc_fd_hi (by unfold rc_fo; decide) (by decide) (by decide)) (rc_fd_hi (by unfold rc_fo; decide) (by decide) (by decide))) (rc_fd_hi (by unfold rc_fo; decide) (by decide) (by decide))) (rc_fd_hi (by unfold rc_fo; decide) (by decide) (by decide))) (by unfold rc_fd rc_sl; decide)) (rc_fd_hi (by unfold rc_fo; decide) (by decide) (by decide))) (rc_fd_in 1 (rc_fd_w d (by unfold rc_fo; decide)) (by unfold rc_fo; decide) (by decide))) (by unfold rc_fd; decide))
end
section
/-! the decoder's walks, quadrant by quadrant -/
theorem rc_ne_e {x y z : Int32} (e : x = y) (h : ¬ y = z) : ¬ x = z := by rw [e]; exact h
theorem rc_nl_e {x y z : Int32} (e : x = y) (h : ¬ y < z) : ¬ x < z := by rw [e]; exact h
theorem rc_gt_e {x y z : Int32} (e : x = y) (h : z < y) : z < x := by rw [e]; exact h
theorem rc_ng_e {x y z : Int32} (e : x = y) (h : ¬ z < y) : ¬ z < x := by rw [e]; exact h
def rc_six (h : Int32) : Int32 := rc_sg (rc_sl (rc_fd h 12 12) 5 ||| rc_fd h 6 2) 6
def rc_i4 (h : Int32) : Int32 := ((rc_sl (rc_fd h 12 11) 4 ||| rc_sl (rc_fd h 10 7) 6) ||| rc_sl (rc_fd h 6 6) 2) ||| rc_sl (rc_fd h 5 5) 3
def rc_imm (h : Int32) : Int32 := (rc_sl (rc_fd h 12 10) 3 ||| rc_sl (rc_fd h 6 6) 2) ||| rc_sl (rc_fd h 5 5) 6
def rc_jof (h : Int32) : Int32 := rc_sg (((((((rc_sl (rc_fd h 12 12) 11 ||| rc_sl (rc_fd h 11 11) 4) ||| rc_sl (rc_fd h 10 9) 8) ||| rc_sl (rc_fd h 8 8) 10) ||| rc_sl (rc_fd h 7 7) 6) ||| rc_sl (rc_fd h 6 6) 7) ||| rc_sl (rc_fd h 5 3) 1) ||| rc_sl (rc_fd h 2 2) 5) 12
def rc_stp (h : Int32) : Int32 := rc_sg ((((rc_sl (rc_fd h 12 12) 9 ||| rc_sl (rc_fd h 6 6) 4) ||| rc_sl (rc_fd h 5 5) 6) ||| rc_sl (rc_fd h 4 3) 7) ||| rc_sl (rc_fd h 2 2) 5) 10
def rc_bof (h : Int32) : Int32 := rc_sg ((((rc_sl (rc_fd h 12 12) 8 ||| rc_sl (rc_fd h 11 10) 3) ||| rc_sl (rc_fd h 6 5) 6) ||| rc_sl (rc_fd h 4 3) 1) ||| rc_sl (rc_fd h 2 2) 5) 9
def rc_ild (h : Int32) : Int32 := (rc_sl (rc_fd h 12 12) 5 ||| rc_sl (rc_fd h 6 4) 2) ||| rc_sl (rc_fd h 3 2) 6
def rc_ist (h : Int32) : Int32 := rc_sl (rc_fd h 12 9) 2 ||| rc_sl (rc_fd h 8 7) 6
def rc_ljo (w : Int32) : Int32 := rc_sg (((rc_sl (rc_fd w 31 31) 20 ||| rc_sl (rc_fd w 30 21) 1) ||| rc_sl (rc_fd w 20 20) 11) ||| rc_sl (rc_fd w 19 12) 12) 21
def rc_lbo (w : Int32) : Int32 := rc_sg (((rc_sl (rc_fd w 31 31) 12 ||| rc_sl (rc_fd w 30 25) 5) ||| rc_sl (rc_fd w 11 8) 1) ||| rc_sl (rc_fd w 7 7) 11) 13
section
variable {mI mL mS it rs ii iB gr uo ua ub uc : Int32} {so sa sb sc lp ln im ad lb : Nat → Int32} {post : SX → Prop} {h p : Int32}
theorem rc_d0_g (H : post (mI, mL, mS, it, rs, ii, iB, gr, 0, 0, 0, 0, so, sa, sb, sc, lp, ln, im, ad, lb)) : wpX_decodeQuadrant0 post (mI, mL, mS, it, rs, ii, iB, gr, uo, ua, ub, uc, so, sa, sb, sc, lp, ln, im, ad, lb) 0 := br_t rfl H
theorem rc_d0_0 (hz : ¬ h = 0) (e : rc_fd h 15 13 = 0) (H : post (mI, mL, mS, it, rs, ii, iB, gr, 7, (8 + rc_fd h 4 2), 2, (rc_i4 h), so, sa, sb, sc, lp, ln, im, ad, lb)) : wpX_decodeQuadrant0 post (mI, mL, mS, it, rs, ii, iB, gr, uo, ua, ub, uc, so, sa, sb, sc, lp, ln, im, ad, lb) h :=
  br_f hz (nm_e (br_t e (nm_e H)))
theorem rc_d0_2 (hz : ¬ h = 0) (e : rc_fd h 15 13 = 2) (H : post (mI, mL, mS, it, rs, ii, iB, gr, 13, (8 + rc_fd h 4 2), (8 + rc_fd h 9 7), (rc_imm h), so, sa, sb, sc, lp, ln, im, ad, lb)) : wpX_decodeQuadrant0 post (mI, mL, mS, it, rs, ii, iB, gr, uo, ua, ub, uc, so, sa, sb, sc, lp, ln, im, ad, lb) h :=
  br_f hz (nm_e (br_f (rc_ne_e e (by decide)) (nm_e (nm_e (br_t e H)))))
theorem rc_d0_6 (hz : ¬ h = 0) (e : rc_fd h 15 13 = 6) (H : post (mI, mL, mS, it, rs, ii, iB, gr, 14, (8 + rc_fd h 4 2), (8 + rc_fd h 9 7), (rc_imm h), so, sa, sb, sc, lp, ln, im, ad, lb)) : wpX_decodeQuadrant0 post (mI, mL, mS, it, rs, ii, iB, gr, uo, ua, ub, uc, so, sa, sb, sc, lp, ln, im, ad, lb) h :=
  br_f hz (nm_e (br_f (rc_ne_e e (by decide)) (nm_e (nm_e (br_f (rc_ne_e e (by decide)) H)))))
theorem rc_d1_0 (e : rc_fd h 15 13 = 0) (H : post (mI, mL, mS, it, rs, ii, iB, gr, 7, (rc_fd h 11 7), (rc_fd h 11 7), (rc_six h), so, sa, sb, sc, lp, ln, im, ad, lb)) : wpX_decodeQuadrant1 post (mI, mL, mS, it, rs, ii, iB, gr, uo, ua, ub, uc, so, sa, sb, sc, lp, ln, im, ad, lb) h p :=
  nm_e (nm_e (br_f (rc_nl_e e (by decide)) (br_f (rc_ng_e e (by decide)) (br_t e (H)))))
theorem rc_d1_1 (e : rc_fd h 15 13 = 1) (H : post (mI, mL, mS, it, rs, ii, iB, gr, 17, 1, (p + rc_jof h), 0, so, sa, sb, sc, lp, ln, im, ad, lb)) : wpX_decodeQuadrant1 post (mI, mL, mS, it, rs, ii, iB, gr, uo, ua, ub, uc, so, sa, sb, sc, lp, ln, im, ad, lb) h p :=
  nm_e (nm_e (br_f (rc_nl_e e (by decide)) (br_f (rc_ng_e e (by decide)) (br_f (rc_ne_e e (by decide)) (br_t e (nm_e (nm_e (nm_e H))))))))
theorem rc_d1_2 (e : rc_fd h 15 13 = 2) (H : post (mI, mL, mS, it, rs, ii, iB, gr, 7, (rc_fd h 11 7), 0, (rc_six h), so, sa, sb, sc, lp, ln, im, ad, lb)) : wpX_decodeQuadrant1 post (mI, mL, mS, it, rs, ii, iB, gr, uo, ua, ub, uc, so, sa, sb, sc, lp, ln, im, ad, lb) h p :=
  nm_e (nm_e (br_f (rc_nl_e e (by decide)) (br_f (rc_ng_e e (by decide)) (br_f (rc_ne_e e (by decide)) (br_f (rc_ne_e e (by decide)) (br_t e (H)))))))
theorem rc_d1_3s (e : rc_fd h 15 13 = 3) (e2 : rc_fd h 11 7 = 2) (H : post (mI, mL, mS, it, rs, ii, iB, gr, 7, 2, 2, (rc_stp h), so, sa, sb, sc, lp, ln, im, ad, lb)) : wpX_decodeQuadrant1 post (mI, mL, mS, it, rs, ii, iB, gr, uo, ua, ub, uc, so, sa, sb, sc, lp, ln, im, ad, lb) h p :=
  nm_e (nm_e (br_f (rc_nl_e e (by decide)) (br_f (rc_ng_e e (by decide)) (br_f (rc_ne_e e (by decide)) (br_f (rc_ne_e e (by decide)) (br_f (rc_ne_e e (by decide)) (br_t e (br_t e2 (nm_e (nm_e H))))))))))
theorem rc_d1_3u (e : rc_fd h 15 13 = 3) (e2 : ¬ rc_fd h 11 7 = 2) (H : post (mI, mL, mS, it, rs, ii, iB, gr, 15, (rc_fd h 11 7), (rc_six h), 0, so, sa, sb, sc, lp, ln, im, ad, lb)) : wpX_decodeQuadrant1 post (mI, mL, mS, it, rs, ii, iB, gr, uo, ua, ub, uc, so, sa, sb, sc, lp, ln, im, ad, lb) h p :=
  nm_e (nm_e (br_f (rc_nl_e e (by decide)) (br_f (rc_ng_e e (by decide)) (br_f (rc_ne_e e (by decide)) (br_f (rc_ne_e e (by decide)) (br_f (rc_ne_e e (by decide)) (br_t e (br_f e2 H))))))))
theorem rc_d1_40 (e : rc_fd h 15 13 = 4) (e2 : rc_fd h 11 10 = 0) (H : post (mI, mL, mS, it, rs, ii, iB, gr, 11, (8 + rc_fd h 9 7), (8 + rc_fd h 9 7), (rc_six h &&& 31), so, sa, sb, sc, lp, ln, im, ad, lb)) : wpX_decodeQuadrant1 post (mI, mL, mS, it, rs, ii, iB, gr, uo, ua, ub, uc, so, sa, sb, sc, lp, ln, im, ad, lb) h p :=
  nm_e (nm_e (br_f (rc_nl_e e (by decide)) (br_f (rc_ng_e e (by decide)) (br_f (rc_ne_e e (by decide)) (br_f (rc_ne_e e (by decide)) (br_f (rc_ne_e e (by decide)) (br_f (rc_ne_e e (by decide)) (br_t e (nm_e (br_f (rc_nl_e e2 (by decide)) (br_f (rc_ng_e e2 (by decide)) (br_t e2 H))))))))))))
theorem rc_d1_41 (e : rc_fd h 15 13 = 4) (e2 : rc_fd h 11 10 = 1) (H : post (mI, mL, mS, it, rs, ii, iB, gr, 12, (8 + rc_fd h 9 7), (8 + rc_fd h 9 7), (rc_six h &&& 31), so, sa, sb, sc, lp, ln, im, ad, lb)) : wpX_decodeQuadrant1 post (mI, mL, mS, it, rs, ii, iB, gr, uo, ua, ub, uc, so, sa, sb, sc, lp, ln, im, ad, lb) h p :=
  nm_e (nm_e (br_f (rc_nl_e e (by decide)) (br_f (rc_ng_e e (by decide)) (br_f (rc_ne_e e (by decide)) (br_f (rc_ne_e e (by decide)) (br_f (rc_ne_e e (by decide)) (br_f (rc_ne_e e (by decide)) (br_t e (nm_e (br_f (rc_nl_e e2 (by decide)) (br_f (rc_ng_e e2 (by decide)) (br_f (rc_ne_e e2 (by decide)) (br_t e2 H)))))))))))))
theorem rc_d1_42 (e : rc_fd h 15 13 = 4) (e2 : rc_fd h 11 10 = 2) (H : post (mI, mL, mS, it, rs, ii, iB, gr, 8, (8 + rc_fd h 9 7), (8 + rc_fd h 9 7), (rc_six h), so, sa, sb, sc, lp, ln, im, ad, lb)) : wpX_decodeQuadrant1 post (mI, mL, mS, it, rs, ii, iB, gr, uo, ua, ub, uc, so, sa, sb, sc, lp, ln, im, ad, lb) h p :=
  nm_e (nm_e (br_f (rc_nl_e e (by decide)) (br_f (rc_ng_e e (by decide)) (br_f (rc_ne_e e (by decide)) (br_f (rc_ne_e e (by decide)) (br_f (rc_ne_e e (by decide)) (br_f (rc_ne_e e (by decide)) (br_t e (nm_e (br_f (rc_nl_e e2 (by decide)) (br_f (rc_ng_e e2 (by decide)) (br_f (rc_ne_e e2 (by decide)) (br_f (rc_ne_e e2 (by decide)) (br_t e2 H))))))))))))))
theorem rc_d1_43 (e : rc_fd h 15 13 = 4) (e2 : rc_fd h 11 10 = 3) (H : post (mI, mL, mS, it, rs, ii, iB, gr, (2 + rc_fd h 6 5), (8 + rc_fd h 9 7), (8 + rc_fd h 9 7), (8 + rc_fd h 4 2), so, sa, sb, sc, lp, ln, im, ad, lb)) : wpX_decodeQuadrant1 post (mI, mL, mS, it, rs, ii, iB, gr, uo, ua, ub, uc, so, sa, sb, sc, lp, ln, im, ad, lb) h p :=
  nm_e (nm_e (br_f (rc_nl_e e (by decide)) (br_f (rc_ng_e e (by decide)) (br_f (rc_ne_e e (by decide)) (br_f (rc_ne_e e (by decide)) (br_f (rc_ne_e e (by decide)) (br_f (rc_ne_e e (by decide)) (br_t e (nm_e (br_f (rc_nl_e e2 (by decide)) (br_t (rc_gt_e e2 (by decide)) (nm_e (nm_e H)))))))))))))
theorem rc_d1_5 (e : rc_fd h 15 13 = 5) (H : post (mI, mL, mS, it, rs, ii, iB, gr, 17, 0, (p + rc_jof h), 0, so, sa, sb, sc, lp, ln, im, ad, lb)) : wpX_decodeQuadrant1 post (mI, mL, mS, it, rs, ii, iB, gr, uo, ua, ub, uc, so, sa, sb, sc, lp, ln, im, ad, lb) h p :=
  nm_e (nm_e (br_f (rc_nl_e e (by decide)) (br_f (rc_ng_e e (by decide)) (br_f (rc_ne_e e (by decide)) (br_f (rc_ne_e e (by decide)) (br_f (rc_ne_e e (by decide)) (br_f (rc_ne_e e (by decide)) (br_f (rc_ne_e e (by decide)) (br_t e (nm_e (nm_e (nm_e H))))))))))))
theorem rc_d1_6 (e : rc_fd h 15 13 = 6) (H : post (mI, mL, mS, it, rs, ii, iB, gr, 18, (8 + rc_fd h 9 7), 0, (p + rc_bof h), so, sa, sb, sc, lp, ln, im, ad, lb)) : wpX_decodeQuadrant1 post (mI, mL, mS, it, rs, ii, iB, gr, uo, ua, ub, uc, so, sa, sb, sc, lp, ln, im, ad, lb) h p :=
  nm_e (nm_e (br_f (rc_nl_e e (by decide)) (br_t (rc_gt_e e (by decide)) (nm_e (br_t e (nm_e (nm_e (nm_e H))))))))
theorem rc_d1_7 (e : rc_fd h 15 13 = 7) (H : post (mI, mL, mS, it, rs, ii, iB, gr, 19, (8 + rc_fd h 9 7), 0, (p + rc_bof h), so, sa, sb, sc, lp, ln, im, ad, lb)) : wpX_decodeQuadrant1 post (mI, mL, mS, it, rs, ii, iB, gr, uo, ua, ub, uc, so, sa, sb, sc, lp, ln, im, ad, lb) h p :=
  nm_e (nm_e (br_f (rc_nl_e e (by decide)) (br_t (rc_gt_e e (by decide)) (nm_e (br_f (rc_ne_e e (by decide)) (nm_e (nm_e (nm_e H))))))))
theorem rc_d2_0 (e : rc_fd h 15 13 = 0) (H : post (mI, mL, mS, it, rs, ii, iB, gr, 10, (rc_fd h 11 7), (rc_fd h 11 7), (rc_fd h 6 2), so, sa, sb, sc, lp, ln, im, ad, lb)) : wpX_decodeQuadrant2 post (mI, mL, mS, it, rs, ii, iB, gr, uo, ua, ub, uc, so, sa, sb, sc, lp, ln, im, ad, lb) h :=
  br_f (rc_nl_e e (by decide)) (br_f (rc_ng_e e (by decide)) (br_t e H))
theorem rc_d2_2 (e : rc_fd h 15 13 = 2) (H : post (mI, mL, mS, it, rs, ii, iB, gr, 13, (rc_fd h 11 7), 2, (rc_ild h), so, sa, sb, sc, lp, ln, im, ad, lb)) : wpX_decodeQuadrant2 post (mI, mL, mS, it, rs, ii, iB, gr, uo, ua, ub, uc, so, sa, sb, sc, lp, ln, im, ad, lb) h :=
  br_f (rc_nl_e e (by decide)) (br_f (rc_ng_e e (by decide)) (br_f (rc_ne_e e (by decide)) (br_f (rc_ne_e e (by decide)) (br_t e (nm_e H)))))
theorem rc_d2_4 (e : rc_fd h 15 13 = 4) (H : wpX_decodeAddOrJump post (mI, mL, mS, it, rs, ii, iB, gr, uo, ua, ub, uc, so, sa, sb, sc, lp, ln, im, ad, lb) (rc_fd h 11 7) (rc_fd h 6 2) (rc_fd h 12 12)) : wpX_decodeQuadrant2 post (mI, mL, mS, it, rs, ii, iB, gr, uo, ua, ub, uc, so, sa, sb, sc, lp, ln, im, ad, lb) h :=
  br_f (rc_nl_e e (by decide)) (br_f (rc_ng_e e (by decide)) (br_f (rc_ne_e e (by decide)) (br_f (rc_ne_e e (by decide)) (br_f (rc_ne_e e (by decide)) (br_f (rc_ne_e e (by decide)) (br_t e H))))))
theorem rc_d2_6 (e : rc_fd h 15 13 = 6) (H : post (mI, mL, mS, it, rs, ii, iB, gr, 14, (rc_fd h 6 2), 2, (rc_ist h), so, sa, sb, sc, lp, ln, im, ad, lb)) : wpX_decodeQuadrant2 post (mI, mL, mS, it, rs, ii, iB, gr, uo, ua, ub, uc, so, sa, sb, sc, lp, ln, im, ad, lb) h :=
  br_f (rc_nl_e e (by decide)) (br_t (rc_gt_e e (by decide)) (nm_e H))
theorem rc_daj_a {r s : Int32} (hs : ¬ s = 0) (H : post (mI, mL, mS, it, rs, ii, iB, gr, 1, r, r, s, so, sa, sb, sc, lp, ln, im, ad, lb)) : wpX_decodeAddOrJump post (mI, mL, mS, it, rs, ii, iB, gr, uo, ua, ub, uc, so, sa, sb, sc, lp, ln, im, ad, lb) r s 1 := br_f hs (br_t rfl H)
theorem rc_daj_m {r s : Int32} (hs : ¬ s = 0) (H : post (mI, mL, mS, it, rs, ii, iB, gr, 1, r, 0, s, so, sa, sb, sc, lp, ln, im, ad, lb)) : wpX_decodeAddOrJump post (mI, mL, mS, it, rs, ii, iB, gr, uo, ua, ub, uc, so, sa, sb, sc, lp, ln, im, ad, lb) r s 0 := br_f hs (br_f (by decide) H)
theorem rc_daj_j {r l : Int32} (hr : ¬ r = 0) (H : post (mI, mL, mS, it, rs, ii, iB, gr, 16, l, r, 0, so, sa, sb, sc, lp, ln, im, ad, lb)) : wpX_decodeAddOrJump post (mI, mL, mS, it, rs, ii, iB, gr, uo, ua, ub, uc, so, sa, sb, sc, lp, ln, im, ad, lb) r 0 l := br_t rfl (br_f hr H)
theorem rc_daj_e {l : Int32} (H : post (mI, mL, mS, it, rs, ii, iB, gr, 21, 0, 0, 0, so, sa, sb, sc, lp, ln, im, ad, lb)) : wpX_decodeAddOrJump post (mI, mL, mS, it, rs, ii, iB, gr, uo, ua, ub, uc, so, sa, sb, sc, lp, ln, im, ad, lb) 0 0 l := br_t rfl (br_t rfl H)
end
/-! the op of a long form -/
section
variable {mI mL mS it rs ii iB gr uo ua ub uc : Int32} {so sa sb sc lp ln im ad lb : Nat → Int32} {post : Int32 → Prop} {w : Int32}
theorem rc_gl_e {x y z : Int32} (e : x = y) (h : y < z) : x < z := by rw [e]; exact h
theorem rc_lop_1 (eo : w &&& 127 = 51) (es : rc_fd w 30 30 = 0) (ef : rc_fd w 14 12 = 0) (H : post 1) : wpX_longOp post (mI, mL, mS, it, rs, ii, iB, gr, uo, ua, ub, uc, so, sa, sb, sc, lp, ln, im, ad, lb) w :=
  br_f (rc_ne_e es (by decide)) (nm_e (br_f (rc_ne_e eo (by decide)) (br_f (rc_ne_e eo (by decide)) (br_f (rc_ne_e eo (by decide)) (br_t eo (br_t (rc_gl_e ef (by decide)) (br_t rfl H)))))))
theorem rc_lop_2 (eo : w &&& 127 = 51) (es : rc_fd w 30 30 = 1) (ef : rc_fd w 14 12 = 0) (H : post 2) : wpX_longOp post (mI, mL, mS, it, rs, ii, iB, gr, uo, ua, ub, uc, so, sa, sb, sc, lp, ln, im, ad, lb) w :=
  br_t es (nm_e (br_f (rc_ne_e eo (by decide)) (br_f (rc_ne_e eo (by decide)) (br_f (rc_ne_e eo (by decide)) (br_t eo (br_t (rc_gl_e ef (by decide)) (br_f (by decide) H)))))))
theorem rc_lop_3 (eo : w &&& 127 = 51) (ef : rc_fd w 14 12 = 4) (H : post 3) : wpX_longOp post (mI, mL, mS, it, rs, ii, iB, gr, uo, ua, ub, uc, so, sa, sb, sc, lp, ln, im, ad, lb) w :=
  br_c (fun _ => nm_e (br_f (rc_ne_e eo (by decide)) (br_f (rc_ne_e eo (by decide)) (br_f (rc_ne_e eo (by decide)) (br_t eo (br_f (rc_nl_e ef (by decide)) (br_f (rc_ng_e ef (by decide)) (br_f (rc_ne_e ef (by decide)) (br_f (rc_ne_e ef (by decide)) (br_t ef H)))))))))) (fun _ => nm_e (br_f (rc_ne_e eo (by decide)) (br_f (rc_ne_e eo (by decide)) (br_f (rc_ne_e eo (by decide)) (br_t eo (br_f (rc_nl_e ef (by decide)) (br_f (rc_ng_e ef (by decide)) (br_f (rc_ne_e ef (by decide)) (br_f (rc_ne_e ef (by decide)) (br_t ef H))))))))))
theorem rc_lop_4 (eo : w &&& 127 = 51) (ef : rc_fd w 14 12 = 6) (H : post 4) : wpX_longOp post (mI, mL, mS, it, rs, ii, iB, gr, uo, ua, ub, uc, so, sa, sb, sc, lp, ln, im, ad, lb) w :=
  br_c (fun _ => nm_e (br_f (rc_ne_e eo (by decide)) (br_f (rc_ne_e eo (by decide)) (br_f (rc_ne_e eo (by decide)) (br_t eo (br_f (rc_nl_e ef (by decide)) (br_f (rc_ng_e ef (by decide)) (br_f (rc_ne_e ef (by decide)) (br_f (rc_ne_e ef (by decide)) (br_f (rc_ne_e ef (by decide)) (br_f (rc_ne_e ef (by decide)) (br_t ef H)))))))))))) (fun _ => nm_e (br_f (rc_ne_e eo (by decide)) (br_f (rc_ne_e eo (by decide)) (br_f (rc_ne_e eo (by decide)) (br_t eo (br_f (rc_nl_e ef (by decide)) (br_f (rc_ng_e ef (by decide)) (br_f (rc_ne_e ef (by decide)) (br_f (rc_ne_e ef (by decide)) (br_f (rc_ne_e ef (by decide)) (br_f (rc_ne_e ef (by decide)) (br_t ef H))))))))))))
theorem rc_lop_5 (eo : w &&& 127 = 51) (ef : rc_fd w 14 12 = 7) (H : post 5) : wpX_longOp post (mI, mL, mS, it, rs, ii, iB, gr, uo, ua, ub, uc, so, sa, sb, sc, lp, ln, im, ad, lb) w :=
  br_c (fun _ => nm_e (br_f (rc_ne_e eo (by decide)) (br_f (rc_ne_e eo (by decide)) (br_f (rc_ne_e eo (by decide)) (br_t eo (br_f (rc_nl_e ef (by decide)) (br_f (rc_ng_e ef (by decide)) (br_f (rc_ne_e ef (by decide)) (br_f (rc_ne_e ef (by decide)) (br_f (rc_ne_e ef (by decide)) (br_f (rc_ne_e ef (by decide)) (br_f (rc_ne_e ef (by decide)) (br_t ef H))))))))))))) (fun _ => nm_e (br_f (rc_ne_e eo (by decide)) (br_f (rc_ne_e eo (by decide)) (br_f (rc_ne_e eo (by decide)) (br_t eo (br_f (rc_nl_e ef (by decide)) (br_f (rc_ng_e ef (by decide)) (br_f (rc_ne_e ef (by decide)) (br_f (rc_ne_e ef (by decide)) (br_f (rc_ne_e ef (by decide)) (br_f (rc_ne_e ef (by decide)) (br_f (rc_ne_e ef (by decide)) (br_t ef H)))))))))))))
theorem rc_lop_6 (eo : w &&& 127 = 51) (ef : rc_fd w 14 12 = 2) (H : post 6) : wpX_longOp post (mI, mL, mS, it, rs, ii, iB, gr, uo, ua, ub, uc, so, sa, sb, sc, lp, ln, im, ad, lb) w :=
  br_c (fun _ => nm_e (br_f (rc_ne_e eo (by decide)) (br_f (rc_ne_e eo (by decide)) (br_f (rc_ne_e eo (by decide)) (br_t eo (br_f (rc_nl_e ef (by decide)) (br_f (rc_ng_e ef (by decide)) (br_t ef H)))))))) (fun _ => nm_e (br_f (rc_ne_e eo (by decide)) (br_f (rc_ne_e eo (by decide)) (br_f (rc_ne_e eo (by decide)) (br_t eo (br_f (rc_nl_e ef (by decide)) (br_f (rc_ng_e ef (by decide)) (br_t ef H))))))))
theorem rc_lop_7 (eo : w &&& 127 = 19) (ef : rc_fd w 14 12 = 0) (H : post 7) : wpX_longOp post (mI, mL, mS, it, rs, ii, iB, gr, uo, ua, ub, uc, so, sa, sb, sc, lp, ln, im, ad, lb) w :=
  br_c (fun _ => nm_e (br_f (rc_ne_e eo (by decide)) (br_t eo (br_t (rc_gl_e ef (by decide)) H)))) (fun _ => nm_e (br_f (rc_ne_e eo (by decide)) (br_t eo (br_t (rc_gl_e ef (by decide)) H))))
theorem rc_lop_8 (eo : w &&& 127 = 19) (ef : rc_fd w 14 12 = 7) (H : post 8) : wpX_longOp post (mI, mL, mS, it, rs, ii, iB, gr, uo, ua, ub, uc, so, sa, sb, sc, lp, ln, im, ad, lb) w :=
  br_c (fun _ => nm_e (br_f (rc_ne_e eo (by decide)) (br_t eo (br_f (rc_nl_e ef (by decide)) (br_f (rc_ng_e ef (by decide)) (br_f (rc_ne_e ef (by decide)) (br_f (rc_ne_e ef (by decide)) (br_f (rc_ne_e ef (by decide)) (br_f (rc_ne_e ef (by decide)) (br_f (rc_ne_e ef (by decide)) (br_f (rc_ne_e ef (by decide)) (br_t ef (H))))))))))))) (fun _ => nm_e (br_f (rc_ne_e eo (by decide)) (br_t eo (br_f (rc_nl_e ef (by decide)) (br_f (rc_ng_e ef (by decide)) (br_f (rc_ne_e ef (by decide)) (br_f (rc_ne_e ef (by decide)) (br_f (rc_ne_e ef (by decide)) (br_f (rc_ne_e ef (by decide)) (br_f (rc_ne_e ef (by decide)) (br_f (rc_ne_e ef (by decide)) (br_t ef (H)))))))))))))
theorem rc_lop_9 (eo : w &&& 127 = 19) (ef : rc_fd w 14 12 = 4) (H : post 9) : wpX_longOp post (mI, mL, mS, it, rs, ii, iB, gr, uo, ua, ub, uc, so, sa, sb, sc, lp, ln, im, ad, lb) w :=
  br_c (fun _ => nm_e (br_f (rc_ne_e eo (by decide)) (br_t eo (br_f (rc_nl_e ef (by decide)) (br_f (rc_ng_e ef (by decide)) (br_f (rc_ne_e ef (by decide)) (br_f (rc_ne_e ef (by decide)) (br_f (rc_ne_e ef (by decide)) (br_t ef (H)))))))))) (fun _ => nm_e (br_f (rc_ne_e eo (by decide)) (br_t eo (br_f (rc_nl_e ef (by decide)) (br_f (rc_ng_e ef (by decide)) (br_f (rc_ne_e ef (by decide)) (br_f (rc_ne_e ef (by decide)) (br_f (rc_ne_e ef (by decide)) (br_t ef (H))))))))))
theorem rc_lop_10 (eo : w &&& 127 = 19) (ef : rc_fd w 14 12 = 1) (H : post 10) : wpX_longOp post (mI, mL, mS, it, rs, ii, iB, gr, uo, ua, ub, uc, so, sa, sb, sc, lp, ln, im, ad, lb) w :=
  br_c (fun _ => nm_e (br_f (rc_ne_e eo (by decide)) (br_t eo (br_f (rc_nl_e ef (by decide)) (br_f (rc_ng_e ef (by decide)) (br_t ef (H))))))) (fun _ => nm_e (br_f (rc_ne_e eo (by decide)) (br_t eo (br_f (rc_nl_e ef (by decide)) (br_f (rc_ng_e ef (by decide)) (br_t ef (H)))))))
theorem rc_lop_11 (eo : w &&& 127 = 19) (es : rc_fd w 30 30 = 0) (ef : rc_fd w 14 12 = 5) (H : post 11) : wpX_longOp post (mI, mL, mS, it, rs, ii, iB, gr, uo, ua, ub, uc, so, sa, sb, sc, lp, ln, im, ad, lb) w :=
  br_f (rc_ne_e es (by decide)) (nm_e (br_f (rc_ne_e eo (by decide)) (br_t eo (br_f (rc_nl_e ef (by decide)) (br_f (rc_ng_e ef (by decide)) (br_f (rc_ne_e ef (by decide)) (br_f (rc_ne_e ef (by decide)) (br_f (rc_ne_e ef (by decide)) (br_f (rc_ne_e ef (by decide)) (br_t ef (br_t rfl H)))))))))))
theorem rc_lop_12 (eo : w &&& 127 = 19) (es : rc_fd w 30 30 = 1) (ef : rc_fd w 14 12 = 5) (H : post 12) : wpX_longOp post (mI, mL, mS, it, rs, ii, iB, gr, uo, ua, ub, uc, so, sa, sb, sc, lp, ln, im, ad, lb) w :=
  br_t es (nm_e (br_f (rc_ne_e eo (by decide)) (br_t eo (br_f (rc_nl_e ef (by decide)) (br_f (rc_ng_e ef (by decide)) (br_f (rc_ne_e ef (by decide)) (br_f (rc_ne_e ef (by decide)) (br_f (rc_ne_e ef (by decide)) (br_f (rc_ne_e ef (by decide)) (br_t ef (br_f (by decide) H)))))))))))
theorem rc_lop_13 (eo : w &&& 127 = 3) (H : post 13) : wpX_longOp post (mI, mL, mS, it, rs, ii, iB, gr, uo, ua, ub, uc, so, sa, sb, sc, lp, ln, im, ad, lb) w :=
  br_c (fun _ => nm_e (br_t eo (H))) (fun _ => nm_e (br_t eo (H)))
theorem rc_lop_14 (eo : w &&& 127 = 35) (H : post 14) : wpX_longOp post (mI, mL, mS, it, rs, ii, iB, gr, uo, ua, ub, uc, so, sa, sb, sc, lp, ln, im, ad, lb) w :=
  br_c (fun _ => nm_e (br_f (rc_ne_e eo (by decide)) (br_f (rc_ne_e eo (by decide)) (br_t eo (H))))) (fun _ => nm_e (br_f (rc_ne_e eo (by decide)) (br_f (rc_ne_e eo (by decide)) (br_t eo (H)))))
theorem rc_lop_15 (eo : w &&& 127 = 55) (H : post 15) : wpX_longOp post (mI, mL, mS, it, rs, ii, iB, gr, uo, ua, ub, uc, so, sa, sb, sc, lp, ln, im, ad, lb) w :=
  br_c (fun _ => nm_e (br_f (rc_ne_e eo (by decide)) (br_f (rc_ne_e eo (by decide)) (br_f (rc_ne_e eo (by decide)) (br_f (rc_ne_e eo (by decide)) (br_t eo (H))))))) (fun _ => nm_e (br_f (rc_ne_e eo (by decide)) (br_f (rc_ne_e eo (by decide)) (br_f (rc_ne_e eo (by decide)) (br_f (rc_ne_e eo (by decide)) (br_t eo (H)))))))
theorem rc_lop_16 (eo : w &&& 127 = 103) (H : post 16) : wpX_longOp post (mI, mL, mS, it, rs, ii, iB, gr, uo, ua, ub, uc, so, sa, sb, sc, lp, ln, im, ad, lb) w :=
  br_c (fun _ => nm_e (br_f (rc_ne_e eo (by decide)) (br_f (rc_ne_e eo (by decide)) (br_f (rc_ne_e eo (by decide)) (br_f (rc_ne_e eo (by decide)) (br_f (rc_ne_e eo (by decide)) (br_f (rc_ne_e eo (by decide)) (br_t eo (H))))))))) (fun _ => nm_e (br_f (rc_ne_e eo (by decide)) (br_f (rc_ne_e eo (by decide)) (br_f (rc_ne_e eo (by decide)) (br_f (rc_ne_e eo (by decide)) (br_f (rc_ne_e eo (by decide)) (br_f (rc_ne_e eo (by decide)) (br_t eo (H)))))))))
theorem rc_lop_17 (eo : w &&& 127 = 111) (H : post 17) : wpX_longOp post (mI, mL, mS, it, rs, ii, iB, gr, uo, ua, ub, uc, so, sa, sb, sc, lp, ln, im, ad, lb) w :=
  br_c (fun _ => nm_e (br_f (rc_ne_e eo (by decide)) (br_f (rc_ne_e eo (by decide)) (br_f (rc_ne_e eo (by decide)) (br_f (rc_ne_e eo (by decide)) (br_f (rc_ne_e eo (by decide)) (br_f (rc_ne_e eo (by decide)) (br_f (rc_ne_e eo (by decide)) (br_t eo (H)))))))))) (fun _ => nm_e (br_f (rc_ne_e eo (by decide)) (br_f (rc_ne_e eo (by decide)) (br_f (rc_ne_e eo (by decide)) (br_f (rc_ne_e eo (by decide)) (br_f (rc_ne_e eo (by decide)) (br_f (rc_ne_e eo (by decide)) (br_f (rc_ne_e eo (by decide)) (br_t eo (H))))))))))
theorem rc_lop_18 (eo : w &&& 127 = 99) (ef : rc_fd w 14 12 = 0) (H : post 18) : wpX_longOp post (mI, mL, mS, it, rs, ii, iB, gr, uo, ua, ub, uc, so, sa, sb, sc, lp, ln, im, ad, lb) w :=
  br_c (fun _ => nm_e (br_f (rc_ne_e eo (by decide)) (br_f (rc_ne_e eo (by decide)) (br_f (rc_ne_e eo (by decide)) (br_f (rc_ne_e eo (by decide)) (br_f (rc_ne_e eo (by decide)) (br_t eo (br_t ef H)))))))) (fun _ => nm_e (br_f (rc_ne_e eo (by decide)) (br_f (rc_ne_e eo (by decide)) (br_f (rc_ne_e eo (by decide)) (br_f (rc_ne_e eo (by decide)) (br_f (rc_ne_e eo (by decide)) (br_t eo (br_t ef H))))))))
theorem rc_lop_19 (eo : w &&& 127 = 99) (ef : rc_fd w 14 12 = 1) (H : post 19) : wpX_longOp post (mI, mL, mS, it, rs, ii, iB, gr, uo, ua, ub, uc, so, sa, sb, sc, lp, ln, im, ad, lb) w :=
  br_c (fun _ => nm_e (br_f (rc_ne_e eo (by decide)) (br_f (rc_ne_e eo (by decide)) (br_f (rc_ne_e eo (by decide)) (br_f (rc_ne_e eo (by decide)) (br_f (rc_ne_e eo (by decide)) (br_t eo (br_f (rc_ne_e ef (by decide)) (br_t ef H))))))))) (fun _ => nm_e (br_f (rc_ne_e eo (by decide)) (br_f (rc_ne_e eo (by decide)) (br_f (rc_ne_e eo (by decide)) (br_f (rc_ne_e eo (by decide)) (br_f (rc_ne_e eo (by decide)) (br_t eo (br_f (rc_ne_e ef (by decide)) (br_t ef H)))))))))
theorem rc_lop_20 (eo : w &&& 127 = 99) (ef : rc_fd w 14 12 = 4) (H : post 20) : wpX_longOp post (mI, mL, mS, it, rs, ii, iB, gr, uo, ua, ub, uc, so, sa, sb, sc, lp, ln, im, ad, lb) w :=
  br_c (fun _ => nm_e (br_f (rc_ne_e eo (by decide)) (br_f (rc_ne_e eo (by decide)) (br_f (rc_ne_e eo (by decide)) (br_f (rc_ne_e eo (by decide)) (br_f (rc_ne_e eo (by decide)) (br_t eo (br_f (rc_ne_e ef (by decide)) (br_f (rc_ne_e ef (by decide)) H))))))))) (fun _ => nm_e (br_f (rc_ne_e eo (by decide)) (br_f (rc_ne_e eo (by decide)) (br_f (rc_ne_e eo (by decide)) (br_f (rc_ne_e eo (by decide)) (br_f (rc_ne_e eo (by decide)) (br_t eo (br_f (rc_ne_e ef (by decide)) (br_f (rc_ne_e ef (by decide)) H)))))))))
theorem rc_lop_21 (eo : w &&& 127 = 115) (H : post 21) : wpX_longOp post (mI, mL, mS, it, rs, ii, iB, gr, uo, ua, ub, uc, so, sa, sb, sc, lp, ln, im, ad, lb) w :=
  br_c (fun _ => nm_e (br_f (rc_ne_e eo (by decide)) (br_f (rc_ne_e eo (by decide)) (br_f (rc_ne_e eo (by decide)) (br_f (rc_ne_e eo (by decide)) (br_f (rc_ne_e eo (by decide)) (br_f (rc_ne_e eo (by decide)) (br_f (rc_ne_e eo (by decide)) (br_f (rc_ne_e eo (by decide)) (H)))))))))) (fun _ => nm_e (br_f (rc_ne_e eo (by decide)) (br_f (rc_ne_e eo (by decide)) (br_f (rc_ne_e eo (by decide)) (br_f (rc_ne_e eo (by decide)) (br_f (rc_ne_e eo (by decide)) (br_f (rc_ne_e eo (by decide)) (br_f (rc_ne_e eo (by decide)) (br_f (rc_ne_e eo (by decide)) (H))))))))))
end
section
variable {mI mL mS it rs ii iB gr uo ua ub uc : Int32} {so sa sb sc lp ln im ad lb : Nat → Int32} {post : SX → Prop} {w p : Int32}
theorem rc_dl_1 (eo : w &&& 127 = 51) (es : rc_fd w 30 30 = 0) (ef : rc_fd w 14 12 = 0) (H : post (mI, mL, mS, it, rs, ii, iB, gr, 1, (rc_fd w 11 7), (rc_fd w 19 15), (rc_fd w 24 20), so, sa, sb, sc, lp, ln, im, ad, lb)) : wpX_decodeLong post (mI, mL, mS, it, rs, ii, iB, gr, uo, ua, ub, uc, so, sa, sb, sc, lp, ln, im, ad, lb) w p :=
  nm_e (rc_lop_1 eo es ef (br_t (by decide) (H)))
theorem rc_dl_2 (eo : w &&& 127 = 51) (es : rc_fd w 30 30 = 1) (ef : rc_fd w 14 12 = 0) (H : post (mI, mL, mS, it, rs, ii, iB, gr, 2, (rc_fd w 11 7), (rc_fd w 19 15), (rc_fd w 24 20), so, sa, sb, sc, lp, ln, im, ad, lb)) : wpX_decodeLong post (mI, mL, mS, it, rs, ii, iB, gr, uo, ua, ub, uc, so, sa, sb, sc, lp, ln, im, ad, lb) w p :=
  nm_e (rc_lop_2 eo es ef (br_t (by decide) (H)))
theorem rc_dl_3 (eo : w &&& 127 = 51) (ef : rc_fd w 14 12 = 4) (H : post (mI, mL, mS, it, rs, ii, iB, gr, 3, (rc_fd w 11 7), (rc_fd w 19 15), (rc_fd w 24 20), so, sa, sb, sc, lp, ln, im, ad, lb)) : wpX_decodeLong post (mI, mL, mS, it, rs, ii, iB, gr, uo, ua, ub, uc, so, sa, sb, sc, lp, ln, im, ad, lb) w p :=
  nm_e (rc_lop_3 eo ef (br_t (by decide) (H)))
theorem rc_dl_4 (eo : w &&& 127 = 51) (ef : rc_fd w 14 12 = 6) (H : post (mI, mL, mS, it, rs, ii, iB, gr, 4, (rc_fd w 11 7), (rc_fd w 19 15), (rc_fd w 24 20), so, sa, sb, sc, lp, ln, im, ad, lb)) : wpX_decodeLong post (mI, mL, mS, it, rs, ii, iB, gr, uo, ua, ub, uc, so, sa, sb, sc, lp, ln, im, ad, lb) w p :=
  nm_e (rc_lop_4 eo ef (br_t (by decide) (H)))
theorem rc_dl_5 (eo : w &&& 127 = 51) (ef : rc_fd w 14 12 = 7) (H : post (mI, mL, mS, it, rs, ii, iB, gr, 5, (rc_fd w 11 7), (rc_fd w 19 15), (rc_fd w 24 20), so, sa, sb, sc, lp, ln, im, ad, lb)) : wpX_decodeLong post (mI, mL, mS, it, rs, ii, iB, gr, uo, ua, ub, uc, so, sa, sb, sc, lp, ln, im, ad, lb) w p :=
  nm_e (rc_lop_5 eo ef (br_t (by decide) (H)))
theorem rc_dl_6 (eo : w &&& 127 = 51) (ef : rc_fd w 14 12 = 2) (H : post (mI, mL, mS, it, rs, ii, iB, gr, 6, (rc_fd w 11 7), (rc_fd w 19 15), (rc_fd w 24 20), so, sa, sb, sc, lp, ln, im, ad, lb)) : wpX_decodeLong post (mI, mL, mS, it, rs, ii, iB, gr, uo, ua, ub, uc, so, sa, sb, sc, lp, ln, im, ad, lb) w p :=
  nm_e (rc_lop_6 eo ef (br_t (by decide) (H)))
theorem rc_dl_7 (eo : w &&& 127 = 19) (ef : rc_fd w 14 12 = 0) (H : post (mI, mL, mS, it, rs, ii, iB, gr, 7, (rc_fd w 11 7), (rc_fd w 19 15), (w >>> (nI 20 &&& 31)), so, sa, sb, sc, lp, ln, im, ad, lb)) : wpX_decodeLong post (mI, mL, mS, it, rs, ii, iB, gr, uo, ua, ub, uc, so, sa, sb, sc, lp, ln, im, ad, lb) w p :=
  nm_e (rc_lop_7 eo ef (br_f (by decide) (br_f (by decide) (br_t rfl (H)))))
theorem rc_dl_8 (eo : w &&& 127 = 19) (ef : rc_fd w 14 12 = 7) (H : post (mI, mL, mS, it, rs, ii, iB, gr, 8, (rc_fd w 11 7), (rc_fd w 19 15), (w >>> (nI 20 &&& 31)), so, sa, sb, sc, lp, ln, im, ad, lb)) : wpX_decodeLong post (mI, mL, mS, it, rs, ii, iB, gr, uo, ua, ub, uc, so, sa, sb, sc, lp, ln, im, ad, lb) w p :=
  nm_e (rc_lop_8 eo ef (br_f (by decide) (br_f (by decide) (br_f (by decide) (br_t rfl (H))))))
theorem rc_dl_9 (eo : w &&& 127 = 19) (ef : rc_fd w 14 12 = 4) (H : post (mI, mL, mS, it, rs, ii, iB, gr, 9, (rc_fd w 11 7), (rc_fd w 19 15), (w >>> (nI 20 &&& 31)), so, sa, sb, sc, lp, ln, im, ad, lb)) : wpX_decodeLong post (mI, mL, mS, it, rs, ii, iB, gr, uo, ua, ub, uc, so, sa, sb, sc, lp, ln, im, ad, lb) w p :=
  nm_e (rc_lop_9 eo ef (br_f (by decide) (br_f (by decide) (br_f (by decide) (br_f (by decide) (br_t rfl (H)))))))
theorem rc_dl_10 (eo : w &&& 127 = 19) (ef : rc_fd w 14 12 = 1) (H : post (mI, mL, mS, it, rs, ii, iB, gr, 10, (rc_fd w 11 7), (rc_fd w 19 15), (rc_fd w 24 20), so, sa, sb, sc, lp, ln, im, ad, lb)) : wpX_decodeLong post (mI, mL, mS, it, rs, ii, iB, gr, uo, ua, ub, uc, so, sa, sb, sc, lp, ln, im, ad, lb) w p :=
  nm_e (rc_lop_10 eo ef (br_f (by decide) (br_f (by decide) (br_f (by decide) (br_f (by decide) (br_f (by decide) (br_t rfl (H))))))))
theorem rc_dl_11 (eo : w &&& 127 = 19) (es : rc_fd w 30 30 = 0) (ef : rc_fd w 14 12 = 5) (H : post (mI, mL, mS, it, rs, ii, iB, gr, 11, (rc_fd w 11 7), (rc_fd w 19 15), (rc_fd w 24 20), so, sa, sb, sc, lp, ln, im, ad, lb)) : wpX_decodeLong post (mI, mL, mS, it, rs, ii, iB, gr, uo, ua, ub, uc, so, sa, sb, sc, lp, ln, im, ad, lb) w p :=
  nm_e (rc_lop_11 eo es ef (br_f (by decide) (br_f (by decide) (br_f (by decide) (br_f (by decide) (br_f (by decide) (br_f (by decide) (br_t rfl (H)))))))))
theorem rc_dl_12 (eo : w &&& 127 = 19) (es : rc_fd w 30 30 = 1) (ef : rc_fd w 14 12 = 5) (H : post (mI, mL, mS, it, rs, ii, iB, gr, 12, (rc_fd w 11 7), (rc_fd w 19 15), (rc_fd w 24 20), so, sa, sb, sc, lp, ln, im, ad, lb)) : wpX_decodeLong post (mI, mL, mS, it, rs, ii, iB, gr, uo, ua, ub, uc, so, sa, sb, sc, lp, ln, im, ad, lb) w p :=
  nm_e (rc_lop_12 eo es ef (br_f (by decide) (br_f (by decide) (br_f (by decide) (br_f (by decide) (br_f (by decide) (br_f (by decide) (br_f (by decide) (br_t rfl (H))))))))))
theorem rc_dl_13 (eo : w &&& 127 = 3) (H : post (mI, mL, mS, it, rs, ii, iB, gr, 13, (rc_fd w 11 7), (rc_fd w 19 15), (w >>> (nI 20 &&& 31)), so, sa, sb, sc, lp, ln, im, ad, lb)) : wpX_decodeLong post (mI, mL, mS, it, rs, ii, iB, gr, uo, ua, ub, uc, so, sa, sb, sc, lp, ln, im, ad, lb) w p :=
  nm_e (rc_lop_13 eo (br_f (by decide) (br_f (by decide) (br_f (by decide) (br_f (by decide) (br_f (by decide) (br_f (by decide) (br_f (by decide) (br_f (by decide) (br_t rfl (H)))))))))))
theorem rc_dl_14 (eo : w &&& 127 = 35) (H : post (mI, mL, mS, it, rs, ii, iB, gr, 14, (rc_fd w 24 20), (rc_fd w 19 15), (rc_sl (w >>> (nI 25 &&& 31)) 5 ||| rc_fd w 11 7), so, sa, sb, sc, lp, ln, im, ad, lb)) : wpX_decodeLong post (mI, mL, mS, it, rs, ii, iB, gr, uo, ua, ub, uc, so, sa, sb, sc, lp, ln, im, ad, lb) w p :=
  nm_e (rc_lop_14 eo (br_f (by decide) (br_f (by decide) (br_f (by decide) (br_f (by decide) (br_f (by decide) (br_f (by decide) (br_f (by decide) (br_f (by decide) (br_f (by decide) (br_t rfl (H))))))))))))
theorem rc_dl_15 (eo : w &&& 127 = 55) (H : post (mI, mL, mS, it, rs, ii, iB, gr, 15, (rc_fd w 11 7), (w >>> (nI 12 &&& 31)), 0, so, sa, sb, sc, lp, ln, im, ad, lb)) : wpX_decodeLong post (mI, mL, mS, it, rs, ii, iB, gr, uo, ua, ub, uc, so, sa, sb, sc, lp, ln, im, ad, lb) w p :=
  nm_e (rc_lop_15 eo (br_f (by decide) (br_f (by decide) (br_f (by decide) (br_f (by decide) (br_f (by decide) (br_f (by decide) (br_f (by decide) (br_f (by decide) (br_f (by decide) (br_f (by decide) (br_t rfl (H)))))))))))))
theorem rc_dl_16 (eo : w &&& 127 = 103) (H : post (mI, mL, mS, it, rs, ii, iB, gr, 16, (rc_fd w 11 7), (rc_fd w 19 15), (w >>> (nI 20 &&& 31)), so, sa, sb, sc, lp, ln, im, ad, lb)) : wpX_decodeLong post (mI, mL, mS, it, rs, ii, iB, gr, uo, ua, ub, uc, so, sa, sb, sc, lp, ln, im, ad, lb) w p :=
  nm_e (rc_lop_16 eo (br_f (by decide) (br_f (by decide) (br_f (by decide) (br_f (by decide) (br_f (by decide) (br_f (by decide) (br_f (by decide) (br_f (by decide) (br_f (by decide) (br_f (by decide) (br_f (by decide) (br_t rfl (H))))))))))))))
theorem rc_dl_17 (eo : w &&& 127 = 111) (H : post (mI, mL, mS, it, rs, ii, iB, gr, 17, (rc_fd w 11 7), (p + rc_ljo w), 0, so, sa, sb, sc, lp, ln, im, ad, lb)) : wpX_decodeLong post (mI, mL, mS, it, rs, ii, iB, gr, uo, ua, ub, uc, so, sa, sb, sc, lp, ln, im, ad, lb) w p :=
  nm_e (rc_lop_17 eo (br_f (by decide) (br_f (by decide) (br_f (by decide) (br_f (by decide) (br_f (by decide) (br_f (by decide) (br_f (by decide) (br_f (by decide) (br_f (by decide) (br_f (by decide) (br_f (by decide) (br_f (by decide) (br_t rfl (nm_e (nm_e (nm_e H)))))))))))))))))
theorem rc_dl_18 (eo : w &&& 127 = 99) (ef : rc_fd w 14 12 = 0) (H : post (mI, mL, mS, it, rs, ii, iB, gr, 18, (rc_fd w 19 15), (rc_fd w 24 20), (p + rc_lbo w), so, sa, sb, sc, lp, ln, im, ad, lb)) : wpX_decodeLong post (mI, mL, mS, it, rs, ii, iB, gr, uo, ua, ub, uc, so, sa, sb, sc, lp, ln, im, ad, lb) w p :=
  nm_e (rc_lop_18 eo ef (br_f (by decide) (br_f (by decide) (br_f (by decide) (br_f (by decide) (br_f (by decide) (br_f (by decide) (br_f (by decide) (br_f (by decide) (br_f (by decide) (br_f (by decide) (br_f (by decide) (br_f (by decide) (br_f (by decide) (br_t rfl (nm_e (nm_e (nm_e H))))))))))))))))))
theorem rc_dl_19 (eo : w &&& 127 = 99) (ef : rc_fd w 14 12 = 1) (H : post (mI, mL, mS, it, rs, ii, iB, gr, 19, (rc_fd w 19 15), (rc_fd w 24 20), (p + rc_lbo w), so, sa, sb, sc, lp, ln, im, ad, lb)) : wpX_decodeLong post (mI, mL, mS, it, rs, ii, iB, gr, uo, ua, ub, uc, so, sa, sb, sc, lp, ln, im, ad, lb) w p :=
  nm_e (rc_lop_19 eo ef (br_f (by decide) (br_f (by decide) (br_f (by decide) (br_f (by decide) (br_f (by decide) (br_f (by decide) (br_f (by decide) (br_f (by decide) (br_f (by decide) (br_f (by decide) (br_f (by decide) (br_f (by decide) (br_f (by decide) (br_f (by decide) (br_t rfl (nm_e (nm_e (nm_e H)))))))))))))))))))
theorem rc_dl_20 (eo : w &&& 127 = 99) (ef : rc_fd w 14 12 = 4) (H : post (mI, mL, mS, it, rs, ii, iB, gr, 20, (rc_fd w 19 15), (rc_fd w 24 20), (p + rc_lbo w), so, sa, sb, sc, lp, ln, im, ad, lb)) : wpX_decodeLong post (mI, mL, mS, it, rs, ii, iB, gr, uo, ua, ub, uc, so, sa, sb, sc, lp, ln, im, ad, lb) w p :=
  nm_e (rc_lop_20 eo ef (br_f (by decide) (br_f (by decide) (br_f (by decide) (br_f (by decide) (br_f (by decide) (br_f (by decide) (br_f (by decide) (br_f (by decide) (br_f (by decide) (br_f (by decide) (br_f (by decide) (br_f (by decide) (br_f (by decide) (br_f (by decide) (br_f (by decide) (br_t rfl (nm_e (nm_e (nm_e H))))))))))))))))))))
theorem rc_dl_21 (eo : w &&& 127 = 115) (H : post (mI, mL, mS, it, rs, ii, iB, gr, 21, 0, 0, 0, so, sa, sb, sc, lp, ln, im, ad, lb)) : wpX_decodeLong post (mI, mL, mS, it, rs, ii, iB, gr, uo, ua, ub, uc, so, sa, sb, sc, lp, ln, im, ad, lb) w p :=
  nm_e (rc_lop_21 eo (br_f (by decide) (br_f (by decide) (br_f (by decide) (br_f (by decide) (br_f (by decide) (br_f (by decide) (br_f (by decide) (br_f (by decide) (br_f (by decide) (br_f (by decide) (br_f (by decide) (br_f (by decide) (br_f (by decide) (br_f (by decide) (br_f (by decide) (br_f (by decide) (br_t rfl (H)))))))))))))))))))
end
end
section
/-! legal operands -/
abbrev rc_Rc (x : Int32) : Prop := ¬ x < 0 ∧ ¬ 31 < x
abbrev rc_I12 (x : Int32) : Prop := ¬ x < (-2048) ∧ ¬ 2047 < x
abbrev rc_I20 (x : Int32) : Prop := ¬ x < (-524288) ∧ ¬ 524287 < x
abbrev rc_Lb (L x : Int32) : Prop := ¬ x < 0 ∧ ¬ L ≤ x
def rc_fm (o k : Nat) : Nat := if o = 0 ∨ o = 21 then 0 else if k = 0 then 1 else if k = 1 then (if o = 15 then 4 else if o = 17 then 5 else 1) else if o ≤ 6 then 1 else if 10 ≤ o ∧ o ≤ 12 then 3 else if o = 15 ∨ o = 17 then 0 else if 18 ≤ o then 5 else 2
def rc_Ft (L : Int32) (f : Nat) (v : Int32) : Prop := if f = 0 then v = 0 else if f = 1 then rc_Rc v else if f = 2 then rc_I12 v else if f = 3 then rc_Rc v else if f = 4 then rc_I20 v else rc_Lb L v
def rc_LegI (L op a b c : Int32) : Prop := ∃ o, 1 ≤ o ∧ o < 22 ∧ op = nI o ∧ rc_Ft L (rc_fm o 0) a ∧ rc_Ft L (rc_fm o 1) b ∧ rc_Ft L (rc_fm o 2) c
def rc_LegG (op a b c : Int32) : Prop := op = 0 ∧ (∃ g, 1 ≤ g ∧ g ≤ 2047 ∧ a = nI g) ∧ b = 0 ∧ c = 0
theorem rc_rg_of {x : Int32} (h : rc_Rc x) : rc_Rg x := by
  obtain ⟨m, hm, rfl⟩ := nI_of h.1
  have h2 := h.2
  rw [show (31 : Int32) = nI 31 from rfl, nI_ltI (by decide) hm] at h2
  exact ⟨m, by omega, rfl⟩
theorem rc_rg_u {x : Int32} (h : rc_Rg x) : rc_uv x < 2 ^ 5 := by
  obtain ⟨m, hm, rfl⟩ := h
  exact rc_nI_uv hm (by decide)
theorem rc_lw_m {x : Int32} (h : rc_lw x) : ∃ m, m < 8 ∧ x = nI (m + 8) := by
  have h8 : (8 : Int32).toInt = 8 := by decide
  have rc_h0 : (0 : Int32).toInt = 0 := by decide
  obtain ⟨m, hm, rfl⟩ := nI_of (x := x) (by have := h.1; rw [Int32.lt_iff_toInt_lt] at *; omega)
  have h1 := h.1
  have h2 := h.2
  rw [show (8 : Int32) = nI 8 from rfl, nI_ltI hm (by decide)] at h1
  rw [show (15 : Int32) = nI 15 from rfl, nI_ltI (by decide) hm] at h2
  exact ⟨m - 8, by omega, by rw [show m - 8 + 8 = m by omega]⟩
theorem rc_lw_u {x : Int32} (h : rc_lw x) : rc_uv (x - 8) < 2 ^ 3 := by
  obtain ⟨m, hm, rfl⟩ := rc_lw_m h
  have e : nI (m + 8) - 8 = nI m := by rw [show (8 : Int32) = nI 8 from rfl, pk_sub (by omega), Nat.add_sub_cancel]
  rw [e]
  exact rc_nI_uv (by omega) (by decide)
theorem rc_e8 (a : Int32) : 8 + (a - 8) = a := by rw [Int32.add_comm, Int32.sub_add_cancel]
theorem rc_off {x : Int32} (k n : Nat) (hk : k < 2 ^ 30) (hn : n < 2 ^ 30) (h1 : -(k : Int) ≤ x.toInt) (h2 : x.toInt < (n : Int) - k) : ∃ m, m < n ∧ x = nI m - nI k := by
  refine ⟨(x.toInt + k).toNat, by omega, ?_⟩
  apply Int32.toInt_inj.mp
  rw [pk_sub_toInt (by omega) hk]
  omega
theorem rc_wo_m {x : Int32} {g : Nat} (hg : g < 2 ^ 31) (h : rc_wo x (nI g)) : ∃ m, m < g + 1 ∧ x = nI m ∧ nI m &&& 3 = 0 := by
  obtain ⟨m, hm, rfl⟩ := nI_of h.1
  have h2 := h.2.1
  rw [nI_ltI hg hm] at h2
  exact ⟨m, by omega, rfl, h.2.2⟩
/-! what the decoder puts together again -/
theorem rc_k_six : ∀ m, m < 64 → rc_sg (rc_sl (rc_fd (nI m - 32) 5 5) 5 ||| rc_fd (nI m - 32) 4 0) 6 = nI m - 32 := by unfold rc_sg rc_sl rc_fd; decide +kernel
theorem rc_k_stp : ∀ m, m < 1024 → (nI m - 512) &&& 15 = 0 → rc_sg ((((rc_sl (rc_fd (nI m - 512) 9 9) 9 ||| rc_sl (rc_fd (nI m - 512) 4 4) 4) ||| rc_sl (rc_fd (nI m - 512) 6 6) 6) ||| rc_sl (rc_fd (nI m - 512) 8 7) 7) ||| rc_sl (rc_fd (nI m - 512) 5 5) 5) 10 = nI m - 512 := by unfold rc_sg rc_sl rc_fd; decide +kernel
theorem rc_k_i4 : ∀ m, m < 1021 → nI m &&& 3 = 0 → ((rc_sl (rc_fd (nI m) 5 4) 4 ||| rc_sl (rc_fd (nI m) 9 6) 6) ||| rc_sl (rc_fd (nI m) 2 2) 2) ||| rc_sl (rc_fd (nI m) 3 3) 3 = nI m := by unfold rc_sl rc_fd; decide +kernel
theorem rc_k_imm : ∀ m, m < 125 → nI m &&& 3 = 0 → (rc_sl (rc_fd (nI m) 5 3) 3 ||| rc_sl (rc_fd (nI m) 2 2) 2) ||| rc_sl (rc_fd (nI m) 6 6) 6 = nI m := by unfold rc_sl rc_fd; decide +kernel
theorem rc_k_ild : ∀ m, m < 253 → nI m &&& 3 = 0 → (rc_sl (rc_fd (nI m) 5 5) 5 ||| rc_sl (rc_fd (nI m) 4 2) 2) ||| rc_sl (rc_fd (nI m) 7 6) 6 = nI m := by unfold rc_sl rc_fd; decide +kernel
theorem rc_k_ist : ∀ m, m < 253 → nI m &&& 3 = 0 → rc_sl (rc_fd (nI m) 5 2) 2 ||| rc_sl (rc_fd (nI m) 7 6) 6 = nI m := by unfold rc_sl rc_fd; decide +kernel
theorem rc_k_sh : ∀ m, m < 32 → rc_sg (rc_sl 0 5 ||| nI m) 6 &&& 31 = nI m := by unfold rc_sg rc_sl; decide +kernel
theorem rc_k_jof : ∀ m, m < 2048 → rc_sg (((((((rc_sl (rc_fd (nI (2 * m) - 2048) 11 11) 11 ||| rc_sl (rc_fd (nI (2 * m) - 2048) 4 4) 4) ||| rc_sl (rc_fd (nI (2 * m) - 2048) 9 8) 8) ||| rc_sl (rc_fd (nI (2 * m) - 2048) 10 10) 10) ||| rc_sl (rc_fd (nI (2 * m) - 2048) 6 6) 6) ||| rc_sl (rc_fd (nI (2 * m) - 2048) 7 7) 7) ||| rc_sl (rc_fd (nI (2 * m) - 2048) 3 1) 1) ||| rc_sl (rc_fd (nI (2 * m) - 2048) 5 5) 5) 12 = nI (2 * m) - 2048 := by unfold rc_sg rc_sl rc_fd; decide +kernel
theorem rc_k_bof : ∀ m, m < 256 → rc_sg ((((rc_sl (rc_fd (nI (2 * m) - 256) 8 8) 8 ||| rc_sl (rc_fd (nI (2 * m) - 256) 4 3) 3) ||| rc_sl (rc_fd (nI (2 * m) - 256) 7 6) 6) ||| rc_sl (rc_fd (nI (2 * m) - 256) 2 1) 1) ||| rc_sl (rc_fd (nI (2 * m) - 256) 5 5) 5) 9 = nI (2 * m) - 256 := by unfold rc_sg rc_sl rc_fd; decide +kernel
theorem rc_k_ljo : ∀ m, m < 4096 → rc_sg (((rc_sl (rc_fd (nI (2 * m) - 4096) 20 20) 20 ||| rc_sl (rc_fd (nI (2 * m) - 4096) 10 1) 1) ||| rc_sl (rc_fd (nI (2 * m) - 4096) 11 11) 11) ||| rc_sl (rc_fd (nI (2 * m) - 4096) 19 12) 12) 21 = nI (2 * m) - 4096 := by unfold rc_sg rc_sl rc_fd; decide +kernel
theorem rc_k_lbo : ∀ m, m < 4096 → rc_sg (((rc_sl (rc_fd (nI (2 * m) - 4096) 12 12) 12 ||| rc_sl (rc_fd (nI (2 * m) - 4096) 10 5) 5) ||| rc_sl (rc_fd (nI (2 * m) - 4096) 4 1) 1) ||| rc_sl (rc_fd (nI (2 * m) - 4096) 11 11) 11) 13 = nI (2 * m) - 4096 := by unfold rc_sg rc_sl rc_fd; decide +kernel
theorem rc_k_st : ∀ m, m < 4096 → rc_sl ((rc_sl (rc_fd (nI m - 2048) 11 5) 25) >>> (nI 25 &&& 31)) 5 ||| rc_fd (nI m - 2048) 4 0 = nI m - 2048 := by unfold rc_sl rc_fd; decide +kernel
theorem rc_r_six {c : Int32} (h : rc_sx c) : rc_sg (rc_sl (rc_fd c 5 5) 5 ||| rc_fd c 4 0) 6 = c := by
  have h1 := h.1
  have h2 := h.2
  rw [Int32.lt_iff_toInt_lt, show (-32 : Int32).toInt = -32 from by decide] at h1
  rw [Int32.lt_iff_toInt_lt, show (31 : Int32).toInt = 31 from by decide] at h2
  obtain ⟨m, hm, rfl⟩ := rc_off (x := c) 32 64 (by decide) (by decide) (by omega) (by omega)
  exact rc_k_six m hm
theorem rc_r_stp {c : Int32} (h1 : ¬ c < (-512)) (h2 : ¬ 496 < c) (h3 : c &&& 15 = 0) : rc_sg ((((rc_sl (rc_fd c 9 9) 9 ||| rc_sl (rc_fd c 4 4) 4) ||| rc_sl (rc_fd c 6 6) 6) ||| rc_sl (rc_fd c 8 7) 7) ||| rc_sl (rc_fd c 5 5) 5) 10 = c := by
  rw [Int32.lt_iff_toInt_lt, show (-512 : Int32).toInt = -512 from by decide] at h1
  rw [Int32.lt_iff_toInt_lt, show (496 : Int32).toInt = 496 from by decide] at h2
  obtain ⟨m, hm, rfl⟩ := rc_off (x := c) 512 1024 (by decide) (by decide) (by omega) (by omega)
  exact rc_k_stp m hm h3
def rc_Ev (d : Int32) : Prop := ∃ x y, x ≤ 2047 ∧ y ≤ 2047 ∧ d = nI (2 * x) - nI (2 * y)
theorem rc_ev_i {d : Int32} (h : rc_Ev d) : ∃ m, m < 4096 ∧ d = nI (2 * m) - 4096 ∧ d.toInt = 2 * (m : Int) - 4096 := by
  obtain ⟨x, y, hx, hy, rfl⟩ := h
  have e : nI (2 * x) - nI (2 * y) = nI (2 * (x + 2048 - y)) - 4096 := by
    apply Int32.toInt_inj.mp
    rw [show (4096 : Int32) = nI 4096 from rfl, pk_sub_toInt (by omega) (by omega), pk_sub_toInt (by omega) (by omega)]
    omega
  refine ⟨x + 2048 - y, by omega, e, ?_⟩
  rw [pk_sub_toInt (by omega) (by omega)]
  omega
theorem rc_r_jof {d : Int32} (h : rc_Ev d) (h1 : ¬ d < (-2048)) (h2 : d ≤ 2046) : rc_sg (((((((rc_sl (rc_fd d 11 11) 11 ||| rc_sl (rc_fd d 4 4) 4) ||| rc_sl (rc_fd d 9 8) 8) ||| rc_sl (rc_fd d 10 10) 10) ||| rc_sl (rc_fd d 6 6) 6) ||| rc_sl (rc_fd d 7 7) 7) ||| rc_sl (rc_fd d 3 1) 1) ||| rc_sl (rc_fd d 5 5) 5) 12 = d := by
  obtain ⟨m, hm, e, ei⟩ := rc_ev_i h
  rw [Int32.lt_iff_toInt_lt, show (-2048 : Int32).toInt = -2048 from by decide] at h1
  rw [Int32.le_iff_toInt_le, show (2046 : Int32).toInt = 2046 from by decide] at h2
  have e2 : d = nI (2 * (m - 1024)) - 2048 := by
    apply Int32.toInt_inj.mp
    rw [ei, show (2048 : Int32) = nI 2048 from rfl, pk_sub_toInt (by omega) (by omega)]
    omega
  rw [e2]
  exact rc_k_jof (m - 1024) (by omega)
theorem rc_r_bof {d : Int32} (h : rc_Ev d) (h1 : ¬ d < (-256)) (h2 : d ≤ 254) : rc_sg ((((rc_sl (rc_fd d 8 8) 8 ||| rc_sl (rc_fd d 4 3) 3) ||| rc_sl (rc_fd d 7 6) 6) ||| rc_sl (rc_fd d 2 1) 1) ||| rc_sl (rc_fd d 5 5) 5) 9 = d := by
  obtain ⟨m, hm, e, ei⟩ := rc_ev_i h
  rw [Int32.lt_iff_toInt_lt, show (-256 : Int32).toInt = -256 from by decide] at h1
  rw [Int32.le_iff_toInt_le, show (254 : Int32).toInt = 254 from by decide] at h2
  have e2 : d = nI (2 * (m - 1920)) - 256 := by
    apply Int32.toInt_inj.mp
    rw [ei, show (256 : Int32) = nI 256 from rfl, pk_sub_toInt (by omega) (by omega)]
    omega
  rw [e2]
  exact rc_k_bof (m - 1920) (by omega)
theorem rc_i12_i {c : Int32} (h : rc_I12 c) : -2048 ≤ c.toInt ∧ c.toInt < 2048 := by
  have h1 := h.1
  have h2 := h.2
  rw [Int32.lt_iff_toInt_lt, show (-2048 : Int32).toInt = -2048 from by decide] at h1
  rw [Int32.lt_iff_toInt_lt, show (2047 : Int32).toInt = 2047 from by decide] at h2
  omega
theorem rc_i20_i {c : Int32} (h : rc_I20 c) : -524288 ≤ c.toInt ∧ c.toInt < 524288 := by
  have h1 := h.1
  have h2 := h.2
  rw [Int32.lt_iff_toInt_lt, show (-524288 : Int32).toInt = -524288 from by decide] at h1
  rw [Int32.lt_iff_toInt_lt, show (524287 : Int32).toInt = 524287 from by decide] at h2
  omega
theorem rc_r_i12 {c : Int32} (h : rc_I12 c) : (rc_sl (rc_fd c 11 0) 20) >>> (nI 20 &&& 31) = c := by
  have e := rc_sl_fd c (k := 20) (by decide) (by decide)
  rw [show 31 - 20 = 11 from rfl] at e
  rw [e]
  have := rc_i12_i h
  exact rc_sx_t c (k := 20) (by decide) (by show -(2 ^ 11 : Int) ≤ _; omega) (by show _ < (2 ^ 11 : Int); omega)
theorem rc_r_i20 {c : Int32} (h : rc_I20 c) : (rc_sl (rc_fd c 19 0) 12) >>> (nI 12 &&& 31) = c := by
  have e := rc_sl_fd c (k := 12) (by decide) (by decide)
  rw [show 31 - 12 = 19 from rfl] at e
  rw [e]
  have := rc_i20_i h
  exact rc_sx_t c (k := 12) (by decide) (by show -(2 ^ 19 : Int) ≤ _; omega) (by show _ < (2 ^ 19 : Int); omega)
theorem rc_r_st {c : Int32} (h : rc_I12 c) : rc_sl ((rc_sl (rc_fd c 11 5) 25) >>> (nI 25 &&& 31)) 5 ||| rc_fd c 4 0 = c := by
  have := rc_i12_i h
  obtain ⟨m, hm, rfl⟩ := rc_off (x := c) 2048 4096 (by decide) (by decide) (by omega) (by omega)
  exact rc_k_st m hm

/-- what the decoder does at a short word h (p: its address) -/
def rc_SF (h p op A B C : Int32) : Prop := rc_uv h < 2 ^ 16 ∧ ¬ h = 0 ∧ ((h &&& 3 = 0 ∧ ∀ (post : SX → Prop) (mI mL mS it rs ii iB gr uo ua ub uc : Int32) (so sa sb sc lp ln im ad lb : Nat → Int32), post (mI, mL, mS, it, rs, ii, iB, gr, op, A, B, C, so, sa, sb, sc, lp, ln, im, ad, lb) → wpX_decodeQuadrant0 post (mI, mL, mS, it, rs, ii, iB, gr, uo, ua, ub, uc, so, sa, sb, sc, lp, ln, im, ad, lb) h) ∨ (h &&& 3 = 1 ∧ ∀ (post : SX → Prop) (mI mL mS it rs ii iB gr uo ua ub uc : Int32) (so sa sb sc lp ln im ad lb : Nat → Int32), post (mI, mL, mS, it, rs, ii, iB, gr, op, A, B, C, so, sa, sb, sc, lp, ln, im, ad, lb) → wpX_decodeQuadrant1 post (mI, mL, mS, it, rs, ii, iB, gr, uo, ua, ub, uc, so, sa, sb, sc, lp, ln, im, ad, lb) h p) ∨ (h &&& 3 = 2 ∧ ∀ (post : SX → Prop) (mI mL mS it rs ii iB gr uo ua ub uc : Int32) (so sa sb sc lp ln im ad lb : Nat → Int32), post (mI, mL, mS, it, rs, ii, iB, gr, op, A, B, C, so, sa, sb, sc, lp, ln, im, ad, lb) → wpX_decodeQuadrant2 post (mI, mL, mS, it, rs, ii, iB, gr, uo, ua, ub, uc, so, sa, sb, sc, lp, ln, im, ad, lb) h))
theorem rc_SF0 {h p op A B C : Int32} (hu : rc_uv h < 2 ^ 16) (hz : ¬ h = 0) (e : rc_fd h 1 0 = 0) (k : ∀ (post : SX → Prop) (mI mL mS it rs ii iB gr uo ua ub uc : Int32) (so sa sb sc lp ln im ad lb : Nat → Int32), post (mI, mL, mS, it, rs, ii, iB, gr, op, A, B, C, so, sa, sb, sc, lp, ln, im, ad, lb) → wpX_decodeQuadrant0 post (mI, mL, mS, it, rs, ii, iB, gr, uo, ua, ub, uc, so, sa, sb, sc, lp, ln, im, ad, lb) h) : rc_SF h p op A B C := ⟨hu, hz, Or.inl ⟨(rc_an_3 h).trans e, k⟩⟩
theorem rc_SF1 {h p op A B C : Int32} (hu : rc_uv h < 2 ^ 16) (e : rc_fd h 1 0 = 1) (k : ∀ (post : SX → Prop) (mI mL mS it rs ii iB gr uo ua ub uc : Int32) (so sa sb sc lp ln im ad lb : Nat → Int32), post (mI, mL, mS, it, rs, ii, iB, gr, op, A, B, C, so, sa, sb, sc, lp, ln, im, ad, lb) → wpX_decodeQuadrant1 post (mI, mL, mS, it, rs, ii, iB, gr, uo, ua, ub, uc, so, sa, sb, sc, lp, ln, im, ad, lb) h p) : rc_SF h p op A B C :=
  ⟨hu, fun z => by rw [z] at e; exact absurd e (by unfold rc_fd; decide), Or.inr (Or.inl ⟨(rc_an_3 h).trans e, k⟩)⟩
theorem rc_SF2 {h p op A B C : Int32} (hu : rc_uv h < 2 ^ 16) (e : rc_fd h 1 0 = 2) (k : ∀ (post : SX → Prop) (mI mL mS it rs ii iB gr uo ua ub uc : Int32) (so sa sb sc lp ln im ad lb : Nat → Int32), post (mI, mL, mS, it, rs, ii, iB, gr, op, A, B, C, so, sa, sb, sc, lp, ln, im, ad, lb) → wpX_decodeQuadrant2 post (mI, mL, mS, it, rs, ii, iB, gr, uo, ua, ub, uc, so, sa, sb, sc, lp, ln, im, ad, lb) h) : rc_SF h p op A B C :=
  ⟨hu, fun z => by rw [z] at e; exact absurd e (by unfold rc_fd; decide), Or.inr (Or.inr ⟨(rc_an_3 h).trans e, k⟩)⟩
def rc_LF (w p op A B C : Int32) : Prop := w &&& 3 = 3 ∧ ∀ (post : SX → Prop) (mI mL mS it rs ii iB gr uo ua ub uc : Int32) (so sa sb sc lp ln im ad lb : Nat → Int32), post (mI, mL, mS, it, rs, ii, iB, gr, op, A, B, C, so, sa, sb, sc, lp, ln, im, ad, lb) → wpX_decodeLong post (mI, mL, mS, it, rs, ii, iB, gr, uo, ua, ub, uc, so, sa, sb, sc, lp, ln, im, ad, lb) w p
theorem rc_iti {α : Type} {c : Prop} {P : α → Prop} {x y : α} {hd : Decidable c} (f : c → P x) (g : ¬ c → P y) : P (@ite α c hd x y) := by
  by_cases e : c
  · rw [if_pos e]; exact f e
  · rw [if_neg e]; exact g e
def rc_Gd (p op A B C h : Int32) : Prop := 0 ≤ h → rc_SF h p op A B C
theorem rc_gn {p op A B C : Int32} : rc_Gd p op A B C (-1) := fun h => absurd h (by decide)
section
variable {a b c d p : Int32}
theorem rc_S_1a (ha : rc_Rg a) (hc : rc_Rg c) (hz : ¬ c = 0) : rc_SF (rc_cAc 36866 a c) p 1 a a c := by
  refine rc_SF2 (rc_fu_a36866 (rc_rg_u ha) (rc_rg_u hc)) (rc_ff_a36866_1_0 (rc_rg_u ha) (rc_rg_u hc)) ?_
  intro post mI mL mS it rs ii iB gr uo ua ub uc so sa sb sc lp ln im ad lb H
  refine rc_d2_4 (rc_ff_a36866_15_13 (rc_rg_u ha) (rc_rg_u hc)) ?_
  rw [rc_ff_a36866_11_7 (rc_rg_u ha) (rc_rg_u hc), rc_ff_a36866_6_2 (rc_rg_u ha) (rc_rg_u hc), rc_ff_a36866_12_12 (rc_rg_u ha) (rc_rg_u hc)]
  exact rc_daj_a hz H
theorem rc_S_1b (ha : rc_Rg a) (hc : rc_Rg c) (hz : ¬ c = 0) : rc_SF (rc_cAc 32770 a c) p 1 a 0 c := by
  refine rc_SF2 (rc_fu_a32770 (rc_rg_u ha) (rc_rg_u hc)) (rc_ff_a32770_1_0 (rc_rg_u ha) (rc_rg_u hc)) ?_
  intro post mI mL mS it rs ii iB gr uo ua ub uc so sa sb sc lp ln im ad lb H
  refine rc_d2_4 (rc_ff_a32770_15_13 (rc_rg_u ha) (rc_rg_u hc)) ?_
  rw [rc_ff_a32770_11_7 (rc_rg_u ha) (rc_rg_u hc), rc_ff_a32770_6_2 (rc_rg_u ha) (rc_rg_u hc), rc_ff_a32770_12_12 (rc_rg_u ha) (rc_rg_u hc)]
  exact rc_daj_m hz H
theorem rc_S_2 (ha : rc_lw a) (hc : rc_lw c) : rc_SF (rc_cAc 35841 (a - 8) (c - 8)) p 2 a a c := by
  refine rc_SF1 (rc_fu_a35841 (rc_lw_u ha) (rc_lw_u hc)) (rc_ff_a35841_1_0 (rc_lw_u ha) (rc_lw_u hc)) ?_
  intro post mI mL mS it rs ii iB gr uo ua ub uc so sa sb sc lp ln im ad lb H
  refine rc_d1_43 (rc_ff_a35841_15_13 (rc_lw_u ha) (rc_lw_u hc)) (rc_ff_a35841_11_10 (rc_lw_u ha) (rc_lw_u hc)) ?_
  rw [rc_ff_a35841_6_5 (rc_lw_u ha) (rc_lw_u hc), rc_ff_a35841_9_7 (rc_lw_u ha) (rc_lw_u hc), rc_ff_a35841_4_2 (rc_lw_u ha) (rc_lw_u hc), rc_e8, rc_e8]
  exact H
theorem rc_S_3 (ha : rc_lw a) (hc : rc_lw c) : rc_SF (rc_cAc 35873 (a - 8) (c - 8)) p 3 a a c := by
  refine rc_SF1 (rc_fu_a35873 (rc_lw_u ha) (rc_lw_u hc)) (rc_ff_a35873_1_0 (rc_lw_u ha) (rc_lw_u hc)) ?_
  intro post mI mL mS it rs ii iB gr uo ua ub uc so sa sb sc lp ln im ad lb H
  refine rc_d1_43 (rc_ff_a35873_15_13 (rc_lw_u ha) (rc_lw_u hc)) (rc_ff_a35873_11_10 (rc_lw_u ha) (rc_lw_u hc)) ?_
  rw [rc_ff_a35873_6_5 (rc_lw_u ha) (rc_lw_u hc), rc_ff_a35873_9_7 (rc_lw_u ha) (rc_lw_u hc), rc_ff_a35873_4_2 (rc_lw_u ha) (rc_lw_u hc), rc_e8, rc_e8]
  exact H
theorem rc_S_4 (ha : rc_lw a) (hc : rc_lw c) : rc_SF (rc_cAc 35905 (a - 8) (c - 8)) p 4 a a c := by
  refine rc_SF1 (rc_fu_a35905 (rc_lw_u ha) (rc_lw_u hc)) (rc_ff_a35905_1_0 (rc_lw_u ha) (rc_lw_u hc)) ?_
  intro post mI mL mS it rs ii iB gr uo ua ub uc so sa sb sc lp ln im ad lb H
  refine rc_d1_43 (rc_ff_a35905_15_13 (rc_lw_u ha) (rc_lw_u hc)) (rc_ff_a35905_11_10 (rc_lw_u ha) (rc_lw_u hc)) ?_
  rw [rc_ff_a35905_6_5 (rc_lw_u ha) (rc_lw_u hc), rc_ff_a35905_9_7 (rc_lw_u ha) (rc_lw_u hc), rc_ff_a35905_4_2 (rc_lw_u ha) (rc_lw_u hc), rc_e8, rc_e8]
  exact H
theorem rc_S_5 (ha : rc_lw a) (hc : rc_lw c) : rc_SF (rc_cAc 35937 (a - 8) (c - 8)) p 5 a a c := by
  refine rc_SF1 (rc_fu_a35937 (rc_lw_u ha) (rc_lw_u hc)) (rc_ff_a35937_1_0 (rc_lw_u ha) (rc_lw_u hc)) ?_
  intro post mI mL mS it rs ii iB gr uo ua ub uc so sa sb sc lp ln im ad lb H
  refine rc_d1_43 (rc_ff_a35937_15_13 (rc_lw_u ha) (rc_lw_u hc)) (rc_ff_a35937_11_10 (rc_lw_u ha) (rc_lw_u hc)) ?_
  rw [rc_ff_a35937_6_5 (rc_lw_u ha) (rc_lw_u hc), rc_ff_a35937_9_7 (rc_lw_u ha) (rc_lw_u hc), rc_ff_a35937_4_2 (rc_lw_u ha) (rc_lw_u hc), rc_e8, rc_e8]
  exact H
theorem rc_S_7n : rc_SF 1 p 7 0 0 0 := by
  refine rc_SF1 (by unfold rc_uv; decide) (by unfold rc_fd; decide) ?_
  intro post mI mL mS it rs ii iB gr uo ua ub uc so sa sb sc lp ln im ad lb H
  refine rc_d1_0 (by unfold rc_fd; decide) ?_
  rw [show rc_fd 1 11 7 = 0 from by unfold rc_fd; decide, show rc_six 1 = 0 from by unfold rc_six rc_sg rc_sl rc_fd; decide]
  exact H
theorem rc_S_7a (ha : rc_Rg a) (hs : rc_sx c) : rc_SF (rc_pk6 1 a c) p 7 a a c := by
  refine rc_SF1 (rc_fu_p1 (rc_rg_u ha)) (rc_ff_p1_1_0 (rc_rg_u ha)) ?_
  intro post mI mL mS it rs ii iB gr uo ua ub uc so sa sb sc lp ln im ad lb H
  refine rc_d1_0 (rc_ff_p1_15_13 (rc_rg_u ha)) ?_
  rw [show rc_six (rc_pk6 1 a c) = c from by unfold rc_six; rw [rc_ff_p1_12_12 (rc_rg_u ha), rc_ff_p1_6_2 (rc_rg_u ha)]; exact rc_r_six hs]
  rw [rc_ff_p1_11_7 (rc_rg_u ha)]
  exact H
theorem rc_S_7b (ha : rc_Rg a) (hs : rc_sx c) : rc_SF (rc_pk6 16385 a c) p 7 a 0 c := by
  refine rc_SF1 (rc_fu_p16385 (rc_rg_u ha)) (rc_ff_p16385_1_0 (rc_rg_u ha)) ?_
  intro post mI mL mS it rs ii iB gr uo ua ub uc so sa sb sc lp ln im ad lb H
  refine rc_d1_2 (rc_ff_p16385_15_13 (rc_rg_u ha)) ?_
  rw [show rc_six (rc_pk6 16385 a c) = c from by unfold rc_six; rw [rc_ff_p16385_12_12 (rc_rg_u ha), rc_ff_p16385_6_2 (rc_rg_u ha)]; exact rc_r_six hs]
  rw [rc_ff_p16385_11_7 (rc_rg_u ha)]
  exact H
theorem rc_S_7c (h1 : ¬ c < (-512)) (h2 : ¬ 496 < c) (h3 : c &&& 15 = 0) : rc_SF (rc_cSp c) p 7 2 2 c := by
  refine rc_SF1 (rc_fu_sp ) (rc_ff_sp_1_0 ) ?_
  intro post mI mL mS it rs ii iB gr uo ua ub uc so sa sb sc lp ln im ad lb H
  refine rc_d1_3s rc_ff_sp_15_13 rc_ff_sp_11_7 ?_
  rw [show rc_stp (rc_cSp c) = c from by unfold rc_stp; rw [rc_ff_sp_12_12, rc_ff_sp_6_6, rc_ff_sp_5_5, rc_ff_sp_4_3, rc_ff_sp_2_2]; exact rc_r_stp h1 h2 h3]
  exact H
theorem rc_i4_c (ha : rc_lw a) (hw : rc_wo c 1020) : rc_i4 (rc_cA4 a c) = c := by
  unfold rc_i4
  rw [rc_ff_a4_12_11 (rc_lw_u ha), rc_ff_a4_10_7 (rc_lw_u ha), rc_ff_a4_6_6 (rc_lw_u ha), rc_ff_a4_5_5 (rc_lw_u ha)]
  obtain ⟨m, hm, rfl, h3⟩ := rc_wo_m (g := 1020) (by decide) hw
  exact rc_k_i4 m hm h3
theorem rc_S_7d (ha : rc_lw a) (hz : ¬ c = 0) (hw : rc_wo c 1020) : rc_SF (rc_cA4 a c) p 7 a 2 c := by
  refine rc_SF0 (rc_fu_a4 (rc_lw_u ha)) (fun z => hz (by rw [← rc_i4_c ha hw, z]; unfold rc_i4 rc_sl rc_fd; decide)) (rc_ff_a4_1_0 (rc_lw_u ha)) ?_
  intro post mI mL mS it rs ii iB gr uo ua ub uc so sa sb sc lp ln im ad lb H
  refine rc_d0_0 (fun z => hz (by rw [← rc_i4_c ha hw, z]; unfold rc_i4 rc_sl rc_fd; decide)) (rc_ff_a4_15_13 (rc_lw_u ha)) ?_
  rw [rc_i4_c ha hw, rc_ff_a4_4_2 (rc_lw_u ha), rc_e8]
  exact H
theorem rc_S_8 (ha : rc_lw a) (hs : rc_sx c) : rc_SF (rc_pk6 34817 (a - 8) c) p 8 a a c := by
  refine rc_SF1 (rc_fu_p34817 (rc_lw_u ha)) (rc_ff_p34817_1_0 (rc_lw_u ha)) ?_
  intro post mI mL mS it rs ii iB gr uo ua ub uc so sa sb sc lp ln im ad lb H
  refine rc_d1_42 (rc_ff_p34817_15_13 (rc_lw_u ha)) (rc_ff_p34817_11_10 (rc_lw_u ha)) ?_
  rw [show rc_six (rc_pk6 34817 (a - 8) c) = c from by unfold rc_six; rw [rc_ff_p34817_12_12 (rc_lw_u ha), rc_ff_p34817_6_2 (rc_lw_u ha)]; exact rc_r_six hs]
  rw [rc_ff_p34817_9_7 (rc_lw_u ha), rc_e8]
  exact H
theorem rc_S_10 (ha : rc_Rg a) (hc : rc_Rg c) : rc_SF (rc_cAc 2 a c) p 10 a a c := by
  refine rc_SF2 (rc_fu_a2 (rc_rg_u ha) (rc_rg_u hc)) (rc_ff_a2_1_0 (rc_rg_u ha) (rc_rg_u hc)) ?_
  intro post mI mL mS it rs ii iB gr uo ua ub uc so sa sb sc lp ln im ad lb H
  refine rc_d2_0 (rc_ff_a2_15_13 (rc_rg_u ha) (rc_rg_u hc)) ?_
  rw [rc_ff_a2_11_7 (rc_rg_u ha) (rc_rg_u hc), rc_ff_a2_6_2 (rc_rg_u ha) (rc_rg_u hc)]
  exact H
theorem rc_S_11 (ha : rc_lw a) (hc : rc_Rg c) : rc_SF (rc_cAc 32769 (a - 8) c) p 11 a a c := by
  refine rc_SF1 (rc_fu_a32769 (rc_lw_u ha) (rc_rg_u hc)) (rc_ff_a32769_1_0 (rc_lw_u ha) (rc_rg_u hc)) ?_
  intro post mI mL mS it rs ii iB gr uo ua ub uc so sa sb sc lp ln im ad lb H
  refine rc_d1_40 (rc_ff_a32769_15_13 (rc_lw_u ha) (rc_rg_u hc)) (rc_ff_a32769_11_10 (rc_lw_u ha) (rc_rg_u hc)) ?_
  rw [show rc_six (rc_cAc 32769 (a - 8) c) &&& 31 = c from by unfold rc_six; rw [rc_ff_a32769_12_12 (rc_lw_u ha) (rc_rg_u hc), rc_ff_a32769_6_2 (rc_lw_u ha) (rc_rg_u hc)]; obtain ⟨m, hm, rfl⟩ := hc; exact rc_k_sh m hm, rc_ff_a32769_9_7 (rc_lw_u ha) (rc_rg_u hc), rc_e8]
  exact H
theorem rc_S_12 (ha : rc_lw a) (hc : rc_Rg c) : rc_SF (rc_cAc 33793 (a - 8) c) p 12 a a c := by
  refine rc_SF1 (rc_fu_a33793 (rc_lw_u ha) (rc_rg_u hc)) (rc_ff_a33793_1_0 (rc_lw_u ha) (rc_rg_u hc)) ?_
  intro post mI mL mS it rs ii iB gr uo ua ub uc so sa sb sc lp ln im ad lb H
  refine rc_d1_41 (rc_ff_a33793_15_13 (rc_lw_u ha) (rc_rg_u hc)) (rc_ff_a33793_11_10 (rc_lw_u ha) (rc_rg_u hc)) ?_
  rw [show rc_six (rc_cAc 33793 (a - 8) c) &&& 31 = c from by unfold rc_six; rw [rc_ff_a33793_12_12 (rc_lw_u ha) (rc_rg_u hc), rc_ff_a33793_6_2 (rc_lw_u ha) (rc_rg_u hc)]; obtain ⟨m, hm, rfl⟩ := hc; exact rc_k_sh m hm, rc_ff_a33793_9_7 (rc_lw_u ha) (rc_rg_u hc), rc_e8]
  exact H
theorem rc_imm_13 (ha : rc_lw a) (hb : rc_lw b) (hw : rc_wo c 124) : rc_imm (rc_cMm 16384 a b c) = c := by
  unfold rc_imm
  rw [rc_ff_m16384_12_10 (rc_lw_u ha) (rc_lw_u hb), rc_ff_m16384_6_6 (rc_lw_u ha) (rc_lw_u hb), rc_ff_m16384_5_5 (rc_lw_u ha) (rc_lw_u hb)]
  obtain ⟨m, hm, rfl, h3⟩ := rc_wo_m (g := 124) (by decide) hw
  exact rc_k_imm m hm h3
theorem rc_S_13m (ha : rc_lw a) (hb : rc_lw b) (hw : rc_wo c 124) : rc_SF (rc_cMm 16384 a b c) p 13 a b c := by
  refine rc_SF0 (rc_fu_m16384 (rc_lw_u ha) (rc_lw_u hb)) (fun z => by have e := rc_ff_m16384_15_13 (c := c) (rc_lw_u ha) (rc_lw_u hb); rw [z] at e; exact absurd e (by unfold rc_fd; decide)) (rc_ff_m16384_1_0 (rc_lw_u ha) (rc_lw_u hb)) ?_
  intro post mI mL mS it rs ii iB gr uo ua ub uc so sa sb sc lp ln im ad lb H
  refine rc_d0_2 (fun z => by have e := rc_ff_m16384_15_13 (c := c) (rc_lw_u ha) (rc_lw_u hb); rw [z] at e; exact absurd e (by unfold rc_fd; decide)) (rc_ff_m16384_15_13 (rc_lw_u ha) (rc_lw_u hb)) ?_
  rw [rc_imm_13 ha hb hw, rc_ff_m16384_4_2 (rc_lw_u ha) (rc_lw_u hb), rc_ff_m16384_9_7 (rc_lw_u ha) (rc_lw_u hb), rc_e8, rc_e8]
  exact H
theorem rc_imm_14 (ha : rc_lw a) (hb : rc_lw b) (hw : rc_wo c 124) : rc_imm (rc_cMm 49152 a b c) = c := by
  unfold rc_imm
  rw [rc_ff_m49152_12_10 (rc_lw_u ha) (rc_lw_u hb), rc_ff_m49152_6_6 (rc_lw_u ha) (rc_lw_u hb), rc_ff_m49152_5_5 (rc_lw_u ha) (rc_lw_u hb)]
  obtain ⟨m, hm, rfl, h3⟩ := rc_wo_m (g := 124) (by decide) hw
  exact rc_k_imm m hm h3
theorem rc_S_14m (ha : rc_lw a) (hb : rc_lw b) (hw : rc_wo c 124) : rc_SF (rc_cMm 49152 a b c) p 14 a b c := by
  refine rc_SF0 (rc_fu_m49152 (rc_lw_u ha) (rc_lw_u hb)) (fun z => by have e := rc_ff_m49152_15_13 (c := c) (rc_lw_u ha) (rc_lw_u hb); rw [z] at e; exact absurd e (by unfold rc_fd; decide)) (rc_ff_m49152_1_0 (rc_lw_u ha) (rc_lw_u hb)) ?_
  intro post mI mL mS it rs ii iB gr uo ua ub uc so sa sb sc lp ln im ad lb H
  refine rc_d0_6 (fun z => by have e := rc_ff_m49152_15_13 (c := c) (rc_lw_u ha) (rc_lw_u hb); rw [z] at e; exact absurd e (by unfold rc_fd; decide)) (rc_ff_m49152_15_13 (rc_lw_u ha) (rc_lw_u hb)) ?_
  rw [rc_imm_14 ha hb hw, rc_ff_m49152_4_2 (rc_lw_u ha) (rc_lw_u hb), rc_ff_m49152_9_7 (rc_lw_u ha) (rc_lw_u hb), rc_e8, rc_e8]
  exact H
theorem rc_S_13s (ha : rc_Rg a) (hw : rc_wo c 252) : rc_SF (rc_cLw a c) p 13 a 2 c := by
  refine rc_SF2 (rc_fu_lw (rc_rg_u ha)) (rc_ff_lw_1_0 (rc_rg_u ha)) ?_
  intro post mI mL mS it rs ii iB gr uo ua ub uc so sa sb sc lp ln im ad lb H
  refine rc_d2_2 (rc_ff_lw_15_13 (rc_rg_u ha)) ?_
  rw [show rc_ild (rc_cLw a c) = c from by unfold rc_ild; rw [rc_ff_lw_12_12 (rc_rg_u ha), rc_ff_lw_6_4 (rc_rg_u ha), rc_ff_lw_3_2 (rc_rg_u ha)]; obtain ⟨m, hm, rfl, h3⟩ := rc_wo_m (g := 252) (by decide) hw; exact rc_k_ild m hm h3, rc_ff_lw_11_7 (rc_rg_u ha)]
  exact H
theorem rc_S_14s (ha : rc_Rg a) (hw : rc_wo c 252) : rc_SF (rc_cSw a c) p 14 a 2 c := by
  refine rc_SF2 (rc_fu_sw (rc_rg_u ha)) (rc_ff_sw_1_0 (rc_rg_u ha)) ?_
  intro post mI mL mS it rs ii iB gr uo ua ub uc so sa sb sc lp ln im ad lb H
  refine rc_d2_6 (rc_ff_sw_15_13 (rc_rg_u ha)) ?_
  rw [show rc_ist (rc_cSw a c) = c from by unfold rc_ist; rw [rc_ff_sw_12_9 (rc_rg_u ha), rc_ff_sw_8_7 (rc_rg_u ha)]; obtain ⟨m, hm, rfl, h3⟩ := rc_wo_m (g := 252) (by decide) hw; exact rc_k_ist m hm h3, rc_ff_sw_6_2 (rc_rg_u ha)]
  exact H
theorem rc_S_15 (ha : rc_Rg a) (h2 : ¬ a = 2) (hs : rc_sx b) : rc_SF (rc_pk6 24577 a b) p 15 a b 0 := by
  refine rc_SF1 (rc_fu_p24577 (rc_rg_u ha)) (rc_ff_p24577_1_0 (rc_rg_u ha)) ?_
  intro post mI mL mS it rs ii iB gr uo ua ub uc so sa sb sc lp ln im ad lb H
  refine rc_d1_3u (rc_ff_p24577_15_13 (rc_rg_u ha)) (rc_ne_e (rc_ff_p24577_11_7 (rc_rg_u ha)) h2) ?_
  rw [show rc_six (rc_pk6 24577 a b) = b from by unfold rc_six; rw [rc_ff_p24577_12_12 (rc_rg_u ha), rc_ff_p24577_6_2 (rc_rg_u ha)]; exact rc_r_six hs]
  rw [rc_ff_p24577_11_7 (rc_rg_u ha)]
  exact H
theorem rc_S_16a (hb : rc_Rg b) (hz : ¬ b = 0) : rc_SF (rc_cJr 32770 b) p 16 0 b 0 := by
  refine rc_SF2 (rc_fu_j32770 (rc_rg_u hb)) (rc_ff_j32770_1_0 (rc_rg_u hb)) ?_
  intro post mI mL mS it rs ii iB gr uo ua ub uc so sa sb sc lp ln im ad lb H
  refine rc_d2_4 (rc_ff_j32770_15_13 (rc_rg_u hb)) ?_
  rw [rc_ff_j32770_11_7 (rc_rg_u hb), rc_ff_j32770_6_2 (rc_rg_u hb), rc_ff_j32770_12_12 (rc_rg_u hb)]
  exact rc_daj_j hz H
theorem rc_S_16b (hb : rc_Rg b) (hz : ¬ b = 0) : rc_SF (rc_cJr 36866 b) p 16 1 b 0 := by
  refine rc_SF2 (rc_fu_j36866 (rc_rg_u hb)) (rc_ff_j36866_1_0 (rc_rg_u hb)) ?_
  intro post mI mL mS it rs ii iB gr uo ua ub uc so sa sb sc lp ln im ad lb H
  refine rc_d2_4 (rc_ff_j36866_15_13 (rc_rg_u hb)) ?_
  rw [rc_ff_j36866_11_7 (rc_rg_u hb), rc_ff_j36866_6_2 (rc_rg_u hb), rc_ff_j36866_12_12 (rc_rg_u hb)]
  exact rc_daj_j hz H
theorem rc_S_17a (he : rc_Ev d) (h1 : ¬ d < (-2048)) (h2 : d ≤ 2046) : rc_SF (rc_cJm 40961 d) p 17 0 (p + d) 0 := by
  refine rc_SF1 (rc_fu_jm40961 ) (rc_ff_jm40961_1_0 ) ?_
  intro post mI mL mS it rs ii iB gr uo ua ub uc so sa sb sc lp ln im ad lb H
  refine rc_d1_5 rc_ff_jm40961_15_13 ?_
  rw [show rc_jof (rc_cJm 40961 d) = d from by unfold rc_jof; rw [rc_ff_jm40961_12_12, rc_ff_jm40961_11_11, rc_ff_jm40961_10_9, rc_ff_jm40961_8_8, rc_ff_jm40961_7_7, rc_ff_jm40961_6_6, rc_ff_jm40961_5_3, rc_ff_jm40961_2_2]; exact rc_r_jof he h1 h2]
  exact H
theorem rc_S_17b (he : rc_Ev d) (h1 : ¬ d < (-2048)) (h2 : d ≤ 2046) : rc_SF (rc_cJm 8193 d) p 17 1 (p + d) 0 := by
  refine rc_SF1 (rc_fu_jm8193 ) (rc_ff_jm8193_1_0 ) ?_
  intro post mI mL mS it rs ii iB gr uo ua ub uc so sa sb sc lp ln im ad lb H
  refine rc_d1_1 rc_ff_jm8193_15_13 ?_
  rw [show rc_jof (rc_cJm 8193 d) = d from by unfold rc_jof; rw [rc_ff_jm8193_12_12, rc_ff_jm8193_11_11, rc_ff_jm8193_10_9, rc_ff_jm8193_8_8, rc_ff_jm8193_7_7, rc_ff_jm8193_6_6, rc_ff_jm8193_5_3, rc_ff_jm8193_2_2]; exact rc_r_jof he h1 h2]
  exact H
theorem rc_S_18 (ha : rc_lw a) (he : rc_Ev d) (h1 : ¬ d < (-256)) (h2 : d ≤ 254) : rc_SF (rc_cBr 49153 a d) p 18 a 0 (p + d) := by
  refine rc_SF1 (rc_fu_b49153 (rc_lw_u ha)) (rc_ff_b49153_1_0 (rc_lw_u ha)) ?_
  intro post mI mL mS it rs ii iB gr uo ua ub uc so sa sb sc lp ln im ad lb H
  refine rc_d1_6 (rc_ff_b49153_15_13 (rc_lw_u ha)) ?_
  rw [show rc_bof (rc_cBr 49153 a d) = d from by unfold rc_bof; rw [rc_ff_b49153_12_12 (rc_lw_u ha), rc_ff_b49153_11_10 (rc_lw_u ha), rc_ff_b49153_6_5 (rc_lw_u ha), rc_ff_b49153_4_3 (rc_lw_u ha), rc_ff_b49153_2_2 (rc_lw_u ha)]; exact rc_r_bof he h1 h2, rc_ff_b49153_9_7 (rc_lw_u ha), rc_e8]
  exact H
theorem rc_S_19 (ha : rc_lw a) (he : rc_Ev d) (h1 : ¬ d < (-256)) (h2 : d ≤ 254) : rc_SF (rc_cBr 57345 a d) p 19 a 0 (p + d) := by
  refine rc_SF1 (rc_fu_b57345 (rc_lw_u ha)) (rc_ff_b57345_1_0 (rc_lw_u ha)) ?_
  intro post mI mL mS it rs ii iB gr uo ua ub uc so sa sb sc lp ln im ad lb H
  refine rc_d1_7 (rc_ff_b57345_15_13 (rc_lw_u ha)) ?_
  rw [show rc_bof (rc_cBr 57345 a d) = d from by unfold rc_bof; rw [rc_ff_b57345_12_12 (rc_lw_u ha), rc_ff_b57345_11_10 (rc_lw_u ha), rc_ff_b57345_6_5 (rc_lw_u ha), rc_ff_b57345_4_3 (rc_lw_u ha), rc_ff_b57345_2_2 (rc_lw_u ha)]; exact rc_r_bof he h1 h2, rc_ff_b57345_9_7 (rc_lw_u ha), rc_e8]
  exact H
theorem rc_S_21 : rc_SF 36866 p 21 0 0 0 := by
  refine rc_SF2 (by unfold rc_uv; decide) (by unfold rc_fd; decide) ?_
  intro post mI mL mS it rs ii iB gr uo ua ub uc so sa sb sc lp ln im ad lb H
  refine rc_d2_4 (by unfold rc_fd; decide) ?_
  rw [show rc_fd 36866 11 7 = 0 from by unfold rc_fd; decide, show rc_fd 36866 6 2 = 0 from by unfold rc_fd; decide]
  exact rc_daj_e H
theorem rc_g_1 (ha : rc_Rg a) (hc : rc_Rg c) : rc_Gd p 1 a b c (rc_sAdd a b c) :=
  rc_iti (fun _ => rc_gn) fun _ => rc_iti (fun _ => rc_gn) fun hz => rc_iti (fun e => by subst e; exact fun _ => rc_S_1a ha hc hz) fun _ => rc_iti (fun e => by subst e; exact fun _ => rc_S_1b ha hc hz) fun _ => rc_gn
theorem rc_g_2 : rc_Gd p 2 a b c (rc_sAr 35841 a b c) :=
  rc_iti (fun e => rc_iti (fun h1 => rc_iti (fun h2 => by subst e; exact fun _ => rc_S_2 h1 h2) fun _ => rc_gn) fun _ => rc_gn) fun _ => rc_gn
theorem rc_g_3 : rc_Gd p 3 a b c (rc_sAr 35873 a b c) :=
  rc_iti (fun e => rc_iti (fun h1 => rc_iti (fun h2 => by subst e; exact fun _ => rc_S_3 h1 h2) fun _ => rc_gn) fun _ => rc_gn) fun _ => rc_gn
theorem rc_g_4 : rc_Gd p 4 a b c (rc_sAr 35905 a b c) :=
  rc_iti (fun e => rc_iti (fun h1 => rc_iti (fun h2 => by subst e; exact fun _ => rc_S_4 h1 h2) fun _ => rc_gn) fun _ => rc_gn) fun _ => rc_gn
theorem rc_g_5 : rc_Gd p 5 a b c (rc_sAr 35937 a b c) :=
  rc_iti (fun e => rc_iti (fun h1 => rc_iti (fun h2 => by subst e; exact fun _ => rc_S_5 h1 h2) fun _ => rc_gn) fun _ => rc_gn) fun _ => rc_gn
theorem rc_g_7d : rc_Gd p 7 a b c (rc_sAi4 a b c) :=
  rc_iti (fun h1 => rc_iti (fun e => rc_iti (fun _ => rc_gn) fun hz => rc_iti (fun hw => by subst e; exact fun _ => rc_S_7d h1 hz hw) fun _ => rc_gn) fun _ => rc_gn) fun _ => rc_gn
theorem rc_g_7c : rc_Gd p 7 a b c (rc_sAi3 a b c) :=
  rc_iti (fun e => rc_iti (fun e2 => rc_iti (fun _ => rc_g_7d) fun _ => rc_iti (fun _ => rc_g_7d) fun h1 => rc_iti (fun _ => rc_g_7d) fun h2 => rc_iti (fun h3 => by subst e; subst e2; exact fun _ => rc_S_7c h1 h2 h3) fun _ => rc_g_7d) fun _ => rc_g_7d) fun _ => rc_g_7d
theorem rc_g_7b (ha : rc_Rg a) : rc_Gd p 7 a b c (rc_sAi2 a b c) :=
  rc_iti (fun e => rc_iti (fun _ => rc_g_7c) fun _ => rc_iti (fun hs => by subst e; exact fun _ => rc_S_7b ha hs) fun _ => rc_g_7c) fun _ => rc_g_7c
theorem rc_g_7a (ha : rc_Rg a) : rc_Gd p 7 a b c (rc_sAi1 a b c) :=
  rc_iti (fun e => rc_iti (fun _ => rc_g_7b ha) fun _ => rc_iti (fun _ => rc_g_7b ha) fun _ => rc_iti (fun hs => by subst e; exact fun _ => rc_S_7a ha hs) fun _ => rc_g_7b ha) fun _ => rc_g_7b ha
theorem rc_g_7 (ha : rc_Rg a) : rc_Gd p 7 a b c (rc_sAi a b c) :=
  rc_iti (fun e => rc_iti (fun e2 => rc_iti (fun e3 => by subst e; subst e2; subst e3; exact fun _ => rc_S_7n) fun _ => rc_g_7a ha) fun _ => rc_g_7a ha) fun _ => rc_g_7a ha
theorem rc_g_8 : rc_Gd p 8 a b c (rc_sAn a b c) :=
  rc_iti (fun e => rc_iti (fun h1 => rc_iti (fun hs => by subst e; exact fun _ => rc_S_8 h1 hs) fun _ => rc_gn) fun _ => rc_gn) fun _ => rc_gn
theorem rc_g_10 (ha : rc_Rg a) (hc : rc_Rg c) : rc_Gd p 10 a b c (rc_sSl a b c) :=
  rc_iti (fun e => rc_iti (fun _ => rc_gn) fun _ => rc_iti (fun _ => rc_gn) fun _ => by subst e; rw [rc_pk6_s hc]; exact fun _ => rc_S_10 ha hc) fun _ => rc_gn
theorem rc_g_11 (hc : rc_Rg c) : rc_Gd p 11 a b c (rc_sSr 32769 a b c) :=
  rc_iti (fun e => rc_iti (fun h1 => rc_iti (fun _ => rc_gn) fun _ => by subst e; exact fun _ => rc_S_11 h1 hc) fun _ => rc_gn) fun _ => rc_gn
theorem rc_g_12 (hc : rc_Rg c) : rc_Gd p 12 a b c (rc_sSr 33793 a b c) :=
  rc_iti (fun e => rc_iti (fun h1 => rc_iti (fun _ => rc_gn) fun _ => by subst e; exact fun _ => rc_S_12 h1 hc) fun _ => rc_gn) fun _ => rc_gn
theorem rc_g_13m : rc_Gd p 13 a b c (rc_sMm 16384 a b c) := rc_iti (fun h1 => rc_iti (fun h2 => rc_iti (fun h3 _ => rc_S_13m h1 h2 h3) fun _ => rc_gn) fun _ => rc_gn) fun _ => rc_gn
theorem rc_g_14m : rc_Gd p 14 a b c (rc_sMm 49152 a b c) := rc_iti (fun h1 => rc_iti (fun h2 => rc_iti (fun h3 _ => rc_S_14m h1 h2 h3) fun _ => rc_gn) fun _ => rc_gn) fun _ => rc_gn
theorem rc_g_13 (ha : rc_Rg a) : rc_Gd p 13 a b c (rc_sLw a b c) :=
  rc_iti (fun e => rc_iti (fun _ => rc_g_13m) fun _ => rc_iti (fun hw => by subst e; exact fun _ => rc_S_13s ha hw) fun _ => rc_g_13m) fun _ => rc_g_13m
theorem rc_g_14 (ha : rc_Rg a) : rc_Gd p 14 a b c (rc_sSw a b c) :=
  rc_iti (fun e => rc_iti (fun hw => by subst e; exact fun _ => rc_S_14s ha hw) fun _ => rc_g_14m) fun _ => rc_g_14m
theorem rc_g_15 (ha : rc_Rg a) : rc_Gd p 15 a b 0 (rc_sLu a b) :=
  rc_iti (fun _ => rc_gn) fun _ => rc_iti (fun _ => rc_gn) fun h2 => rc_iti (fun _ => rc_gn) fun _ => rc_iti (fun hs _ => rc_S_15 ha h2 hs) fun _ => rc_gn
theorem rc_g_16 (ha : rc_Rg a) (hb : rc_Rg b) : rc_Gd p 16 a b c (rc_sJr a b c) :=
  rc_iti (fun _ => rc_gn) fun h1 => rc_iti (fun _ => rc_gn) fun hz => rc_iti (fun ec => rc_iti (fun ea => by subst ea; subst ec; exact fun _ => rc_S_16a hb hz) fun ea => by
    rcases rc_rg_c ha with e | e | e
    · exact absurd e ea
    · subst e; subst ec; exact fun _ => rc_S_16b hb hz
    · exact absurd e.2.2 h1) fun _ => rc_gn
theorem rc_g_17 (ha : rc_Rg a) (he : rc_Ev d) : rc_Gd p 17 a (p + d) 0 (rc_sJm a d) :=
  rc_iti (fun _ => rc_gn) fun h1 => rc_iti (fun _ => rc_gn) fun h2 => rc_iti (fun h3 => rc_iti (fun ea => by subst ea; exact fun _ => rc_S_17a he h2 h3) fun ea => by
    rcases rc_rg_c ha with e | e | e
    · exact absurd e ea
    · subst e; exact fun _ => rc_S_17b he h2 h3
    · exact absurd e.2.2 h1) fun _ => rc_gn
theorem rc_g_18 (he : rc_Ev d) : rc_Gd p 18 a b (p + d) (rc_sBr 49153 a b d) :=
  rc_iti (fun h1 => rc_iti (fun e => rc_iti (fun _ => rc_gn) fun h2 => rc_iti (fun h3 => by subst e; exact fun _ => rc_S_18 h1 he h2 h3) fun _ => rc_gn) fun _ => rc_gn) fun _ => rc_gn
theorem rc_g_19 (he : rc_Ev d) : rc_Gd p 19 a b (p + d) (rc_sBr 57345 a b d) :=
  rc_iti (fun h1 => rc_iti (fun e => rc_iti (fun _ => rc_gn) fun h2 => rc_iti (fun h3 => by subst e; exact fun _ => rc_S_19 h1 he h2 h3) fun _ => rc_gn) fun _ => rc_gn) fun _ => rc_gn
theorem rc_L1 (ha : rc_Rg a) (hb : rc_Rg b) (hc : rc_Rg c) : rc_LF (rc_cRg 0 0 a b c) p 1 a b c := by
  refine ⟨(rc_an_3 _).trans (rc_ff_L1_1_0 (rc_rg_u ha) (rc_rg_u hb) (rc_rg_u hc)), ?_⟩
  intro post mI mL mS it rs ii iB gr uo ua ub uc so sa sb sc lp ln im ad lb H
  refine rc_dl_1 ((rc_an_127 _).trans (rc_ff_L1_6_0 (rc_rg_u ha) (rc_rg_u hb) (rc_rg_u hc))) (rc_ff_L1_30_30 (rc_rg_u ha) (rc_rg_u hb) (rc_rg_u hc)) (rc_ff_L1_14_12 (rc_rg_u ha) (rc_rg_u hb) (rc_rg_u hc)) ?_
  rw [rc_ff_L1_11_7 (rc_rg_u ha) (rc_rg_u hb) (rc_rg_u hc), rc_ff_L1_19_15 (rc_rg_u ha) (rc_rg_u hb) (rc_rg_u hc), rc_ff_L1_24_20 (rc_rg_u ha) (rc_rg_u hb) (rc_rg_u hc)]
  exact H
theorem rc_L2 (ha : rc_Rg a) (hb : rc_Rg b) (hc : rc_Rg c) : rc_LF (rc_cRg 32 0 a b c) p 2 a b c := by
  refine ⟨(rc_an_3 _).trans (rc_ff_L2_1_0 (rc_rg_u ha) (rc_rg_u hb) (rc_rg_u hc)), ?_⟩
  intro post mI mL mS it rs ii iB gr uo ua ub uc so sa sb sc lp ln im ad lb H
  refine rc_dl_2 ((rc_an_127 _).trans (rc_ff_L2_6_0 (rc_rg_u ha) (rc_rg_u hb) (rc_rg_u hc))) (rc_ff_L2_30_30 (rc_rg_u ha) (rc_rg_u hb) (rc_rg_u hc)) (rc_ff_L2_14_12 (rc_rg_u ha) (rc_rg_u hb) (rc_rg_u hc)) ?_
  rw [rc_ff_L2_11_7 (rc_rg_u ha) (rc_rg_u hb) (rc_rg_u hc), rc_ff_L2_19_15 (rc_rg_u ha) (rc_rg_u hb) (rc_rg_u hc), rc_ff_L2_24_20 (rc_rg_u ha) (rc_rg_u hb) (rc_rg_u hc)]
  exact H
theorem rc_L3 (ha : rc_Rg a) (hb : rc_Rg b) (hc : rc_Rg c) : rc_LF (rc_cRg 0 4 a b c) p 3 a b c := by
  refine ⟨(rc_an_3 _).trans (rc_ff_L3_1_0 (rc_rg_u ha) (rc_rg_u hb) (rc_rg_u hc)), ?_⟩
  intro post mI mL mS it rs ii iB gr uo ua ub uc so sa sb sc lp ln im ad lb H
  refine rc_dl_3 ((rc_an_127 _).trans (rc_ff_L3_6_0 (rc_rg_u ha) (rc_rg_u hb) (rc_rg_u hc))) (rc_ff_L3_14_12 (rc_rg_u ha) (rc_rg_u hb) (rc_rg_u hc)) ?_
  rw [rc_ff_L3_11_7 (rc_rg_u ha) (rc_rg_u hb) (rc_rg_u hc), rc_ff_L3_19_15 (rc_rg_u ha) (rc_rg_u hb) (rc_rg_u hc), rc_ff_L3_24_20 (rc_rg_u ha) (rc_rg_u hb) (rc_rg_u hc)]
  exact H
theorem rc_L4 (ha : rc_Rg a) (hb : rc_Rg b) (hc : rc_Rg c) : rc_LF (rc_cRg 0 6 a b c) p 4 a b c := by
  refine ⟨(rc_an_3 _).trans (rc_ff_L4_1_0 (rc_rg_u ha) (rc_rg_u hb) (rc_rg_u hc)), ?_⟩
  intro post mI mL mS it rs ii iB gr uo ua ub uc so sa sb sc lp ln im ad lb H
  refine rc_dl_4 ((rc_an_127 _).trans (rc_ff_L4_6_0 (rc_rg_u ha) (rc_rg_u hb) (rc_rg_u hc))) (rc_ff_L4_14_12 (rc_rg_u ha) (rc_rg_u hb) (rc_rg_u hc)) ?_
  rw [rc_ff_L4_11_7 (rc_rg_u ha) (rc_rg_u hb) (rc_rg_u hc), rc_ff_L4_19_15 (rc_rg_u ha) (rc_rg_u hb) (rc_rg_u hc), rc_ff_L4_24_20 (rc_rg_u ha) (rc_rg_u hb) (rc_rg_u hc)]
  exact H
theorem rc_L5 (ha : rc_Rg a) (hb : rc_Rg b) (hc : rc_Rg c) : rc_LF (rc_cRg 0 7 a b c) p 5 a b c := by
  refine ⟨(rc_an_3 _).trans (rc_ff_L5_1_0 (rc_rg_u ha) (rc_rg_u hb) (rc_rg_u hc)), ?_⟩
  intro post mI mL mS it rs ii iB gr uo ua ub uc so sa sb sc lp ln im ad lb H
  refine rc_dl_5 ((rc_an_127 _).trans (rc_ff_L5_6_0 (rc_rg_u ha) (rc_rg_u hb) (rc_rg_u hc))) (rc_ff_L5_14_12 (rc_rg_u ha) (rc_rg_u hb) (rc_rg_u hc)) ?_
  rw [rc_ff_L5_11_7 (rc_rg_u ha) (rc_rg_u hb) (rc_rg_u hc), rc_ff_L5_19_15 (rc_rg_u ha) (rc_rg_u hb) (rc_rg_u hc), rc_ff_L5_24_20 (rc_rg_u ha) (rc_rg_u hb) (rc_rg_u hc)]
  exact H
theorem rc_L6 (ha : rc_Rg a) (hb : rc_Rg b) (hc : rc_Rg c) : rc_LF (rc_cRg 0 2 a b c) p 6 a b c := by
  refine ⟨(rc_an_3 _).trans (rc_ff_L6_1_0 (rc_rg_u ha) (rc_rg_u hb) (rc_rg_u hc)), ?_⟩
  intro post mI mL mS it rs ii iB gr uo ua ub uc so sa sb sc lp ln im ad lb H
  refine rc_dl_6 ((rc_an_127 _).trans (rc_ff_L6_6_0 (rc_rg_u ha) (rc_rg_u hb) (rc_rg_u hc))) (rc_ff_L6_14_12 (rc_rg_u ha) (rc_rg_u hb) (rc_rg_u hc)) ?_
  rw [rc_ff_L6_11_7 (rc_rg_u ha) (rc_rg_u hb) (rc_rg_u hc), rc_ff_L6_19_15 (rc_rg_u ha) (rc_rg_u hb) (rc_rg_u hc), rc_ff_L6_24_20 (rc_rg_u ha) (rc_rg_u hb) (rc_rg_u hc)]
  exact H
theorem rc_L10 (ha : rc_Rg a) (hb : rc_Rg b) (hc : rc_Rg c) : rc_LF (rc_cSh 0 1 a b c) p 10 a b c := by
  refine ⟨(rc_an_3 _).trans (rc_ff_L10_1_0 (rc_rg_u ha) (rc_rg_u hb) (rc_rg_u hc)), ?_⟩
  intro post mI mL mS it rs ii iB gr uo ua ub uc so sa sb sc lp ln im ad lb H
  refine rc_dl_10 ((rc_an_127 _).trans (rc_ff_L10_6_0 (rc_rg_u ha) (rc_rg_u hb) (rc_rg_u hc))) (rc_ff_L10_14_12 (rc_rg_u ha) (rc_rg_u hb) (rc_rg_u hc)) ?_
  rw [rc_ff_L10_11_7 (rc_rg_u ha) (rc_rg_u hb) (rc_rg_u hc), rc_ff_L10_19_15 (rc_rg_u ha) (rc_rg_u hb) (rc_rg_u hc), rc_ff_L10_24_20 (rc_rg_u ha) (rc_rg_u hb) (rc_rg_u hc)]
  exact H
theorem rc_L11 (ha : rc_Rg a) (hb : rc_Rg b) (hc : rc_Rg c) : rc_LF (rc_cSh 0 5 a b c) p 11 a b c := by
  refine ⟨(rc_an_3 _).trans (rc_ff_L11_1_0 (rc_rg_u ha) (rc_rg_u hb) (rc_rg_u hc)), ?_⟩
  intro post mI mL mS it rs ii iB gr uo ua ub uc so sa sb sc lp ln im ad lb H
  refine rc_dl_11 ((rc_an_127 _).trans (rc_ff_L11_6_0 (rc_rg_u ha) (rc_rg_u hb) (rc_rg_u hc))) (rc_ff_L11_30_30 (rc_rg_u ha) (rc_rg_u hb) (rc_rg_u hc)) (rc_ff_L11_14_12 (rc_rg_u ha) (rc_rg_u hb) (rc_rg_u hc)) ?_
  rw [rc_ff_L11_11_7 (rc_rg_u ha) (rc_rg_u hb) (rc_rg_u hc), rc_ff_L11_19_15 (rc_rg_u ha) (rc_rg_u hb) (rc_rg_u hc), rc_ff_L11_24_20 (rc_rg_u ha) (rc_rg_u hb) (rc_rg_u hc)]
  exact H
theorem rc_L12 (ha : rc_Rg a) (hb : rc_Rg b) (hc : rc_Rg c) : rc_LF (rc_cSh 32 5 a b c) p 12 a b c := by
  refine ⟨(rc_an_3 _).trans (rc_ff_L12_1_0 (rc_rg_u ha) (rc_rg_u hb) (rc_rg_u hc)), ?_⟩
  intro post mI mL mS it rs ii iB gr uo ua ub uc so sa sb sc lp ln im ad lb H
  refine rc_dl_12 ((rc_an_127 _).trans (rc_ff_L12_6_0 (rc_rg_u ha) (rc_rg_u hb) (rc_rg_u hc))) (rc_ff_L12_30_30 (rc_rg_u ha) (rc_rg_u hb) (rc_rg_u hc)) (rc_ff_L12_14_12 (rc_rg_u ha) (rc_rg_u hb) (rc_rg_u hc)) ?_
  rw [rc_ff_L12_11_7 (rc_rg_u ha) (rc_rg_u hb) (rc_rg_u hc), rc_ff_L12_19_15 (rc_rg_u ha) (rc_rg_u hb) (rc_rg_u hc), rc_ff_L12_24_20 (rc_rg_u ha) (rc_rg_u hb) (rc_rg_u hc)]
  exact H
theorem rc_sh_7 (ha : rc_Rg a) (hb : rc_Rg b) (hc : rc_I12 c) : (rc_cIm 19 0 a b c) >>> (nI 20 &&& 31) = c := by
  unfold rc_cIm
  exact rc_so_l (by decide) (rc_so_l (by decide) (rc_so_l (by decide) (rc_so_l (by decide) (rc_r_i12 hc) (rc_sr_lo 5 (rc_rg_u hb) (by decide) (by decide))) (rc_sr_lo 3 (by unfold rc_uv; decide) (by decide) (by decide))) (rc_sr_lo 5 (rc_rg_u ha) (by decide) (by decide))) (rc_sr_c 7 (by unfold rc_uv; decide) (by decide) (by decide))
theorem rc_L7 (ha : rc_Rg a) (hb : rc_Rg b) (hc : rc_I12 c) : rc_LF (rc_cIm 19 0 a b c) p 7 a b c := by
  refine ⟨(rc_an_3 _).trans (rc_ff_L7_1_0 (rc_rg_u ha) (rc_rg_u hb)), ?_⟩
  intro post mI mL mS it rs ii iB gr uo ua ub uc so sa sb sc lp ln im ad lb H
  refine rc_dl_7 ((rc_an_127 _).trans (rc_ff_L7_6_0 (rc_rg_u ha) (rc_rg_u hb))) (rc_ff_L7_14_12 (rc_rg_u ha) (rc_rg_u hb)) ?_
  rw [rc_ff_L7_11_7 (rc_rg_u ha) (rc_rg_u hb), rc_ff_L7_19_15 (rc_rg_u ha) (rc_rg_u hb), rc_sh_7 ha hb hc]
  exact H
theorem rc_sh_8 (ha : rc_Rg a) (hb : rc_Rg b) (hc : rc_I12 c) : (rc_cIm 19 7 a b c) >>> (nI 20 &&& 31) = c := by
  unfold rc_cIm
  exact rc_so_l (by decide) (rc_so_l (by decide) (rc_so_l (by decide) (rc_so_l (by decide) (rc_r_i12 hc) (rc_sr_lo 5 (rc_rg_u hb) (by decide) (by decide))) (rc_sr_lo 3 (by unfold rc_uv; decide) (by decide) (by decide))) (rc_sr_lo 5 (rc_rg_u ha) (by decide) (by decide))) (rc_sr_c 7 (by unfold rc_uv; decide) (by decide) (by decide))
theorem rc_L8 (ha : rc_Rg a) (hb : rc_Rg b) (hc : rc_I12 c) : rc_LF (rc_cIm 19 7 a b c) p 8 a b c := by
  refine ⟨(rc_an_3 _).trans (rc_ff_L8_1_0 (rc_rg_u ha) (rc_rg_u hb)), ?_⟩
  intro post mI mL mS it rs ii iB gr uo ua ub uc so sa sb sc lp ln im ad lb H
  refine rc_dl_8 ((rc_an_127 _).trans (rc_ff_L8_6_0 (rc_rg_u ha) (rc_rg_u hb))) (rc_ff_L8_14_12 (rc_rg_u ha) (rc_rg_u hb)) ?_
  rw [rc_ff_L8_11_7 (rc_rg_u ha) (rc_rg_u hb), rc_ff_L8_19_15 (rc_rg_u ha) (rc_rg_u hb), rc_sh_8 ha hb hc]
  exact H
theorem rc_sh_9 (ha : rc_Rg a) (hb : rc_Rg b) (hc : rc_I12 c) : (rc_cIm 19 4 a b c) >>> (nI 20 &&& 31) = c := by
  unfold rc_cIm
  exact rc_so_l (by decide) (rc_so_l (by decide) (rc_so_l (by decide) (rc_so_l (by decide) (rc_r_i12 hc) (rc_sr_lo 5 (rc_rg_u hb) (by decide) (by decide))) (rc_sr_lo 3 (by unfold rc_uv; decide) (by decide) (by decide))) (rc_sr_lo 5 (rc_rg_u ha) (by decide) (by decide))) (rc_sr_c 7 (by unfold rc_uv; decide) (by decide) (by decide))
theorem rc_L9 (ha : rc_Rg a) (hb : rc_Rg b) (hc : rc_I12 c) : rc_LF (rc_cIm 19 4 a b c) p 9 a b c := by
  refine ⟨(rc_an_3 _).trans (rc_ff_L9_1_0 (rc_rg_u ha) (rc_rg_u hb)), ?_⟩
  intro post mI mL mS it rs ii iB gr uo ua ub uc so sa sb sc lp ln im ad lb H
  refine rc_dl_9 ((rc_an_127 _).trans (rc_ff_L9_6_0 (rc_rg_u ha) (rc_rg_u hb))) (rc_ff_L9_14_12 (rc_rg_u ha) (rc_rg_u hb)) ?_
  rw [rc_ff_L9_11_7 (rc_rg_u ha) (rc_rg_u hb), rc_ff_L9_19_15 (rc_rg_u ha) (rc_rg_u hb), rc_sh_9 ha hb hc]
  exact H
theorem rc_sh_13 (ha : rc_Rg a) (hb : rc_Rg b) (hc : rc_I12 c) : (rc_cIm 3 2 a b c) >>> (nI 20 &&& 31) = c := by
  unfold rc_cIm
  exact rc_so_l (by decide) (rc_so_l (by decide) (rc_so_l (by decide) (rc_so_l (by decide) (rc_r_i12 hc) (rc_sr_lo 5 (rc_rg_u hb) (by decide) (by decide))) (rc_sr_lo 3 (by unfold rc_uv; decide) (by decide) (by decide))) (rc_sr_lo 5 (rc_rg_u ha) (by decide) (by decide))) (rc_sr_c 7 (by unfold rc_uv; decide) (by decide) (by decide))
theorem rc_L13 (ha : rc_Rg a) (hb : rc_Rg b) (hc : rc_I12 c) : rc_LF (rc_cIm 3 2 a b c) p 13 a b c := by
  refine ⟨(rc_an_3 _).trans (rc_ff_L13_1_0 (rc_rg_u ha) (rc_rg_u hb)), ?_⟩
  intro post mI mL mS it rs ii iB gr uo ua ub uc so sa sb sc lp ln im ad lb H
  refine rc_dl_13 ((rc_an_127 _).trans (rc_ff_L13_6_0 (rc_rg_u ha) (rc_rg_u hb))) ?_
  rw [rc_ff_L13_11_7 (rc_rg_u ha) (rc_rg_u hb), rc_ff_L13_19_15 (rc_rg_u ha) (rc_rg_u hb), rc_sh_13 ha hb hc]
  exact H
theorem rc_sh_16 (ha : rc_Rg a) (hb : rc_Rg b) (hc : rc_I12 c) : (rc_cIm 103 0 a b c) >>> (nI 20 &&& 31) = c := by
  unfold rc_cIm
  exact rc_so_l (by decide) (rc_so_l (by decide) (rc_so_l (by decide) (rc_so_l (by decide) (rc_r_i12 hc) (rc_sr_lo 5 (rc_rg_u hb) (by decide) (by decide))) (rc_sr_lo 3 (by unfold rc_uv; decide) (by decide) (by decide))) (rc_sr_lo 5 (rc_rg_u ha) (by decide) (by decide))) (rc_sr_c 7 (by unfold rc_uv; decide) (by decide) (by decide))
theorem rc_L16 (ha : rc_Rg a) (hb : rc_Rg b) (hc : rc_I12 c) : rc_LF (rc_cIm 103 0 a b c) p 16 a b c := by
  refine ⟨(rc_an_3 _).trans (rc_ff_L16_1_0 (rc_rg_u ha) (rc_rg_u hb)), ?_⟩
  intro post mI mL mS it rs ii iB gr uo ua ub uc so sa sb sc lp ln im ad lb H
  refine rc_dl_16 ((rc_an_127 _).trans (rc_ff_L16_6_0 (rc_rg_u ha) (rc_rg_u hb))) ?_
  rw [rc_ff_L16_11_7 (rc_rg_u ha) (rc_rg_u hb), rc_ff_L16_19_15 (rc_rg_u ha) (rc_rg_u hb), rc_sh_16 ha hb hc]
  exact H
theorem rc_sh_14 (ha : rc_Rg a) (hb : rc_Rg b) : (rc_cSt a b c) >>> (nI 25 &&& 31) = (rc_sl (rc_fd c 11 5) 25) >>> (nI 25 &&& 31) := by
  unfold rc_cSt
  exact rc_so_l (by decide) (rc_so_l (by decide) (rc_so_l (by decide) (rc_so_l (by decide) (rc_so_l (by decide) rfl (rc_sr_lo 5 (rc_rg_u ha) (by decide) (by decide))) (rc_sr_lo 5 (rc_rg_u hb) (by decide) (by decide))) (rc_sr_lo 3 (by unfold rc_uv; decide) (by decide) (by decide))) (rc_sr_lo 5 (rc_fd_w c (by unfold rc_fo; decide)) (by decide) (by decide))) (rc_sr_c 7 (by unfold rc_uv; decide) (by decide) (by decide))
theorem rc_L14 (ha : rc_Rg a) (hb : rc_Rg b) (hc : rc_I12 c) : rc_LF (rc_cSt a b c) p 14 a b c := by
  refine ⟨(rc_an_3 _).trans (rc_ff_L14_1_0 (rc_rg_u ha) (rc_rg_u hb)), ?_⟩
  intro post mI mL mS it rs ii iB gr uo ua ub uc so sa sb sc lp ln im ad lb H
  refine rc_dl_14 ((rc_an_127 _).trans (rc_ff_L14_6_0 (rc_rg_u ha) (rc_rg_u hb))) ?_
  rw [rc_ff_L14_24_20 (rc_rg_u ha) (rc_rg_u hb), rc_ff_L14_19_15 (rc_rg_u ha) (rc_rg_u hb), rc_ff_L14_11_7 (rc_rg_u ha) (rc_rg_u hb), rc_sh_14 ha hb, rc_r_st hc]
  exact H
theorem rc_sh_15 (ha : rc_Rg a) (hb : rc_I20 b) : (rc_cLu a b) >>> (nI 12 &&& 31) = b := by
  unfold rc_cLu
  exact rc_so_l (by decide) (rc_so_l (by decide) (rc_r_i20 hb) (rc_sr_lo 5 (rc_rg_u ha) (by decide) (by decide))) (rc_sr_c 7 (by unfold rc_uv; decide) (by decide) (by decide))
theorem rc_L15 (ha : rc_Rg a) (hb : rc_I20 b) : rc_LF (rc_cLu a b) p 15 a b 0 := by
  refine ⟨(rc_an_3 _).trans (rc_ff_L15_1_0 (rc_rg_u ha)), ?_⟩
  intro post mI mL mS it rs ii iB gr uo ua ub uc so sa sb sc lp ln im ad lb H
  refine rc_dl_15 ((rc_an_127 _).trans (rc_ff_L15_6_0 (rc_rg_u ha))) ?_
  rw [rc_ff_L15_11_7 (rc_rg_u ha), rc_sh_15 ha hb]
  exact H
theorem rc_L17 (ha : rc_Rg a) (he : rc_Ev d) : rc_LF (rc_cJl a d) p 17 a (p + d) 0 := by
  refine ⟨(rc_an_3 _).trans (rc_ff_L17_1_0 (rc_rg_u ha)), ?_⟩
  intro post mI mL mS it rs ii iB gr uo ua ub uc so sa sb sc lp ln im ad lb H
  refine rc_dl_17 ((rc_an_127 _).trans (rc_ff_L17_6_0 (rc_rg_u ha))) ?_
  rw [rc_ff_L17_11_7 (rc_rg_u ha), show rc_ljo (rc_cJl a d) = d from by unfold rc_ljo; rw [rc_ff_L17_31_31 (rc_rg_u ha), rc_ff_L17_30_21 (rc_rg_u ha), rc_ff_L17_20_20 (rc_rg_u ha), rc_ff_L17_19_12 (rc_rg_u ha)]; obtain ⟨m, hm, rfl, _⟩ := rc_ev_i he; exact rc_k_ljo m hm]
  exact H
theorem rc_L18 (ha : rc_Rg a) (hb : rc_Rg b) (he : rc_Ev d) : rc_LF (rc_cBl 0 a b d) p 18 a b (p + d) := by
  refine ⟨(rc_an_3 _).trans (rc_ff_L18_1_0 (rc_rg_u ha) (rc_rg_u hb)), ?_⟩
  intro post mI mL mS it rs ii iB gr uo ua ub uc so sa sb sc lp ln im ad lb H
  refine rc_dl_18 ((rc_an_127 _).trans (rc_ff_L18_6_0 (rc_rg_u ha) (rc_rg_u hb))) (rc_ff_L18_14_12 (rc_rg_u ha) (rc_rg_u hb)) ?_
  rw [rc_ff_L18_19_15 (rc_rg_u ha) (rc_rg_u hb), rc_ff_L18_24_20 (rc_rg_u ha) (rc_rg_u hb), show rc_lbo (rc_cBl 0 a b d) = d from by unfold rc_lbo; rw [rc_ff_L18_31_31 (rc_rg_u ha) (rc_rg_u hb), rc_ff_L18_30_25 (rc_rg_u ha) (rc_rg_u hb), rc_ff_L18_11_8 (rc_rg_u ha) (rc_rg_u hb), rc_ff_L18_7_7 (rc_rg_u ha) (rc_rg_u hb)]; obtain ⟨m, hm, rfl, _⟩ := rc_ev_i he; exact rc_k_lbo m hm]
  exact H
theorem rc_L19 (ha : rc_Rg a) (hb : rc_Rg b) (he : rc_Ev d) : rc_LF (rc_cBl 1 a b d) p 19 a b (p + d) := by
  refine ⟨(rc_an_3 _).trans (rc_ff_L19_1_0 (rc_rg_u ha) (rc_rg_u hb)), ?_⟩
  intro post mI mL mS it rs ii iB gr uo ua ub uc so sa sb sc lp ln im ad lb H
  refine rc_dl_19 ((rc_an_127 _).trans (rc_ff_L19_6_0 (rc_rg_u ha) (rc_rg_u hb))) (rc_ff_L19_14_12 (rc_rg_u ha) (rc_rg_u hb)) ?_
  rw [rc_ff_L19_19_15 (rc_rg_u ha) (rc_rg_u hb), rc_ff_L19_24_20 (rc_rg_u ha) (rc_rg_u hb), show rc_lbo (rc_cBl 1 a b d) = d from by unfold rc_lbo; rw [rc_ff_L19_31_31 (rc_rg_u ha) (rc_rg_u hb), rc_ff_L19_30_25 (rc_rg_u ha) (rc_rg_u hb), rc_ff_L19_11_8 (rc_rg_u ha) (rc_rg_u hb), rc_ff_L19_7_7 (rc_rg_u ha) (rc_rg_u hb)]; obtain ⟨m, hm, rfl, _⟩ := rc_ev_i he; exact rc_k_lbo m hm]
  exact H
theorem rc_L20 (ha : rc_Rg a) (hb : rc_Rg b) (he : rc_Ev d) : rc_LF (rc_cBl 4 a b d) p 20 a b (p + d) := by
  refine ⟨(rc_an_3 _).trans (rc_ff_L20_1_0 (rc_rg_u ha) (rc_rg_u hb)), ?_⟩
  intro post mI mL mS it rs ii iB gr uo ua ub uc so sa sb sc lp ln im ad lb H
  refine rc_dl_20 ((rc_an_127 _).trans (rc_ff_L20_6_0 (rc_rg_u ha) (rc_rg_u hb))) (rc_ff_L20_14_12 (rc_rg_u ha) (rc_rg_u hb)) ?_
  rw [rc_ff_L20_19_15 (rc_rg_u ha) (rc_rg_u hb), rc_ff_L20_24_20 (rc_rg_u ha) (rc_rg_u hb), show rc_lbo (rc_cBl 4 a b d) = d from by unfold rc_lbo; rw [rc_ff_L20_31_31 (rc_rg_u ha) (rc_rg_u hb), rc_ff_L20_30_25 (rc_rg_u ha) (rc_rg_u hb), rc_ff_L20_11_8 (rc_rg_u ha) (rc_rg_u hb), rc_ff_L20_7_7 (rc_rg_u ha) (rc_rg_u hb)]; obtain ⟨m, hm, rfl, _⟩ := rc_ev_i he; exact rc_k_lbo m hm]
  exact H
theorem rc_L21 : rc_LF 1048691 p 21 0 0 0 := by
  refine ⟨by decide, ?_⟩
  intro post mI mL mS it rs ii iB gr uo ua ub uc so sa sb sc lp ln im ad lb H
  exact rc_dl_21 (by decide) H
theorem rc_sh_e0 {f : Int32} (hc : rc_Rg c) : rc_cIm 19 f a b c = rc_cSh 0 f a b c := by
  obtain ⟨m, hm, rfl⟩ := hc
  unfold rc_cIm rc_cSh
  rw [rc_c20_10 m hm]
theorem rc_sh_e1 {f : Int32} (hc : rc_Rg c) : rc_cIm 19 f a b (c ||| 1024) = rc_cSh 32 f a b c := by
  obtain ⟨m, hm, rfl⟩ := hc
  unfold rc_cIm rc_cSh
  rw [rc_c20_12 m hm]
end
end
section
/-! case by case over the legal instructions -/
theorem rc_lg_c {L : Int32} {P : Int32 → Int32 → Int32 → Int32 → Prop} (h1 : ∀ a b c, rc_Rg a → rc_Rg b → rc_Rg c → P 1 a b c) (h2 : ∀ a b c, rc_Rg a → rc_Rg b → rc_Rg c → P 2 a b c) (h3 : ∀ a b c, rc_Rg a → rc_Rg b → rc_Rg c → P 3 a b c) (h4 : ∀ a b c, rc_Rg a → rc_Rg b → rc_Rg c → P 4 a b c) (h5 : ∀ a b c, rc_Rg a → rc_Rg b → rc_Rg c → P 5 a b c) (h6 : ∀ a b c, rc_Rg a → rc_Rg b → rc_Rg c → P 6 a b c) (h7 : ∀ a b c, rc_Rg a → rc_Rg b → rc_I12 c → P 7 a b c) (h8 : ∀ a b c, rc_Rg a → rc_Rg b → rc_I12 c → P 8 a b c) (h9 : ∀ a b c, rc_Rg a → rc_Rg b → rc_I12 c → P 9 a b c) (h10 : ∀ a b c, rc_Rg a → rc_Rg b → rc_Rg c → P 10 a b c) (h11 : ∀ a b c, rc_Rg a → rc_Rg b → rc_Rg c → P 11 a b c) (h12 : ∀ a b c, rc_Rg a → rc_Rg b → rc_Rg c → P 12 a b c) (h13 : ∀ a b c, rc_Rg a → rc_Rg b → rc_I12 c → P 13 a b c) (h14 : ∀ a b c, rc_Rg a → rc_Rg b → rc_I12 c → P 14 a b c) (h15 : ∀ a b, rc_Rg a → rc_I20 b → P 15 a b 0) (h16 : ∀ a b c, rc_Rg a → rc_Rg b → rc_I12 c → P 16 a b c) (h17 : ∀ a b, rc_Rg a → rc_Lb L b → P 17 a b 0) (h18 : ∀ a b c, rc_Rg a → rc_Rg b → rc_Lb L c → P 18 a b c) (h19 : ∀ a b c, rc_Rg a → rc_Rg b → rc_Lb L c → P 19 a b c) (h20 : ∀ a b c, rc_Rg a → rc_Rg b → rc_Lb L c → P 20 a b c) (h21 : P 21 0 0 0) {op a b c : Int32} (h : rc_LegI L op a b c) : P op a b c := by
  obtain ⟨o, g1, g2, rfl, ha, hb, hc⟩ := h
  have hq : o = 1 ∨ o = 2 ∨ o = 3 ∨ o = 4 ∨ o = 5 ∨ o = 6 ∨ o = 7 ∨ o = 8 ∨ o = 9 ∨ o = 10 ∨ o = 11 ∨ o = 12 ∨ o = 13 ∨ o = 14 ∨ o = 15 ∨ o = 16 ∨ o = 17 ∨ o = 18 ∨ o = 19 ∨ o = 20 ∨ o = 21 := by omega
  rcases hq with rfl | rfl | rfl | rfl | rfl | rfl | rfl | rfl | rfl | rfl | rfl | rfl | rfl | rfl | rfl | rfl | rfl | rfl | rfl | rfl | rfl
  · exact h1 a b c (rc_rg_of ha) (rc_rg_of hb) (rc_rg_of hc)
  · exact h2 a b c (rc_rg_of ha) (rc_rg_of hb) (rc_rg_of hc)
  · exact h3 a b c (rc_rg_of ha) (rc_rg_of hb) (rc_rg_of hc)
  · exact h4 a b c (rc_rg_of ha) (rc_rg_of hb) (rc_rg_of hc)
  · exact h5 a b c (rc_rg_of ha) (rc_rg_of hb) (rc_rg_of hc)
  · exact h6 a b c (rc_rg_of ha) (rc_rg_of hb) (rc_rg_of hc)
  · exact h7 a b c (rc_rg_of ha) (rc_rg_of hb) hc
  · exact h8 a b c (rc_rg_of ha) (rc_rg_of hb) hc
  · exact h9 a b c (rc_rg_of ha) (rc_rg_of hb) hc
  · exact h10 a b c (rc_rg_of ha) (rc_rg_of hb) (rc_rg_of hc)
  · exact h11 a b c (rc_rg_of ha) (rc_rg_of hb) (rc_rg_of hc)
  · exact h12 a b c (rc_rg_of ha) (rc_rg_of hb) (rc_rg_of hc)
  · exact h13 a b c (rc_rg_of ha) (rc_rg_of hb) hc
  · exact h14 a b c (rc_rg_of ha) (rc_rg_of hb) hc
  · have hc' : c = 0 := hc
    subst hc'
    exact h15 a b (rc_rg_of ha) hb
  · exact h16 a b c (rc_rg_of ha) (rc_rg_of hb) hc
  · have hc' : c = 0 := hc
    subst hc'
    exact h17 a b (rc_rg_of ha) hb
  · exact h18 a b c (rc_rg_of ha) (rc_rg_of hb) hc
  · exact h19 a b c (rc_rg_of ha) (rc_rg_of hb) hc
  · exact h20 a b c (rc_rg_of ha) (rc_rg_of hb) hc
  · have ha' : a = 0 := ha
    have hb' : b = 0 := hb
    have hc' : c = 0 := hc
    subst ha' hb' hc'
    exact h21
theorem rc_lg_o {L op a b c : Int32} (h : rc_LegI L op a b c) : ∃ o, o < 22 ∧ op = nI o := by
  obtain ⟨o, _, h2, h3, _⟩ := h
  exact ⟨o, h2, h3⟩
theorem rc_lg_n0 {L op a b c : Int32} (h : rc_LegI L op a b c) : ¬ op = 0 := by
  obtain ⟨o, h1, h2, rfl, _⟩ := h
  rw [show (0 : Int32) = nI 0 from rfl, nI_eq (by omega) (by omega)]
  omega
def rc_tB (op b p d : Int32) : Int32 := if op = 17 then p + d else b
def rc_tC (op c p d : Int32) : Int32 := if op = 18 ∨ op = 19 ∨ op = 20 then p + d else c
theorem rc_tB_n {op b p d : Int32} (h : ¬ op = 17) : rc_tB op b p d = b := if_neg h
theorem rc_tC_n {op c p d : Int32} (h : ¬ (op = 18 ∨ op = 19 ∨ op = 20)) : rc_tC op c p d = c := if_neg h
theorem rc_tB_y {b p d : Int32} : rc_tB 17 b p d = p + d := if_pos rfl
theorem rc_tC_y {op c p d : Int32} (h : op = 18 ∨ op = 19 ∨ op = 20) : rc_tC op c p d = p + d := if_pos h
section
variable {L op a b c d p : Int32}
theorem rc_ds_s (he : rc_Ev d) (hl : rc_LegI L op a b c) : 0 ≤ rc_sf op a b c d → rc_SF (rc_sf op a b c d) p op a (rc_tB op b p d) (rc_tC op c p d) :=
  rc_lg_c (P := fun op a b c => 0 ≤ rc_sf op a b c d → rc_SF (rc_sf op a b c d) p op a (rc_tB op b p d) (rc_tC op c p d)) (fun a b c ha hb hc => by rw [rc_sf_1, rc_tB_n (by decide), rc_tC_n (by decide)]; exact rc_g_1 ha hc)
    (fun a b c ha hb hc => by rw [rc_sf_2, rc_tB_n (by decide), rc_tC_n (by decide)]; exact rc_g_2)
    (fun a b c ha hb hc => by rw [rc_sf_3, rc_tB_n (by decide), rc_tC_n (by decide)]; exact rc_g_3)
    (fun a b c ha hb hc => by rw [rc_sf_4, rc_tB_n (by decide), rc_tC_n (by decide)]; exact rc_g_4)
    (fun a b c ha hb hc => by rw [rc_sf_5, rc_tB_n (by decide), rc_tC_n (by decide)]; exact rc_g_5)
    (fun a b c ha hb hc => by rw [rc_sf_6, rc_tB_n (by decide), rc_tC_n (by decide)]; exact rc_gn)
    (fun a b c ha hb hc => by rw [rc_sf_7, rc_tB_n (by decide), rc_tC_n (by decide)]; exact rc_g_7 ha)
    (fun a b c ha hb hc => by rw [rc_sf_8, rc_tB_n (by decide), rc_tC_n (by decide)]; exact rc_g_8)
    (fun a b c ha hb hc => by rw [rc_sf_9, rc_tB_n (by decide), rc_tC_n (by decide)]; exact rc_gn)
    (fun a b c ha hb hc => by rw [rc_sf_10, rc_tB_n (by decide), rc_tC_n (by decide)]; exact rc_g_10 ha hc)
    (fun a b c ha hb hc => by rw [rc_sf_11, rc_tB_n (by decide), rc_tC_n (by decide)]; exact rc_g_11 hc)
    (fun a b c ha hb hc => by rw [rc_sf_12, rc_tB_n (by decide), rc_tC_n (by decide)]; exact rc_g_12 hc)
    (fun a b c ha hb hc => by rw [rc_sf_13, rc_tB_n (by decide), rc_tC_n (by decide)]; exact rc_g_13 ha)
    (fun a b c ha hb hc => by rw [rc_sf_14, rc_tB_n (by decide), rc_tC_n (by decide)]; exact rc_g_14 ha)
    (fun a b ha hb => by rw [rc_sf_15, rc_tB_n (by decide), rc_tC_n (by decide)]; exact rc_g_15 ha)
    (fun a b c ha hb hc => by rw [rc_sf_16, rc_tB_n (by decide), rc_tC_n (by decide)]; exact rc_g_16 ha hb)
    (fun a b ha hb => by rw [rc_sf_17, rc_tB_y, rc_tC_n (by decide)]; exact rc_g_17 ha he)
    (fun a b c ha hb hc => by rw [rc_sf_18, rc_tB_n (by decide), rc_tC_y (by decide)]; exact rc_g_18 he)
    (fun a b c ha hb hc => by rw [rc_sf_19, rc_tB_n (by decide), rc_tC_y (by decide)]; exact rc_g_19 he)
    (fun a b c ha hb hc => by rw [rc_sf_20, rc_tB_n (by decide), rc_tC_y (by decide)]; exact rc_gn)
    (by rw [rc_sf_21, rc_tB_n (by decide), rc_tC_n (by decide)]; exact fun _ => rc_S_21) hl
theorem rc_ds_l (he : rc_Ev d) (hl : rc_LegI L op a b c) : rc_LF (rc_lf op a b c d) p op a (rc_tB op b p d) (rc_tC op c p d) :=
  rc_lg_c (P := fun op a b c => rc_LF (rc_lf op a b c d) p op a (rc_tB op b p d) (rc_tC op c p d)) (fun a b c ha hb hc => by rw [rc_lf_1, rc_tB_n (by decide), rc_tC_n (by decide)]; exact rc_L1 ha hb hc)
    (fun a b c ha hb hc => by rw [rc_lf_2, rc_tB_n (by decide), rc_tC_n (by decide)]; exact rc_L2 ha hb hc)
    (fun a b c ha hb hc => by rw [rc_lf_3, rc_tB_n (by decide), rc_tC_n (by decide)]; exact rc_L3 ha hb hc)
    (fun a b c ha hb hc => by rw [rc_lf_4, rc_tB_n (by decide), rc_tC_n (by decide)]; exact rc_L4 ha hb hc)
    (fun a b c ha hb hc => by rw [rc_lf_5, rc_tB_n (by decide), rc_tC_n (by decide)]; exact rc_L5 ha hb hc)
    (fun a b c ha hb hc => by rw [rc_lf_6, rc_tB_n (by decide), rc_tC_n (by decide)]; exact rc_L6 ha hb hc)
    (fun a b c ha hb hc => by rw [rc_lf_7, rc_tB_n (by decide), rc_tC_n (by decide)]; exact rc_L7 ha hb hc)
    (fun a b c ha hb hc => by rw [rc_lf_8, rc_tB_n (by decide), rc_tC_n (by decide)]; exact rc_L8 ha hb hc)
    (fun a b c ha hb hc => by rw [rc_lf_9, rc_tB_n (by decide), rc_tC_n (by decide)]; exact rc_L9 ha hb hc)
    (fun a b c ha hb hc => by rw [rc_lf_10, rc_tB_n (by decide), rc_tC_n (by decide)]; exact by rw [rc_sh_e0 hc]; exact rc_L10 ha hb hc)
    (fun a b c ha hb hc => by rw [rc_lf_11, rc_tB_n (by decide), rc_tC_n (by decide)]; exact by rw [rc_sh_e0 hc]; exact rc_L11 ha hb hc)
    (fun a b c ha hb hc => by rw [rc_lf_12, rc_tB_n (by decide), rc_tC_n (by decide)]; exact by rw [rc_sh_e1 hc]; exact rc_L12 ha hb hc)
    (fun a b c ha hb hc => by rw [rc_lf_13, rc_tB_n (by decide), rc_tC_n (by decide)]; exact rc_L13 ha hb hc)
    (fun a b c ha hb hc => by rw [rc_lf_14, rc_tB_n (by decide), rc_tC_n (by decide)]; exact rc_L14 ha hb hc)
    (fun a b ha hb => by rw [rc_lf_15, rc_tB_n (by decide), rc_tC_n (by decide)]; exact rc_L15 ha hb)
    (fun a b c ha hb hc => by rw [rc_lf_16, rc_tB_n (by decide), rc_tC_n (by decide)]; exact rc_L16 ha hb hc)
    (fun a b ha hb => by rw [rc_lf_17, rc_tB_y, rc_tC_n (by decide)]; exact rc_L17 ha he)
    (fun a b c ha hb hc => by rw [rc_lf_18, rc_tB_n (by decide), rc_tC_y (by decide)]; exact rc_L18 ha hb he)
    (fun a b c ha hb hc => by rw [rc_lf_19, rc_tB_n (by decide), rc_tC_y (by decide)]; exact rc_L19 ha hb he)
    (fun a b c ha hb hc => by rw [rc_lf_20, rc_tB_n (by decide), rc_tC_y (by decide)]; exact rc_L20 ha hb he)
    (by rw [rc_lf_21, rc_tB_n (by decide), rc_tC_n (by decide)]; exact rc_L21) hl
end
section
variable {mI mL mS it ii : Int32} {so sa sb sc lp yo ya yb yc yl yp : Nat → Int32} {post : Int32 → Prop} {L op a b c d : Int32}
theorem rc_y_sf (hl : rc_LegI L op a b c) : post (rc_sf op a b c d) → wpY_shortForm post (mI, mL, mS, it, ii, so, sa, sb, sc, lp, yo, ya, yb, yc, yl, yp) op a b c d :=
  rc_lg_c (P := fun op a b c => post (rc_sf op a b c d) → wpY_shortForm post (mI, mL, mS, it, ii, so, sa, sb, sc, lp, yo, ya, yb, yc, yl, yp) op a b c d) (fun a b c ha hb hc => rc_y_sf1)
    (fun a b c ha hb hc => rc_y_sf2)
    (fun a b c ha hb hc => rc_y_sf3)
    (fun a b c ha hb hc => rc_y_sf4)
    (fun a b c ha hb hc => rc_y_sf5)
    (fun a b c ha hb hc => rc_y_sf6)
    (fun a b c ha hb hc => rc_y_sf7)
    (fun a b c ha hb hc => rc_y_sf8)
    (fun a b c ha hb hc => rc_y_sf9)
    (fun a b c ha hb hc => rc_y_sf10 hc)
    (fun a b c ha hb hc => rc_y_sf11)
    (fun a b c ha hb hc => rc_y_sf12)
    (fun a b c ha hb hc => rc_y_sf13)
    (fun a b c ha hb hc => rc_y_sf14)
    (fun a b ha hb => rc_y_sf15)
    (fun a b c ha hb hc => rc_y_sf16 ha)
    (fun a b ha hb => rc_y_sf17 ha)
    (fun a b c ha hb hc => rc_y_sf18)
    (fun a b c ha hb hc => rc_y_sf19)
    (fun a b c ha hb hc => rc_y_sf20)
    (rc_y_sf21) hl
theorem rc_y_tl (hl : rc_LegI L op a b c) : post (rc_lf op a b c d) → wpY_f3 (fun r_26 => (∀ x7 : Int32, x7 = r_26 <<< ((12 : Int32) &&& 31) → ((op = 2 → wY_longAt_58 post op a b c d x7 mI mL mS it ii so sa sb sc lp yo ya yb yc yl yp) ∧ (¬ op = 2 → ((op = 12 → wY_longAt_58 post op a b c d x7 mI mL mS it ii so sa sb sc lp yo ya yb yc yl yp) ∧ (¬ op = 12 → wY_longAt_64 post op a b c d x7 0 mI mL mS it ii so sa sb sc lp yo ya yb yc yl yp)))))) (mI, mL, mS, it, ii, so, sa, sb, sc, lp, yo, ya, yb, yc, yl, yp) op :=
  rc_lg_c (P := fun op a b c => post (rc_lf op a b c d) → wpY_f3 (fun r_26 => (∀ x7 : Int32, x7 = r_26 <<< ((12 : Int32) &&& 31) → ((op = 2 → wY_longAt_58 post op a b c d x7 mI mL mS it ii so sa sb sc lp yo ya yb yc yl yp) ∧ (¬ op = 2 → ((op = 12 → wY_longAt_58 post op a b c d x7 mI mL mS it ii so sa sb sc lp yo ya yb yc yl yp) ∧ (¬ op = 12 → wY_longAt_64 post op a b c d x7 0 mI mL mS it ii so sa sb sc lp yo ya yb yc yl yp)))))) (mI, mL, mS, it, ii, so, sa, sb, sc, lp, yo, ya, yb, yc, yl, yp) op) (fun a b c ha hb hc => fun h => rc_y_f3_1 (nm_e (br_f (by decide) (br_f (by decide) (rc_y_l64_1 h)))))
    (fun a b c ha hb hc => fun h => rc_y_f3_2 (nm_e (br_t rfl (rc_y_l64_2 h))))
    (fun a b c ha hb hc => fun h => rc_y_f3_3 (nm_e (br_f (by decide) (br_f (by decide) (rc_y_l64_3 h)))))
    (fun a b c ha hb hc => fun h => rc_y_f3_4 (nm_e (br_f (by decide) (br_f (by decide) (rc_y_l64_4 h)))))
    (fun a b c ha hb hc => fun h => rc_y_f3_5 (nm_e (br_f (by decide) (br_f (by decide) (rc_y_l64_5 h)))))
    (fun a b c ha hb hc => fun h => rc_y_f3_6 (nm_e (br_f (by decide) (br_f (by decide) (rc_y_l64_6 h)))))
    (fun a b c ha hb hc => fun h => rc_y_f3_7 (nm_e (br_f (by decide) (br_f (by decide) (rc_y_l64_7 h)))))
    (fun a b c ha hb hc => fun h => rc_y_f3_8 (nm_e (br_f (by decide) (br_f (by decide) (rc_y_l64_8 h)))))
    (fun a b c ha hb hc => fun h => rc_y_f3_9 (nm_e (br_f (by decide) (br_f (by decide) (rc_y_l64_9 h)))))
    (fun a b c ha hb hc => fun h => rc_y_f3_10 (nm_e (br_f (by decide) (br_f (by decide) (rc_y_l64_10 hc h)))))
    (fun a b c ha hb hc => fun h => rc_y_f3_11 (nm_e (br_f (by decide) (br_f (by decide) (rc_y_l64_11 hc h)))))
    (fun a b c ha hb hc => fun h => rc_y_f3_12 (nm_e (br_f (by decide) (br_t rfl (rc_y_l64_12 hc h)))))
    (fun a b c ha hb hc => fun h => rc_y_f3_13 (nm_e (br_f (by decide) (br_f (by decide) (rc_y_l64_13 h)))))
    (fun a b c ha hb hc => fun h => rc_y_f3_14 (nm_e (br_f (by decide) (br_f (by decide) (rc_y_l64_14 h)))))
    (fun a b ha hb => fun h => rc_y_f3_15 (nm_e (br_f (by decide) (br_f (by decide) (rc_y_l64_15 h)))))
    (fun a b c ha hb hc => fun h => rc_y_f3_16 (nm_e (br_f (by decide) (br_f (by decide) (rc_y_l64_16 h)))))
    (fun a b ha hb => fun h => rc_y_f3_17 (nm_e (br_f (by decide) (br_f (by decide) (rc_y_l64_17 h)))))
    (fun a b c ha hb hc => fun h => rc_y_f3_18 (nm_e (br_f (by decide) (br_f (by decide) (rc_y_l64_18 h)))))
    (fun a b c ha hb hc => fun h => rc_y_f3_19 (nm_e (br_f (by decide) (br_f (by decide) (rc_y_l64_19 h)))))
    (fun a b c ha hb hc => fun h => rc_y_f3_20 (nm_e (br_f (by decide) (br_f (by decide) (rc_y_l64_20 h)))))
    (fun h => rc_y_f3_21 (nm_e (br_f (by decide) (br_f (by decide) (rc_y_l64_21 h))))) hl
end
/-! reach: monotone in the displacement -/
def rc_lab (op b c : Int32) : Int32 := if op = 17 then b else if op < 18 then -1 else if 20 < op then -1 else c
theorem rc_lab_n {op b c : Int32} (h7 : ¬ op = 17) (h : op < 18 ∨ 20 < op) : rc_lab op b c = -1 := by
  unfold rc_lab
  rw [if_neg h7]
  by_cases e : op < 18
  · rw [if_pos e]
  · rw [if_neg e, if_pos (h.resolve_left e)]
theorem rc_lab_c {op b c : Int32} (h7 : ¬ op = 17) (h1 : ¬ op < 18) (h2 : ¬ 20 < op) : rc_lab op b c = c := by
  unfold rc_lab
  rw [if_neg h7, if_neg h1, if_neg h2]
theorem rc_lab_j {b c : Int32} : rc_lab 17 b c = b := if_pos rfl
section
variable {L op a b c d d' : Int32}
def rc_Btw (d d' : Int32) : Prop := (0 ≤ d.toInt ∧ d.toInt ≤ d'.toInt) ∨ (d'.toInt ≤ d.toInt ∧ d.toInt ≤ 0)
theorem rc_jm_p {k : Int32} (hk : k = 40961 ∨ k = 8193) : 0 ≤ rc_cJm k d := by
  rcases hk with e | e
  · rw [e]; exact rc_uv_pos rc_fu_jm40961 (by decide)
  · rw [e]; exact rc_uv_pos rc_fu_jm8193 (by decide)
theorem rc_br_p {k : Int32} (hk : k = 49153 ∨ k = 57345) (ha : rc_lw a) : 0 ≤ rc_cBr k a d := by
  rcases hk with e | e
  · rw [e]; exact rc_uv_pos (rc_fu_b49153 (rc_lw_u ha)) (by decide)
  · rw [e]; exact rc_uv_pos (rc_fu_b57345 (rc_lw_u ha)) (by decide)
theorem rc_sJm_c : 0 ≤ rc_sJm a d ↔ ¬ 1 < a ∧ ¬ d < (-2048) ∧ d ≤ 2046 := by
  constructor
  · intro h
    unfold rc_sJm at h
    by_cases h1 : 1 < a
    · rw [if_pos h1] at h; exact absurd h (by decide)
    rw [if_neg h1] at h
    by_cases h2 : d < (-2048)
    · rw [if_pos h2] at h; exact absurd h (by decide)
    rw [if_neg h2] at h
    by_cases h3 : d ≤ 2046
    · exact ⟨h1, h2, h3⟩
    · rw [if_neg h3] at h; exact absurd h (by decide)
  · intro ⟨h1, h2, h3⟩
    unfold rc_sJm
    rw [if_neg h1, if_neg h2, if_pos h3]
    exact rc_iti (P := fun r => 0 ≤ r) (fun _ => rc_jm_p (Or.inl rfl)) fun _ => rc_jm_p (Or.inr rfl)
theorem rc_sBr_c {k : Int32} (hk : k = 49153 ∨ k = 57345) : 0 ≤ rc_sBr k a b d ↔ rc_lw a ∧ b = 0 ∧ ¬ d < (-256) ∧ d ≤ 254 := by
  constructor
  · intro h
    unfold rc_sBr at h
    by_cases h1 : rc_lw a
    · rw [if_pos h1] at h
      by_cases h2 : b = 0
      · rw [if_pos h2] at h
        by_cases h3 : d < (-256)
        · rw [if_pos h3] at h; exact absurd h (by decide)
        rw [if_neg h3] at h
        by_cases h4 : d ≤ 254
        · exact ⟨h1, h2, h3, h4⟩
        · rw [if_neg h4] at h; exact absurd h (by decide)
      · rw [if_neg h2] at h; exact absurd h (by decide)
    · rw [if_neg h1] at h; exact absurd h (by decide)
  · intro ⟨h1, h2, h3, h4⟩
    unfold rc_sBr
    rw [if_pos h1, if_pos h2, if_neg h3, if_pos h4]
    exact rc_br_p hk h1
theorem rc_btw_r {k m : Int32} (hb : rc_Btw d d') (hk : k.toInt ≤ 0) (hm : 0 ≤ m.toInt) (h1 : ¬ d' < k) (h2 : d' ≤ m) : ¬ d < k ∧ d ≤ m := by
  rw [Int32.lt_iff_toInt_lt] at *
  rw [Int32.le_iff_toInt_le] at *
  unfold rc_Btw at hb
  omega
theorem rc_sf_mono (hw : rc_Btw d d') (hl : rc_LegI L op a b c) : 0 ≤ rc_sf op a b c d' → 0 ≤ rc_sf op a b c d :=
  rc_lg_c (P := fun op a b c => 0 ≤ rc_sf op a b c d' → 0 ≤ rc_sf op a b c d) (fun a b c ha hb hc => by rw [rc_sf_1, rc_sf_1]; exact id)
    (fun a b c ha hb hc => by rw [rc_sf_2, rc_sf_2]; exact id)
    (fun a b c ha hb hc => by rw [rc_sf_3, rc_sf_3]; exact id)
    (fun a b c ha hb hc => by rw [rc_sf_4, rc_sf_4]; exact id)
    (fun a b c ha hb hc => by rw [rc_sf_5, rc_sf_5]; exact id)
    (fun a b c ha hb hc => by rw [rc_sf_6, rc_sf_6]; exact id)
    (fun a b c ha hb hc => by rw [rc_sf_7, rc_sf_7]; exact id)
    (fun a b c ha hb hc => by rw [rc_sf_8, rc_sf_8]; exact id)
    (fun a b c ha hb hc => by rw [rc_sf_9, rc_sf_9]; exact id)
    (fun a b c ha hb hc => by rw [rc_sf_10, rc_sf_10]; exact id)
    (fun a b c ha hb hc => by rw [rc_sf_11, rc_sf_11]; exact id)
    (fun a b c ha hb hc => by rw [rc_sf_12, rc_sf_12]; exact id)
    (fun a b c ha hb hc => by rw [rc_sf_13, rc_sf_13]; exact id)
    (fun a b c ha hb hc => by rw [rc_sf_14, rc_sf_14]; exact id)
    (fun a b ha hb => by rw [rc_sf_15, rc_sf_15]; exact id)
    (fun a b c ha hb hc => by rw [rc_sf_16, rc_sf_16]; exact id)
    (fun a b ha hb => by
      rw [rc_sf_17, rc_sf_17, rc_sJm_c, rc_sJm_c]
      intro ⟨h1, h2, h3⟩
      exact ⟨h1, rc_btw_r hw (by decide) (by decide) h2 h3⟩)
    (fun a b c ha hb hc => by
      rw [rc_sf_18, rc_sf_18, rc_sBr_c (by decide), rc_sBr_c (by decide)]
      intro ⟨rc_h0, h1, h2, h3⟩
      exact ⟨rc_h0, h1, rc_btw_r hw (by decide) (by decide) h2 h3⟩)
    (fun a b c ha hb hc => by
      rw [rc_sf_19, rc_sf_19, rc_sBr_c (by decide), rc_sBr_c (by decide)]
      intro ⟨rc_h0, h1, h2, h3⟩
      exact ⟨rc_h0, h1, rc_btw_r hw (by decide) (by decide) h2 h3⟩)
    (fun a b c ha hb hc => by rw [rc_sf_20, rc_sf_20]; exact id)
    (by rw [rc_sf_21, rc_sf_21]; exact id) hl
abbrev rc_Fl (op a b : Int32) : Prop := (op = 17 ∧ (a = 0 ∨ a = 1)) ∨ ((op = 18 ∨ op = 19) ∧ rc_lw a ∧ b = 0)
theorem rc_fl_0 (hl : rc_LegI L op a b c) : rc_Fl op a b → 0 ≤ rc_sf op a b c 0 :=
  rc_lg_c (P := fun op a b c => rc_Fl op a b → 0 ≤ rc_sf op a b c 0) (fun a b c ha hb hc => fun h => absurd h (by unfold rc_Fl; intro z; rcases z with ⟨z, _⟩ | ⟨z, _⟩ <;> exact absurd z (by decide)))
    (fun a b c ha hb hc => fun h => absurd h (by unfold rc_Fl; intro z; rcases z with ⟨z, _⟩ | ⟨z, _⟩ <;> exact absurd z (by decide)))
    (fun a b c ha hb hc => fun h => absurd h (by unfold rc_Fl; intro z; rcases z with ⟨z, _⟩ | ⟨z, _⟩ <;> exact absurd z (by decide)))
    (fun a b c ha hb hc => fun h => absurd h (by unfold rc_Fl; intro z; rcases z with ⟨z, _⟩ | ⟨z, _⟩ <;> exact absurd z (by decide)))
    (fun a b c ha hb hc => fun h => absurd h (by unfold rc_Fl; intro z; rcases z with ⟨z, _⟩ | ⟨z, _⟩ <;> exact absurd z (by decide)))
    (fun a b c ha hb hc => fun h => absurd h (by unfold rc_Fl; intro z; rcases z with ⟨z, _⟩ | ⟨z, _⟩ <;> exact absurd z (by decide)))
    (fun a b c ha hb hc => fun h => absurd h (by unfold rc_Fl; intro z; rcases z with ⟨z, _⟩ | ⟨z, _⟩ <;> exact absurd z (by decide)))
    (fun a b c ha hb hc => fun h => absurd h (by unfold rc_Fl; intro z; rcases z with ⟨z, _⟩ | ⟨z, _⟩ <;> exact absurd z (by decide)))
    (fun a b c ha hb hc => fun h => absurd h (by unfold rc_Fl; intro z; rcases z with ⟨z, _⟩ | ⟨z, _⟩ <;> exact absurd z (by decide)))
    (fun a b c ha hb hc => fun h => absurd h (by unfold rc_Fl; intro z; rcases z with ⟨z, _⟩ | ⟨z, _⟩ <;> exact absurd z (by decide)))
    (fun a b c ha hb hc => fun h => absurd h (by unfold rc_Fl; intro z; rcases z with ⟨z, _⟩ | ⟨z, _⟩ <;> exact absurd z (by decide)))
    (fun a b c ha hb hc => fun h => absurd h (by unfold rc_Fl; intro z; rcases z with ⟨z, _⟩ | ⟨z, _⟩ <;> exact absurd z (by decide)))
    (fun a b c ha hb hc => fun h => absurd h (by unfold rc_Fl; intro z; rcases z with ⟨z, _⟩ | ⟨z, _⟩ <;> exact absurd z (by decide)))
    (fun a b c ha hb hc => fun h => absurd h (by unfold rc_Fl; intro z; rcases z with ⟨z, _⟩ | ⟨z, _⟩ <;> exact absurd z (by decide)))
    (fun a b ha hb => fun h => absurd h (by unfold rc_Fl; intro z; rcases z with ⟨z, _⟩ | ⟨z, _⟩ <;> exact absurd z (by decide)))
    (fun a b c ha hb hc => fun h => absurd h (by unfold rc_Fl; intro z; rcases z with ⟨z, _⟩ | ⟨z, _⟩ <;> exact absurd z (by decide)))
    (fun a b ha hb => by
      intro h
      rw [rc_sf_17, rc_sJm_c]
      rcases h with ⟨_, h⟩ | ⟨h, _⟩
      · exact ⟨by rcases h with e | e <;> rw [e] <;> decide, by decide, by decide⟩
      · exact absurd h (by decide))
    (fun a b c ha hb hc => by
      intro h
      rw [rc_sf_18, rc_sBr_c (by decide)]
      rcases h with ⟨h, _⟩ | ⟨_, h1, h2⟩
      · exact absurd h (by decide)
      · exact ⟨h1, h2, by decide, by decide⟩)
    (fun a b c ha hb hc => by
      intro h
      rw [rc_sf_19, rc_sBr_c (by decide)]
      rcases h with ⟨h, _⟩ | ⟨_, h1, h2⟩
      · exact absurd h (by decide)
      · exact ⟨h1, h2, by decide, by decide⟩)
    (fun a b c ha hb hc => fun h => absurd h (by unfold rc_Fl; intro z; rcases z with ⟨z, _⟩ | ⟨z, _⟩ <;> exact absurd z (by decide)))
    (fun h => absurd h (by unfold rc_Fl; intro z; rcases z with ⟨z, _⟩ | ⟨z, _⟩ <;> exact absurd z (by decide))) hl
theorem rc_fl_1 (hl : rc_LegI L op a b c) : 0 ≤ rc_lab op b c → 0 ≤ rc_sf op a b c d → rc_Fl op a b :=
  rc_lg_c (P := fun op a b c => 0 ≤ rc_lab op b c → 0 ≤ rc_sf op a b c d → rc_Fl op a b) (fun a b c ha hb hc => by
      intro h
      rw [rc_lab_n (by decide) (by decide)] at h
      exact absurd h (by decide))
    (fun a b c ha hb hc => by
      intro h
      rw [rc_lab_n (by decide) (by decide)] at h
      exact absurd h (by decide))
    (fun a b c ha hb hc => by
      intro h
      rw [rc_lab_n (by decide) (by decide)] at h
      exact absurd h (by decide))
    (fun a b c ha hb hc => by
      intro h
      rw [rc_lab_n (by decide) (by decide)] at h
      exact absurd h (by decide))
    (fun a b c ha hb hc => by
      intro h
      rw [rc_lab_n (by decide) (by decide)] at h
      exact absurd h (by decide))
    (fun a b c ha hb hc => by
      intro h
      rw [rc_lab_n (by decide) (by decide)] at h
      exact absurd h (by decide))
    (fun a b c ha hb hc => by
      intro h
      rw [rc_lab_n (by decide) (by decide)] at h
      exact absurd h (by decide))
    (fun a b c ha hb hc => by
      intro h
      rw [rc_lab_n (by decide) (by decide)] at h
      exact absurd h (by decide))
    (fun a b c ha hb hc => by
      intro h
      rw [rc_lab_n (by decide) (by decide)] at h
      exact absurd h (by decide))
    (fun a b c ha hb hc => by
      intro h
      rw [rc_lab_n (by decide) (by decide)] at h
      exact absurd h (by decide))
    (fun a b c ha hb hc => by
      intro h
      rw [rc_lab_n (by decide) (by decide)] at h
      exact absurd h (by decide))
    (fun a b c ha hb hc => by
      intro h
      rw [rc_lab_n (by decide) (by decide)] at h
      exact absurd h (by decide))
    (fun a b c ha hb hc => by
      intro h
      rw [rc_lab_n (by decide) (by decide)] at h
      exact absurd h (by decide))
    (fun a b c ha hb hc => by
      intro h
      rw [rc_lab_n (by decide) (by decide)] at h
      exact absurd h (by decide))
    (fun a b ha hb => by
      intro h
      rw [rc_lab_n (by decide) (by decide)] at h
      exact absurd h (by decide))
    (fun a b c ha hb hc => by
      intro h
      rw [rc_lab_n (by decide) (by decide)] at h
      exact absurd h (by decide))
    (fun a b ha hb => by
      intro _ h
      rw [rc_sf_17, rc_sJm_c] at h
      rcases rc_rg_c ha with e | e | e
      · exact Or.inl ⟨rfl, Or.inl e⟩
      · exact Or.inl ⟨rfl, Or.inr e⟩
      · exact absurd e.2.2 h.1)
    (fun a b c ha hb hc => by
      intro _ h
      rw [rc_sf_18, rc_sBr_c (by decide)] at h
      exact Or.inr ⟨by decide, h.1, h.2.1⟩)
    (fun a b c ha hb hc => by
      intro _ h
      rw [rc_sf_19, rc_sBr_c (by decide)] at h
      exact Or.inr ⟨by decide, h.1, h.2.1⟩)
    (fun a b c ha hb hc => by
      intro _ h
      rw [rc_sf_20] at h
      exact absurd h (by decide))
    (by
      intro h
      rw [rc_lab_n (by decide) (by decide)] at h
      exact absurd h (by decide)) hl
theorem rc_lb_l (hl : rc_LegI L op a b c) : 0 ≤ rc_lab op b c → rc_Lb L (rc_lab op b c) :=
  rc_lg_c (P := fun op a b c => 0 ≤ rc_lab op b c → rc_Lb L (rc_lab op b c)) (fun a b c ha hb hc => by
      intro h
      rw [rc_lab_n (by decide) (by decide)] at h
      exact absurd h (by decide))
    (fun a b c ha hb hc => by
      intro h
      rw [rc_lab_n (by decide) (by decide)] at h
      exact absurd h (by decide))
    (fun a b c ha hb hc => by
      intro h
      rw [rc_lab_n (by decide) (by decide)] at h
      exact absurd h (by decide))
    (fun a b c ha hb hc => by
      intro h
      rw [rc_lab_n (by decide) (by decide)] at h
      exact absurd h (by decide))
    (fun a b c ha hb hc => by
      intro h
      rw [rc_lab_n (by decide) (by decide)] at h
      exact absurd h (by decide))
    (fun a b c ha hb hc => by
      intro h
      rw [rc_lab_n (by decide) (by decide)] at h
      exact absurd h (by decide))
    (fun a b c ha hb hc => by
      intro h
      rw [rc_lab_n (by decide) (by decide)] at h
      exact absurd h (by decide))
    (fun a b c ha hb hc => by
      intro h
      rw [rc_lab_n (by decide) (by decide)] at h
      exact absurd h (by decide))
    (fun a b c ha hb hc => by
      intro h
      rw [rc_lab_n (by decide) (by decide)] at h
      exact absurd h (by decide))
    (fun a b c ha hb hc => by
      intro h
      rw [rc_lab_n (by decide) (by decide)] at h
      exact absurd h (by decide))
    (fun a b c ha hb hc => by
      intro h
      rw [rc_lab_n (by decide) (by decide)] at h
      exact absurd h (by decide))
    (fun a b c ha hb hc => by
      intro h
      rw [rc_lab_n (by decide) (by decide)] at h
      exact absurd h (by decide))
    (fun a b c ha hb hc => by
      intro h
      rw [rc_lab_n (by decide) (by decide)] at h
      exact absurd h (by decide))
    (fun a b c ha hb hc => by
      intro h
      rw [rc_lab_n (by decide) (by decide)] at h
      exact absurd h (by decide))
    (fun a b ha hb => by
      intro h
      rw [rc_lab_n (by decide) (by decide)] at h
      exact absurd h (by decide))
    (fun a b c ha hb hc => by
      intro h
      rw [rc_lab_n (by decide) (by decide)] at h
      exact absurd h (by decide))
    (fun a b ha hb => by
      intro _
      rw [rc_lab_j]
      exact hb)
    (fun a b c ha hb hc => by
      intro _
      rw [rc_lab_c (by decide) (by decide) (by decide)]
      exact hc)
    (fun a b c ha hb hc => by
      intro _
      rw [rc_lab_c (by decide) (by decide) (by decide)]
      exact hc)
    (fun a b c ha hb hc => by
      intro _
      rw [rc_lab_c (by decide) (by decide) (by decide)]
      exact hc)
    (by
      intro h
      rw [rc_lab_n (by decide) (by decide)] at h
      exact absurd h (by decide)) hl
end
end
section
/-! sums and layouts, in plain naturals -/
def rc_sm (f : Nat → Nat) : Nat → Nat
  | 0 => 0
  | i + 1 => rc_sm f i + f i
theorem rc_sm_mono (f : Nat → Nat) {i j : Nat} (h : i ≤ j) : rc_sm f i ≤ rc_sm f j := by
  induction j with
  | zero => rw [show i = 0 by omega]; exact Nat.le_refl _
  | succ j ih =>
    by_cases e : i = j + 1
    · rw [e]; exact Nat.le_refl _
    · have := ih (by omega)
      show rc_sm f i ≤ rc_sm f j + f j
      omega
theorem rc_sm_le {f g : Nat → Nat} {n : Nat} (h : ∀ i, i < n → f i ≤ g i) : rc_sm f n ≤ rc_sm g n := by
  induction n with
  | zero => exact Nat.le_refl _
  | succ n ih =>
    have h1 := ih (fun i hi => h i (by omega))
    have h2 := h n (by omega)
    show rc_sm f n + f n ≤ rc_sm g n + g n
    omega
theorem rc_sm_eq {f g : Nat → Nat} {n : Nat} (h : ∀ i, i < n → f i = g i) : rc_sm f n = rc_sm g n := by
  induction n with
  | zero => rfl
  | succ n ih =>
    show rc_sm f n + f n = rc_sm g n + g n
    rw [ih (fun i hi => h i (by omega)), h n (by omega)]
theorem rc_sm_d {f g : Nat → Nat} {n : Nat} (h : ∀ i, i < n → f i ≤ g i) {j p : Nat} (hj : j ≤ p) (hp : p ≤ n) : rc_sm f p + rc_sm g j ≤ rc_sm g p + rc_sm f j := by
  induction p with
  | zero => rw [show j = 0 by omega]; exact Nat.le_refl _
  | succ p ih =>
    by_cases e : j = p + 1
    · rw [e]; omega
    · have h1 := ih (by omega) (by omega)
      have h2 := h p (by omega)
      show rc_sm f p + f p + rc_sm g j ≤ rc_sm g p + g p + rc_sm f j
      omega
theorem rc_sm_lt {f g : Nat → Nat} {n j : Nat} (h : ∀ i, i < n → f i ≤ g i) (hj : j < n) (hs : f j < g j) : rc_sm f n < rc_sm g n := by
  have h1 := rc_sm_d h (show j + 1 ≤ n by omega) (Nat.le_refl n)
  have h2 : rc_sm f j ≤ rc_sm g j := rc_sm_le (fun i hi => h i (by omega))
  have h3 : rc_sm f (j + 1) = rc_sm f j + f j := rfl
  have h4 : rc_sm g (j + 1) = rc_sm g j + g j := rfl
  omega
theorem rc_sm_add {f g w : Nat → Nat} {n : Nat} (h : ∀ i, i < n → w i = f i + g i) : rc_sm w n = rc_sm f n + rc_sm g n := by
  induction n with
  | zero => rfl
  | succ n ih =>
    have h1 := ih (fun i hi => h i (by omega))
    have h2 := h n (by omega)
    show rc_sm w n + w n = rc_sm f n + f n + (rc_sm g n + g n)
    omega
theorem rc_sm_1 {f : Nat → Nat} {n : Nat} (h : ∀ i, i < n → f i ≤ 1) : rc_sm f n ≤ n := by
  induction n with
  | zero => exact Nat.le_refl _
  | succ n ih =>
    have h1 := ih (fun i hi => h i (by omega))
    have h2 := h n (by omega)
    show rc_sm f n + f n ≤ n + 1
    omega
theorem rc_sm_0 {f : Nat → Nat} {n : Nat} (h : ∀ i, i < n → f i = 0) : rc_sm f n = 0 := by
  induction n with
  | zero => rfl
  | succ n ih =>
    have h1 := ih (fun i hi => h i (by omega))
    have h2 := h n (by omega)
    show rc_sm f n + f n = 0
    omega
theorem rc_sm_z {f : Nat → Nat} {n : Nat} (h : rc_sm f n = 0) : ∀ i, i < n → f i = 0 := by
  intro i hi
  have h1 := rc_sm_mono f (show i + 1 ≤ n by omega)
  have h2 : rc_sm f (i + 1) = rc_sm f i + f i := rfl
  omega
/-! the source as the layout sees it: o a b c (items), q (label positions) -/
def rc_ps (q : Nat → Int32) (l : Int32) : Nat := (q l.toNatClampNeg).toNatClampNeg
def rc_dsp (f : Nat → Nat) (q : Nat → Int32) (op b c : Int32) (j : Nat) : Int32 := if 0 ≤ rc_lab op b c then nI (2 * rc_sm f (rc_ps q (rc_lab op b c))) - nI (2 * rc_sm f j) else 0
def rc_rz (o a : Nat → Int32) (j : Nat) : Nat := if o j = 0 then (a j).toNatClampNeg else 2
def rc_h0 (o a b c : Nat → Int32) (j : Nat) : Nat := if o j = 0 then (a j).toNatClampNeg else if rc_sf (o j) (a j) (b j) (c j) 0 < 0 then 2 else 1
def rc_LegA (L op a b c : Int32) : Prop := rc_LegG op a b c ∨ rc_LegI L op a b c
def rc_Src (n : Nat) (L : Int32) (o a b c q : Nat → Int32) : Prop :=
  n ≤ 64 ∧ (∀ j, j < n → rc_LegA L (o j) (a j) (b j) (c j)) ∧ (∀ j, j < n → 0 ≤ rc_lab (o j) (b j) (c j) → ∃ l p, l < 16 ∧ rc_lab (o j) (b j) (c j) = nI l ∧ q l = nI p ∧ p ≤ n) ∧ rc_sm (rc_rz o a) n ≤ 2047
theorem rc_la_i {L op a b c : Int32} (h : rc_LegA L op a b c) (rc_h0 : ¬ op = 0) : rc_LegI L op a b c := h.resolve_left fun g => rc_h0 g.1
theorem rc_la_g {L op a b c : Int32} (h : rc_LegA L op a b c) (rc_h0 : op = 0) : rc_LegG op a b c := h.resolve_right fun g => rc_lg_n0 g rc_h0
theorem rc_lab_0 {op b c : Int32} (h : op = 0) : ¬ 0 ≤ rc_lab op b c := by
  rw [h, rc_lab_n (by decide) (by decide)]
  decide
section
variable {n : Nat} {L : Int32} {o a b c q : Nat → Int32} {f g : Nat → Nat} {j : Nat}
def rc_Vl (n : Nat) (o a b c : Nat → Int32) (f : Nat → Nat) : Prop := ∀ j, j < n → (o j = 0 → f j = (a j).toNatClampNeg) ∧ (¬ o j = 0 → (f j = 1 ∨ f j = 2) ∧ rc_h0 o a b c j ≤ f j ∧ (¬ 0 ≤ rc_lab (o j) (b j) (c j) → f j = rc_h0 o a b c j))
def rc_Cl (n : Nat) (o a b c q : Nat → Int32) (f : Nat → Nat) : Prop := ∀ j, j < n → ¬ o j = 0 → f j = 1 → 0 ≤ rc_sf (o j) (a j) (b j) (c j) (rc_dsp f q (o j) (b j) (c j) j)
def rc_Be (n : Nat) (o a b c q : Nat → Int32) (f : Nat → Nat) : Prop := ∀ g, rc_Vl n o a b c g → rc_Cl n o a b c q g → ∀ j, j < n → f j ≤ g j
def rc_on (n : Nat) (o : Nat → Int32) (f : Nat → Nat) : Nat := rc_sm (fun j => if ¬ o j = 0 ∧ f j = 1 then 1 else 0) n
theorem rc_lay_u (h1 : rc_Vl n o a b c f) (h2 : rc_Cl n o a b c q f) (h3 : rc_Be n o a b c q f) (k1 : rc_Vl n o a b c g) (k2 : rc_Cl n o a b c q g) (k3 : rc_Be n o a b c q g) : ∀ j, j < n → f j = g j :=
  fun j hj => Nat.le_antisymm (h3 g k1 k2 j hj) (k3 f h1 h2 j hj)
theorem rc_h0_v : rc_Vl n o a b c (rc_h0 o a b c) := by
  intro j hj
  refine ⟨fun e => if_pos e, fun e => ?_⟩
  have e1 : rc_h0 o a b c j = if rc_sf (o j) (a j) (b j) (c j) 0 < 0 then 2 else 1 := if_neg e
  refine ⟨?_, Nat.le_refl _, fun _ => rfl⟩
  rw [e1]
  by_cases k : rc_sf (o j) (a j) (b j) (c j) 0 < 0
  · rw [if_pos k]; exact Or.inr rfl
  · rw [if_neg k]; exact Or.inl rfl
theorem rc_h0_b : rc_Be n o a b c q (rc_h0 o a b c) := by
  intro g hv _ j hj
  by_cases e : o j = 0
  · rw [(hv j hj).1 e]
    exact Nat.le_of_eq (if_pos e)
  · exact ((hv j hj).2 e).2.1
theorem rc_vl_rz (h : rc_Vl n o a b c f) : ∀ j, j < n → f j ≤ rc_rz o a j := by
  intro j hj
  unfold rc_rz
  by_cases e : o j = 0
  · rw [if_pos e, (h j hj).1 e]; exact Nat.le_refl _
  · rw [if_neg e]
    have := ((h j hj).2 e).1
    omega
theorem rc_vl_sm (hs : rc_Src n L o a b c q) (h : rc_Vl n o a b c f) : rc_sm f n ≤ 2047 := Nat.le_trans (rc_sm_le (rc_vl_rz h)) hs.2.2.2
theorem rc_vl_1 (hs : rc_Src n L o a b c q) (h : rc_Vl n o a b c f) (hj : j < n) : 1 ≤ f j := by
  by_cases e : o j = 0
  · rw [(h j hj).1 e]
    obtain ⟨_, ⟨g, g1, g2, ge⟩, _⟩ := rc_la_g (hs.2.1 j hj) e
    rw [ge, nI_clamp (by omega)]
    exact g1
  · have := ((h j hj).2 e).1
    omega
theorem rc_ps_e {l p : Nat} (hl : l < 16) (hp : p ≤ 64) {x : Int32} (ex : x = nI l) (eq : q l = nI p) : rc_ps q x = p := by
  unfold rc_ps
  rw [ex, nI_clamp (by omega), eq, nI_clamp (by omega)]
theorem rc_dsp_i (hs : rc_Src n L o a b c q) (hv : rc_Vl n o a b c f) (hj : j < n) (hl : 0 ≤ rc_lab (o j) (b j) (c j)) : rc_ps q (rc_lab (o j) (b j) (c j)) ≤ n ∧ (rc_dsp f q (o j) (b j) (c j) j).toInt = 2 * (rc_sm f (rc_ps q (rc_lab (o j) (b j) (c j))) : Int) - 2 * (rc_sm f j : Int) := by
  obtain ⟨l, p, hl1, e1, e2, hp⟩ := hs.2.2.1 j hj hl
  have hn := hs.1
  have ep := rc_ps_e (q := q) hl1 (by omega) e1 e2
  have b1 := rc_vl_sm hs hv
  have b2 := rc_sm_mono f (show j ≤ n by omega)
  have b3 := rc_sm_mono f hp
  refine ⟨by rw [ep]; exact hp, ?_⟩
  unfold rc_dsp
  rw [if_pos hl, ep, pk_sub_toInt (by omega) (by omega)]
  omega
theorem rc_dsp_b (hs : rc_Src n L o a b c q) (hv : rc_Vl n o a b c f) (kv : rc_Vl n o a b c g) (hle : ∀ i, i < n → f i ≤ g i) (hj : j < n) : rc_Btw (rc_dsp f q (o j) (b j) (c j) j) (rc_dsp g q (o j) (b j) (c j) j) := by
  by_cases hl : 0 ≤ rc_lab (o j) (b j) (c j)
  · obtain ⟨h1, h2⟩ := rc_dsp_i hs hv hj hl
    obtain ⟨k1, k2⟩ := rc_dsp_i hs kv hj hl
    unfold rc_Btw
    rw [h2, k2]
    generalize rc_ps q (rc_lab (o j) (b j) (c j)) = p at *
    by_cases e : j ≤ p
    · have := rc_sm_d hle e h1
      have := rc_sm_mono f e
      left; omega
    · have := rc_sm_d hle (show p ≤ j by omega) (show j ≤ n by omega)
      have := rc_sm_mono f (show p ≤ j by omega)
      right; omega
  · unfold rc_dsp
    rw [if_neg hl, if_neg hl]
    left
    decide
theorem rc_dsp_ev (hs : rc_Src n L o a b c q) (hv : rc_Vl n o a b c f) (hj : j < n) : rc_Ev (rc_dsp f q (o j) (b j) (c j) j) := by
  by_cases hl : 0 ≤ rc_lab (o j) (b j) (c j)
  · obtain ⟨h1, h2⟩ := rc_dsp_i hs hv hj hl
    have b1 := rc_vl_sm hs hv
    have b2 := rc_sm_mono f (show j ≤ n by omega)
    have b3 := rc_sm_mono f h1
    refine ⟨rc_sm f (rc_ps q (rc_lab (o j) (b j) (c j))), rc_sm f j, by omega, by omega, ?_⟩
    unfold rc_dsp
    rw [if_pos hl]
  · refine ⟨0, 0, by omega, by omega, ?_⟩
    unfold rc_dsp
    rw [if_neg hl]
    decide
/-- what grows must be long in every closed layout above -/
theorem rc_gr_2 (hs : rc_Src n L o a b c q) (hv : rc_Vl n o a b c f) (kv : rc_Vl n o a b c g) (kc : rc_Cl n o a b c q g) (hle : ∀ i, i < n → f i ≤ g i) (hj : j < n) (ho : ¬ o j = 0) (hn : rc_sf (o j) (a j) (b j) (c j) (rc_dsp f q (o j) (b j) (c j) j) < 0) : g j = 2 := by
  rcases ((kv j hj).2 ho).1 with e | e
  · exfalso
    have h1 := kc j hj ho e
    have h2 := rc_sf_mono (rc_dsp_b hs hv kv hle hj) (rc_la_i (hs.2.1 j hj) ho) h1
    exact absurd hn (Int32.not_lt.mpr h2)
  · exact e
/-- an item that may grow has a label and is flexible -/
theorem rc_gr_l (hs : rc_Src n L o a b c q) (hv : rc_Vl n o a b c f) (hj : j < n) (ho : ¬ o j = 0) (h1 : f j = 1) : 0 ≤ rc_sf (o j) (a j) (b j) (c j) 0 := by
  have h2 := ((hv j hj).2 ho).2.1
  rw [h1] at h2
  have e1 : rc_h0 o a b c j = if rc_sf (o j) (a j) (b j) (c j) 0 < 0 then 2 else 1 := if_neg ho
  by_cases k : rc_sf (o j) (a j) (b j) (c j) 0 < 0
  · rw [e1, if_pos k] at h2; omega
  · exact Int32.not_lt.mp k
theorem rc_gr_lab (hs : rc_Src n L o a b c q) (hv : rc_Vl n o a b c f) (hj : j < n) (ho : ¬ o j = 0) (h1 : f j = 1) (hn : rc_sf (o j) (a j) (b j) (c j) (rc_dsp f q (o j) (b j) (c j) j) < 0) : 0 ≤ rc_lab (o j) (b j) (c j) := by
  by_cases hl : 0 ≤ rc_lab (o j) (b j) (c j)
  · exact hl
  · exfalso
    have e : rc_dsp f q (o j) (b j) (c j) j = 0 := if_neg hl
    rw [e] at hn
    exact absurd hn (Int32.not_lt.mpr (rc_gr_l hs hv hj ho h1))
def rc_up2 (f : Nat → Nat) (k : Nat) : Nat → Nat := fun j => if j = k then 2 else f j
theorem rc_up_v (hs : rc_Src n L o a b c q) (hv : rc_Vl n o a b c f) {k : Nat} (hk : k < n) (ho : ¬ o k = 0) (hl : 0 ≤ rc_lab (o k) (b k) (c k)) : rc_Vl n o a b c (rc_up2 f k) := by
  intro j hj
  unfold rc_up2
  by_cases e : j = k
  · subst e
    rw [if_pos rfl]
    refine ⟨fun z => absurd z ho, fun _ => ⟨Or.inr rfl, ?_, fun z => absurd hl z⟩⟩
    have := ((hv j hj).2 ho)
    omega
  · rw [if_neg e]
    exact hv j hj
theorem rc_up_b (hs : rc_Src n L o a b c q) (hv : rc_Vl n o a b c f) (hb : rc_Be n o a b c q f) {k : Nat} (hk : k < n) (ho : ¬ o k = 0) (hn : rc_sf (o k) (a k) (b k) (c k) (rc_dsp f q (o k) (b k) (c k) k) < 0) : rc_Be n o a b c q (rc_up2 f k) := by
  intro g kv kc j hj
  unfold rc_up2
  by_cases e : j = k
  · subst e
    rw [if_pos rfl, rc_gr_2 hs hv kv kc (hb g kv kc) hj ho hn]
    exact Nat.le_refl _
  · rw [if_neg e]
    exact hb g kv kc j hj
theorem rc_up_o {k : Nat} (hk : k < n) (ho : ¬ o k = 0) (h1 : f k = 1) : rc_on n o (rc_up2 f k) < rc_on n o f := by
  unfold rc_on
  refine rc_sm_lt (j := k) ?_ hk ?_
  · intro i hi
    unfold rc_up2
    by_cases e : i = k
    · subst e
      rw [if_pos rfl, if_neg (by omega)]
      exact Nat.zero_le _
    · rw [if_neg e]
      exact Nat.le_refl _
  · unfold rc_up2
    rw [if_pos rfl, if_neg (by omega), if_pos ⟨ho, h1⟩]
    exact Nat.one_pos
theorem rc_on_n : rc_on n o f ≤ n := by
  unfold rc_on
  refine rc_sm_1 fun i hi => ?_
  by_cases e : ¬ o i = 0 ∧ f i = 1
  · rw [if_pos e]; exact Nat.le_refl _
  · rw [if_neg e]; exact Nat.zero_le _
theorem rc_on_0 (h : rc_on n o f = 0) : rc_Cl n o a b c q f := by
  intro j hj ho h1
  have := rc_sm_z h j hj
  rw [if_pos ⟨ho, h1⟩] at this
  omega
/-! the component's pass: all at once -/
abbrev rc_cd (f : Nat → Nat) (o a b c q : Nat → Int32) (j : Nat) : Prop := 0 ≤ rc_lab (o j) (b j) (c j) ∧ f j = 1 ∧ rc_sf (o j) (a j) (b j) (c j) (rc_dsp f q (o j) (b j) (c j) j) < 0
def rc_gp (f : Nat → Nat) (o a b c q : Nat → Int32) (j : Nat) : Nat := if rc_cd f o a b c q j then 2 else f j
def rc_Gc (n : Nat) (o a b : Nat → Int32) (f : Nat → Nat) : Nat := rc_sm (fun j => if (rc_Fl (o j) (a j) (b j)) ∧ f j = 2 then 1 else 0) n
theorem rc_cd_o (h : rc_cd f o a b c q j) : ¬ o j = 0 := fun z => rc_lab_0 z h.1
theorem rc_gp_v (hs : rc_Src n L o a b c q) (hv : rc_Vl n o a b c f) : rc_Vl n o a b c (rc_gp f o a b c q) := by
  intro j hj
  unfold rc_gp
  by_cases e : rc_cd f o a b c q j
  · rw [if_pos e]
    refine ⟨fun z => absurd z (rc_cd_o e), fun ho => ⟨Or.inr rfl, ?_, fun z => absurd e.1 z⟩⟩
    have := ((hv j hj).2 ho)
    omega
  · rw [if_neg e]
    exact hv j hj
theorem rc_gp_b (hs : rc_Src n L o a b c q) (hv : rc_Vl n o a b c f) (hb : rc_Be n o a b c q f) : rc_Be n o a b c q (rc_gp f o a b c q) := by
  intro g kv kc j hj
  unfold rc_gp
  by_cases e : rc_cd f o a b c q j
  · rw [if_pos e, rc_gr_2 hs hv kv kc (hb g kv kc) hj (rc_cd_o e) e.2.2]
    exact Nat.le_refl _
  · rw [if_neg e]
    exact hb g kv kc j hj
theorem rc_gp_o (hk : ∃ k, k < n ∧ rc_cd f o a b c q k) : rc_on n o (rc_gp f o a b c q) < rc_on n o f := by
  obtain ⟨k, hk, hc⟩ := hk
  unfold rc_on
  refine rc_sm_lt (j := k) ?_ hk ?_
  · intro i hi
    unfold rc_gp
    by_cases e : rc_cd f o a b c q i
    · rw [if_pos e, if_neg (by omega)]
      exact Nat.zero_le _
    · rw [if_neg e]
      exact Nat.le_refl _
  · unfold rc_gp
    rw [if_pos hc, if_neg (by omega), if_pos ⟨rc_cd_o hc, hc.2.1⟩]
    exact Nat.one_pos
theorem rc_gp_c (hs : rc_Src n L o a b c q) (hv : rc_Vl n o a b c f) (h : ∀ k, k < n → ¬ rc_cd f o a b c q k) : rc_Cl n o a b c q f := by
  intro j hj ho h1
  by_cases k : rc_sf (o j) (a j) (b j) (c j) (rc_dsp f q (o j) (b j) (c j) j) < 0
  · exact absurd ⟨rc_gr_lab hs hv hj ho h1 k, h1, k⟩ (h j hj)
  · exact Int32.not_lt.mp k
theorem rc_gp_s (h : ∀ k, k < n → ¬ rc_cd f o a b c q k) : ∀ j, j < n → rc_gp f o a b c q j = f j := fun j hj => if_neg (h j hj)
theorem rc_gp_g (hs : rc_Src n L o a b c q) (hv : rc_Vl n o a b c f) : rc_Gc n o a b (rc_gp f o a b c q) = rc_Gc n o a b f + rc_sm (fun j => if rc_cd f o a b c q j then 1 else 0) n := by
  unfold rc_Gc
  refine rc_sm_add fun j hj => ?_
  unfold rc_gp
  by_cases e : rc_cd f o a b c q j
  · have ho := rc_cd_o e
    have hf : rc_Fl (o j) (a j) (b j) := rc_fl_1 (rc_la_i (hs.2.1 j hj) ho) e.1 (rc_gr_l hs hv hj ho e.2.1)
    rw [if_pos e, if_pos e, if_pos ⟨hf, rfl⟩, if_neg (fun z => by have := e.2.1; omega)]
  · rw [if_neg e, if_neg e, Nat.add_zero]
theorem rc_Gc_0 (hs : rc_Src n L o a b c q) : rc_Gc n o a b (rc_h0 o a b c) = 0 := by
  unfold rc_Gc
  refine rc_sm_0 fun j hj => ?_
  refine if_neg fun z => ?_
  have ho : ¬ o j = 0 := by
    intro e
    have hz := z.1
    rw [e] at hz
    rcases hz with h | h
    · exact absurd h.1 (by decide)
    · exact absurd h.1 (by decide)
  have h1 := rc_fl_0 (rc_la_i (hs.2.1 j hj) ho) z.1
  have h2 := z.2
  have e1 : rc_h0 o a b c j = if rc_sf (o j) (a j) (b j) (c j) 0 < 0 then 2 else 1 := if_neg ho
  rw [e1, if_neg (Int32.not_lt.mpr h1)] at h2
  omega
end
end
section
/-! the component's layout -/
section
variable {mI mL mS it rs ii iB gr uo ua ub uc : Int32} {so sa sb sc lp ln im ad lb : Nat → Int32} {n : Nat} {L : Int32} {f : Nat → Nat}
theorem rc_x_tl {post : Int32 → Prop} {x : Int32} (hx : vp_in x 64) (h : post (rc_lab (so x.toNatClampNeg) (sb x.toNatClampNeg) (sc x.toNatClampNeg))) : wpX_targetLabel post (mI, mL, mS, it, rs, ii, iB, gr, uo, ua, ub, uc, so, sa, sb, sc, lp, ln, im, ad, lb) x :=
  And.intro hx (nm_e (rc_ib h (fun h => ⟨hx, h⟩) fun h => rc_ib h id fun h => rc_ib h id fun h => ⟨hx, h⟩))
theorem rc_x_dp {post : Int32 → Prop} {j : Nat} (hs : rc_Src n L so sa sb sc lp) (hj : j < n) (had : ∀ i, i ≤ n → ad i = nI (2 * rc_sm f i)) (h : post (rc_dsp f lp (so j) (sb j) (sc j) j)) : wpX_displacement post (mI, mL, mS, it, rs, ii, iB, gr, uo, ua, ub, uc, so, sa, sb, sc, lp, ln, im, ad, lb) (nI j) := by
  have hn := hs.1
  have ej : (nI j).toNatClampNeg = j := nI_clamp (by omega)
  unfold wpX_displacement
  refine rc_x_tl (vp_in_nI (by omega) (by decide)) ?_
  rw [ej]
  by_cases hl : 0 ≤ rc_lab (so j) (sb j) (sc j)
  · obtain ⟨l, p, hl1, e1, e2, hp⟩ := hs.2.2.1 j hj hl
    have ed : rc_dsp f lp (so j) (sb j) (sc j) j = nI (2 * rc_sm f p) - nI (2 * rc_sm f j) := by
      unfold rc_dsp
      rw [if_pos hl, rc_ps_e hl1 (by omega) e1 e2]
    rw [ed] at h
    rw [e1] at hl
    rw [e1]
    refine br_t hl ⟨vp_in_nI (by omega) (by decide), nm_r (e' := nI p) (by rw [nI_clamp (by omega)]; exact e2) (br_t (nI_pos' (by omega)) ⟨vp_in_nI (by omega) (by decide), vp_in_nI (by omega) (by decide), ?_⟩)⟩
    rw [nI_clamp (show p < 2 ^ 31 by omega), had p hp, had j (by omega)]
    exact h
  · have ed : rc_dsp f lp (so j) (sb j) (sc j) j = 0 := if_neg hl
    rw [ed] at h
    exact br_f hl h
theorem rc_x_ll {post : Int32 → Prop} {j : Nat} (hs : rc_Src n L so sa sb sc lp) (hj : j < n) (h : post (nI (2 * rc_h0 so sa sb sc j))) : wpX_leastLength post (mI, mL, mS, it, rs, ii, iB, gr, uo, ua, ub, uc, so, sa, sb, sc, lp, ln, im, ad, lb) (nI j) := by
  have hn := hs.1
  have ej : (nI j).toNatClampNeg = j := nI_clamp (by omega)
  have hv : vp_in (nI j) 64 := vp_in_nI (by omega) (by decide)
  refine And.intro hv (nm_e ?_)
  rw [ej]
  refine br_c (fun e => And.intro hv ?_) (fun e => And.intro hv (And.intro hv (And.intro hv (rc_x_sf (rc_lg_o (rc_la_i (hs.2.1 j hj) e)) ?_))))
  · have e1 : rc_h0 so sa sb sc j = (sa j).toNatClampNeg := if_pos e
    obtain ⟨_, ⟨g, g1, g2, ge⟩, _⟩ := rc_la_g (hs.2.1 j hj) e
    rw [e1, ge, nI_clamp (by omega)] at h
    rw [ge, show (2 : Int32) = nI 2 from rfl, pk_mul]
    exact h
  · have e1 : rc_h0 so sa sb sc j = if rc_sf (so j) (sa j) (sb j) (sc j) 0 < 0 then 2 else 1 := if_neg e
    rw [e1] at h
    refine br_c (fun k => ?_) (fun k => ?_)
    · rw [if_pos k] at h; exact h
    · rw [if_neg k] at h; exact h
theorem rc_x_l7 {post : SX → Prop} (hs : rc_Src n L so sa sb sc lp) (hit : it = nI n) (H : ∀ ln, (∀ j, j < n → ln j = nI (2 * rc_h0 so sa sb sc j)) → wX_layOut_7 post mI mL mS it rs ii iB gr uo ua ub uc (0 + 1) (nI n) so sa sb sc lp ln im ad lb) : ∀ (d i : Nat) (ln : Nat → Int32), i + d = n → (∀ j, j < i → ln j = nI (2 * rc_h0 so sa sb sc j)) → wX_layOut_7 post mI mL mS it rs ii iB gr uo ua ub uc (d + 1) (nI i) so sa sb sc lp ln im ad lb := by
  have hn := hs.1
  intro d
  induction d with
  | zero =>
    intro i ln hi hl
    rw [show i = n by omega] at hl ⊢
    exact H ln hl
  | succ d ih =>
    intro i ln hi hl
    refine br_f (by rw [hit]; exact nI_ge (by omega) (by omega)) (rc_x_ll hs (show i < n by omega) ?_)
    refine And.intro (vp_in_nI (by omega) (by decide)) (nm_r (e' := upd ln i (nI (2 * rc_h0 so sa sb sc i))) (by rw [nI_clamp (by omega)]) (nm_r (nI_1 i) (ih (i + 1) _ (by omega) ?_)))
    intro j hj
    by_cases e : j = i
    · subst e; exact pk_us
    · rw [pk_un e]; exact hl j (by omega)
theorem rc_x_p4 {post : SX → Prop} (hn : n ≤ 64) (hit : it = nI n) (hln : ∀ j, j < n → ln j = nI (2 * f j)) (H : ∀ ad, (∀ i, i ≤ n → ad i = nI (2 * rc_sm f i)) → post (mI, mL, mS, it, rs, ii, iB, gr, uo, ua, ub, uc, so, sa, sb, sc, lp, ln, im, ad, lb)) : ∀ (d i : Nat) (ad : Nat → Int32), i + d = n → (∀ j, j < i → ad j = nI (2 * rc_sm f j)) → wX_placeItems_4 post mI mL mS it rs ii iB gr uo ua ub uc (d + 1) (nI (2 * rc_sm f i)) (nI i) so sa sb sc lp ln im ad lb := by
  intro d
  induction d with
  | zero =>
    intro i ad hi ha
    have e : i = n := by omega
    subst e
    refine br_t (by rw [hit]; exact nI_le (Nat.le_refl _) (by omega)) (And.intro (by rw [hit]; exact vp_in_nI (by omega) (by decide)) (nm_r (e' := upd ad i (nI (2 * rc_sm f i))) (by rw [hit, nI_clamp (by omega)]) (H _ ?_)))
    intro j hj
    by_cases e : j = i
    · subst e; exact pk_us
    · rw [pk_un e]; exact ha j (by omega)
  | succ d ih =>
    intro i ad hi ha
    refine br_f (by rw [hit]; exact nI_ge (by omega) (by omega)) (And.intro (vp_in_nI (by omega) (by decide)) (nm_r (e' := upd ad i (nI (2 * rc_sm f i))) (by rw [nI_clamp (by omega)]) (And.intro (vp_in_nI (by omega) (by decide)) (nm_r (e' := nI (2 * rc_sm f (i + 1))) ?_ (nm_r (nI_1 i) (ih (i + 1) _ (by omega) ?_))))))
    · rw [nI_clamp (by omega), hln i (by omega), nI_add]
      exact congrArg nI (show 2 * rc_sm f i + 2 * f i = 2 * (rc_sm f i + f i) by omega)
    · intro j hj
      by_cases e : j = i
      · subst e; exact pk_us
      · rw [pk_un e]; exact ha j (by omega)
theorem rc_x_pl {post : SX → Prop} (hn : n ≤ 64) (hit : it = nI n) (hln : ∀ j, j < n → ln j = nI (2 * f j)) (H : ∀ ad, (∀ i, i ≤ n → ad i = nI (2 * rc_sm f i)) → post (mI, mL, mS, it, rs, ii, iB, gr, uo, ua, ub, uc, so, sa, sb, sc, lp, ln, im, ad, lb)) : wpX_placeItems post (mI, mL, mS, it, rs, ii, iB, gr, uo, ua, ub, uc, so, sa, sb, sc, lp, ln, im, ad, lb) :=
  Exists.intro (n + 1) (rc_x_p4 hn hit hln H n 0 ad (by omega) (fun j hj => absurd hj (by omega)))
theorem rc_x_g4 {post : Int32 → SX → Prop} {g0 : Int32} (hs : rc_Src n L so sa sb sc lp) (hv : rc_Vl n so sa sb sc f) (hit : it = nI n) (had : ∀ i, i ≤ n → ad i = nI (2 * rc_sm f i))
    (H : ∀ (x1 gr : Int32) (ln : Nat → Int32), (∀ j, j < n → ln j = nI (2 * rc_gp f so sa sb sc lp j)) → ((x1 = 0 ∧ ∀ k, k < n → ¬ rc_cd f so sa sb sc lp k) ∨ (x1 = 1 ∧ ∃ k, k < n ∧ rc_cd f so sa sb sc lp k)) → gr = g0 + nI (rc_sm (fun j => if rc_cd f so sa sb sc lp j then 1 else 0) n) → post x1 (mI, mL, mS, it, rs, ii, iB, gr, uo, ua, ub, uc, so, sa, sb, sc, lp, ln, im, ad, lb)) :
    ∀ (d i : Nat) (x1 gr : Int32) (ln : Nat → Int32), i + d = n → (∀ j, j < n → ln j = nI (2 * (if j < i then rc_gp f so sa sb sc lp j else f j))) → ((x1 = 0 ∧ ∀ k, k < i → ¬ rc_cd f so sa sb sc lp k) ∨ (x1 = 1 ∧ ∃ k, k < i ∧ rc_cd f so sa sb sc lp k)) → gr = g0 + nI (rc_sm (fun j => if rc_cd f so sa sb sc lp j then 1 else 0) i) → wX_growUnreached_4 post mI mL mS it rs ii iB uo ua ub uc (d + 1) x1 (nI i) gr so sa sb sc lp ln im ad lb := by
  have hn := hs.1
  intro d
  induction d with
  | zero =>
    intro i x1 gr ln hi hl hf hg
    have e : i = n := by omega
    subst e
    refine br_t (by rw [hit]; exact nI_le (Nat.le_refl _) (by omega)) (And.intro ?_ (H x1 gr ln (fun j hj => by rw [hl j hj, if_pos hj]) hf hg))
    rcases hf with h | h
    · rw [h.1]; exact rfl
    · rw [h.1]; exact rfl
  | succ d ih =>
    intro i x1 gr ln hi hl hf hg
    have hi' : i < n := by omega
    have ei : (nI i).toNatClampNeg = i := nI_clamp (by omega)
    have hvi : vp_in (nI i) 64 := vp_in_nI (by omega) (by decide)
    have eln : ln i = nI (2 * f i) := by rw [hl i hi', if_neg (by omega)]
    have hb := Nat.le_trans (rc_sm_mono f (show i + 1 ≤ n by omega)) (rc_vl_sm hs hv)
    have hb2 : rc_sm f (i + 1) = rc_sm f i + f i := rfl
    have stay : ¬ rc_cd f so sa sb sc lp i → wX_growUnreached_4 post mI mL mS it rs ii iB uo ua ub uc (d + 1) x1 (nI (i + 1)) gr so sa sb sc lp ln im ad lb := by
      intro hc
      refine ih (i + 1) x1 gr ln (by omega) ?_ ?_ ?_
      · intro j hj
        rw [hl j hj]
        by_cases e : j = i
        · subst e
          rw [if_neg (by omega), if_pos (by omega)]
          unfold rc_gp
          rw [if_neg hc]
        · by_cases e2 : j < i
          · rw [if_pos e2, if_pos (by omega)]
          · rw [if_neg e2, if_neg (by omega)]
      · rcases hf with ⟨h1, h2⟩ | ⟨h1, k, h2, h3⟩
        · refine Or.inl ⟨h1, fun k hk => ?_⟩
          by_cases e : k = i
          · subst e; exact hc
          · exact h2 k (by omega)
        · exact Or.inr ⟨h1, k, by omega, h3⟩
      · rw [hg]
        show _ = g0 + nI (rc_sm _ i + _)
        dsimp only
        rw [if_neg hc, Nat.add_zero]
    refine br_f (by rw [hit]; exact nI_ge (by omega) (by omega)) (rc_x_tl hvi ?_)
    rw [ei]
    refine br_c (fun hneg => nm_r (nI_1 i) (stay fun z => absurd hneg (Int32.not_lt.mpr z.1))) (fun hpos => And.intro hvi ?_)
    rw [eln]
    refine br_c (fun h2 => ?_) (fun h2 => nm_r (nI_1 i) (stay fun z => h2 (by rw [z.2.1]; rfl)))
    have hf1 : f i = 1 := by
      rw [show (2 : Int32) = nI 2 from rfl, nI_eq (by omega) (by omega)] at h2
      omega
    refine rc_x_dp hs hi' had ?_
    refine ⟨hvi, hvi, hvi, hvi, ?_⟩
    have ho : ¬ so i = 0 := fun z => rc_lab_0 z (Int32.not_lt.mp hpos)
    refine rc_x_sf (rc_lg_o (rc_la_i (hs.2.1 i hi') ho)) ?_
    refine br_c (fun rc_h0 => nm_r (nI_1 i) (stay fun z => absurd z.2.2 (Int32.not_lt.mpr rc_h0))) (fun rc_h0 => And.intro hvi (nm_e (nm_e (nm_r (nI_1 i) ?_))))
    have hc : rc_cd f so sa sb sc lp i := ⟨Int32.not_lt.mp hpos, hf1, Int32.not_le.mp rc_h0⟩
    refine ih (i + 1) 1 _ _ (by omega) ?_ (Or.inr ⟨rfl, i, by omega, hc⟩) ?_
    · intro j hj
      by_cases e : j = i
      · subst e
        rw [pk_us, if_pos (by omega)]
        unfold rc_gp
        rw [if_pos hc]
        rfl
      · rw [pk_un e, hl j hj]
        by_cases e2 : j < i
        · rw [if_pos e2, if_pos (by omega)]
        · rw [if_neg e2, if_neg (by omega)]
    · rw [hg]
      show _ = g0 + nI (rc_sm _ i + _)
      dsimp only
      rw [if_pos hc, Int32.add_assoc, nI_1]
theorem rc_x_gu {post : Int32 → SX → Prop} (hs : rc_Src n L so sa sb sc lp) (hv : rc_Vl n so sa sb sc f) (hit : it = nI n) (had : ∀ i, i ≤ n → ad i = nI (2 * rc_sm f i)) (hln : ∀ j, j < n → ln j = nI (2 * f j)) {g0 : Int32} (hg0 : gr = g0)
    (H : ∀ (x1 gr : Int32) (ln : Nat → Int32), (∀ j, j < n → ln j = nI (2 * rc_gp f so sa sb sc lp j)) → ((x1 = 0 ∧ ∀ k, k < n → ¬ rc_cd f so sa sb sc lp k) ∨ (x1 = 1 ∧ ∃ k, k < n ∧ rc_cd f so sa sb sc lp k)) → gr = g0 + nI (rc_sm (fun j => if rc_cd f so sa sb sc lp j then 1 else 0) n) → post x1 (mI, mL, mS, it, rs, ii, iB, gr, uo, ua, ub, uc, so, sa, sb, sc, lp, ln, im, ad, lb)) : wpX_growUnreached post (mI, mL, mS, it, rs, ii, iB, gr, uo, ua, ub, uc, so, sa, sb, sc, lp, ln, im, ad, lb) :=
  Exists.intro (n + 1) (rc_x_g4 hs hv hit had H n 0 0 gr ln (by omega) (fun j hj => by rw [hln j hj, if_neg (by omega)]) (Or.inl ⟨rfl, fun k hk => absurd hk (by omega)⟩) (by rw [hg0]; exact (Int32.add_zero g0).symm))
theorem rc_x_l40 {post : SX → Prop} (hs : rc_Src n L so sa sb sc lp) (hit : it = nI n)
    (H : ∀ (f : Nat → Nat) (gr : Int32) (ln ad : Nat → Int32), rc_Vl n so sa sb sc f → rc_Cl n so sa sb sc lp f → rc_Be n so sa sb sc lp f → gr = nI (rc_Gc n so sa sb f) → (∀ j, j < n → ln j = nI (2 * f j)) → (∀ i, i ≤ n → ad i = nI (2 * rc_sm f i)) → post (mI, mL, mS, it, rs, ii, iB, gr, uo, ua, ub, uc, so, sa, sb, sc, lp, ln, im, ad, lb)) :
    ∀ (d i : Nat) (x1 gr : Int32) (f : Nat → Nat) (ln ad : Nat → Int32), i + d = 65 → rc_Vl n so sa sb sc f → rc_Be n so sa sb sc lp f → gr = nI (rc_Gc n so sa sb f) → (∀ j, j < n → ln j = nI (2 * f j)) → (∀ i, i ≤ n → ad i = nI (2 * rc_sm f i)) → ((x1 = 0 ∧ rc_Cl n so sa sb sc lp f) ∨ (x1 = 1 ∧ rc_on n so f + i ≤ 64)) → wX_layOut_40 post (d + 1) x1 (nI i) mI mL mS it rs ii iB gr uo ua ub uc so sa sb sc lp ln im ad lb := by
  have hn := hs.1
  intro d
  induction d with
  | zero =>
    intro i x1 gr f ln ad hi hv hb hg hl ha hx
    have e : i = 65 := by omega
    subst e
    rcases hx with ⟨h1, h2⟩ | ⟨h1, h2⟩
    · exact br_t (by decide) (H f gr ln ad hv h2 hb hg hl ha)
    · omega
  | succ d ih =>
    intro i x1 gr f ln ad hi hv hb hg hl ha hx
    refine br_f (nI_ge (b := 65) (by omega) (by decide)) ?_
    rcases hx with ⟨h1, h2⟩ | ⟨h1, h2⟩
    · exact br_t h1 (H f gr ln ad hv h2 hb hg hl ha)
    · refine br_f (by rw [h1]; exact rc_n10) (rc_x_gu hs hv hit ha hl hg ?_)
      intro x1' gr' ln' hl' hf' hg'
      rw [nI_add, ← rc_gp_g hs hv] at hg'
      rcases hf' with ⟨k1, k2⟩ | ⟨k1, k2⟩
      · have hgs := rc_gp_s k2
        refine br_t k1 (nm_r (nI_1 i) (ih (i + 1) x1' gr' f ln' ad (by omega) hv hb ?_ (fun j hj => by rw [hl' j hj, hgs j hj]) ha (Or.inl ⟨k1, rc_gp_c hs hv k2⟩)))
        rw [hg']
        refine congrArg nI ?_
        unfold rc_Gc
        refine rc_sm_eq fun j hj => ?_
        rw [hgs j hj]
      · refine br_f (by rw [k1]; exact rc_n10) (rc_x_pl hn hit hl' ?_)
        intro ad' ha'
        have := rc_gp_o k2
        exact nm_r (nI_1 i) (ih (i + 1) x1' gr' _ ln' ad' (by omega) (rc_gp_v hs hv) (rc_gp_b hs hv hb) hg' hl' ha' (Or.inr ⟨k1, by omega⟩))
theorem rc_x_lay {post : SX → Prop} (hs : rc_Src n L so sa sb sc lp) (hit : it = nI n)
    (H : ∀ (f : Nat → Nat) (gr : Int32) (ln ad : Nat → Int32), rc_Vl n so sa sb sc f → rc_Cl n so sa sb sc lp f → rc_Be n so sa sb sc lp f → gr = nI (rc_Gc n so sa sb f) → (∀ j, j < n → ln j = nI (2 * f j)) → (∀ i, i ≤ n → ad i = nI (2 * rc_sm f i)) → post (mI, mL, mS, it, rs, ii, iB, gr, uo, ua, ub, uc, so, sa, sb, sc, lp, ln, im, ad, lb)) : wpX_layOut post (mI, mL, mS, it, rs, ii, iB, gr, uo, ua, ub, uc, so, sa, sb, sc, lp, ln, im, ad, lb) := by
  have hn := hs.1
  refine Exists.intro (n + 1) (rc_x_l7 hs hit ?_ n 0 ln (by omega) (fun j hj => absurd hj (by omega)))
  intro ln' hl'
  refine br_t (by rw [hit]; exact nI_le (Nat.le_refl _) (by omega)) (rc_x_pl hn hit hl' ?_)
  intro ad' ha'
  have := rc_on_n (n := n) (o := so) (f := rc_h0 so sa sb sc)
  exact Exists.intro 66 (rc_x_l40 hs hit H 65 0 1 0 (rc_h0 so sa sb sc) ln' ad' (by omega) rc_h0_v rc_h0_b (by rw [rc_Gc_0 hs]; rfl) hl' ha' (Or.inr ⟨rfl, by omega⟩))
end
end
section
/-! the component's image -/
def rc_Ct (im : Nat → Int32) (s h : Nat) (op a b c d : Int32) : Prop :=
  (op = 0 → ∀ t, t < h → im (s + t) = 0) ∧ (¬ op = 0 → (h = 1 ∧ 0 ≤ rc_sf op a b c d ∧ im s = rc_sf op a b c d) ∨ (h = 2 ∧ im s = rc_wlo (rc_lf op a b c d) ∧ im (s + 1) = rc_whi (rc_lf op a b c d)))
def rc_Cts (n : Nat) (f : Nat → Nat) (o a b c q im : Nat → Int32) : Prop := ∀ j, j < n → rc_Ct im (rc_sm f j) (f j) (o j) (a j) (b j) (c j) (rc_dsp f q (o j) (b j) (c j) j)
theorem rc_ct_k {im im' : Nat → Int32} {s h : Nat} {op a b c d : Int32} (hk : ∀ t, t < s + h → im' t = im t) (H : rc_Ct im s h op a b c d) : rc_Ct im' s h op a b c d := by
  refine ⟨fun e t ht => ?_, fun e => ?_⟩
  · rw [hk (s + t) (by omega)]
    exact H.1 e t ht
  · rcases H.2 e with ⟨h1, h2, h3⟩ | ⟨h1, h2, h3⟩
    · exact Or.inl ⟨h1, h2, by rw [hk s (by omega)]; exact h3⟩
    · exact Or.inr ⟨h1, by rw [hk s (by omega)]; exact h2, by rw [hk (s + 1) (by omega)]; exact h3⟩
section
variable {mI mL mS it rs ii iB gr uo ua ub uc : Int32} {so sa sb sc lp ln im ad lb : Nat → Int32} {n : Nat} {L : Int32} {f : Nat → Nat}
theorem rc_x_e33 {post : SX → Prop} {e : Nat} (he : e ≤ 2048) {im0 : Nat → Int32} {s : Nat} (H : ∀ im, (∀ u, u < s → im u = im0 u) → (∀ u, s ≤ u → u < e → im u = 0) → post (mI, mL, mS, it, rs, ii, iB, gr, uo, ua, ub, uc, so, sa, sb, sc, lp, ln, im, ad, lb)) : ∀ (d t : Nat) (im : Nat → Int32), t + d = e → s ≤ t → (∀ u, u < s → im u = im0 u) → (∀ u, s ≤ u → u < t → im u = 0) → wX_emit_33 post (nI e) mI mL mS it rs ii iB gr uo ua ub uc (d + 1) (nI t) so sa sb sc lp ln im ad lb := by
  intro d
  induction d with
  | zero =>
    intro t im ht hst h1 h2
    have e1 : t = e := by omega
    subst e1
    exact br_t (nI_le (Nat.le_refl _) (by omega)) (H im h1 h2)
  | succ d ih =>
    intro t im ht hst h1 h2
    refine br_f (nI_ge (by omega) (by omega)) (br_f (nI_ge (b := 2048) (by omega) (by decide)) (And.intro (vp_in_nI (by omega) (by decide)) (nm_r (e' := upd im t 0) ?_ (nm_r (nI_1 t) (ih (t + 1) _ (by omega) (by omega) ?_ ?_)))))
    · rw [nI_clamp (by omega), show vp_nar .char 0 = 0 from by rw [vp_nar_char]; decide]
    · intro u hu
      rw [pk_un (by omega)]
      exact h1 u hu
    · intro u hu1 hu2
      by_cases e2 : u = t
      · subst e2; exact pk_us
      · rw [pk_un e2]; exact h2 u hu1 (by omega)
theorem rc_x_em {post : SX → Prop} {j : Nat} (hs : rc_Src n L so sa sb sc lp) (hv : rc_Vl n so sa sb sc f) (hc : rc_Cl n so sa sb sc lp f) (hj : j < n) (hln : ∀ i, i < n → ln i = nI (2 * f i)) (had : ∀ i, i ≤ n → ad i = nI (2 * rc_sm f i))
    (hC : ∀ i, i < j → rc_Ct im (rc_sm f i) (f i) (so i) (sa i) (sb i) (sc i) (rc_dsp f lp (so i) (sb i) (sc i) i))
    (H : ∀ im, (∀ i, i < j + 1 → rc_Ct im (rc_sm f i) (f i) (so i) (sa i) (sb i) (sc i) (rc_dsp f lp (so i) (sb i) (sc i) i)) → post (mI, mL, mS, it, rs, ii, iB, gr, uo, ua, ub, uc, so, sa, sb, sc, lp, ln, im, ad, lb)) : wpX_emit post (mI, mL, mS, it, rs, ii, iB, gr, uo, ua, ub, uc, so, sa, sb, sc, lp, ln, im, ad, lb) (nI j) := by
  have hn := hs.1
  have ej : (nI j).toNatClampNeg = j := nI_clamp (by omega)
  have hvj : vp_in (nI j) 64 := vp_in_nI (by omega) (by decide)
  have hb := Nat.le_trans (rc_sm_mono f (show j + 1 ≤ n by omega)) (rc_vl_sm hs hv)
  have hb2 : rc_sm f (j + 1) = rc_sm f j + f j := rfl
  have es : nI (2 * rc_sm f j) >>> ((1 : Int32) &&& 31) = nI (rc_sm f j) := by
    rw [pk_shrN (by omega) _ 1 (by decide)]
    exact congrArg nI (by omega)
  -- what is needed of the new image
  have fin : ∀ im', (∀ u, u < rc_sm f j → im' u = im u) → rc_Ct im' (rc_sm f j) (f j) (so j) (sa j) (sb j) (sc j) (rc_dsp f lp (so j) (sb j) (sc j) j) → post (mI, mL, mS, it, rs, ii, iB, gr, uo, ua, ub, uc, so, sa, sb, sc, lp, ln, im', ad, lb) := by
    intro im' h1 h2
    refine H im' fun i hi => ?_
    by_cases e : i = j
    · subst e; exact h2
    · refine rc_ct_k (fun t ht => h1 t ?_) (hC i (by omega))
      have := rc_sm_mono f (show i + 1 ≤ j by omega)
      have e3 : rc_sm f (i + 1) = rc_sm f i + f i := rfl
      omega
  refine And.intro hvj (nm_e (And.intro (vp_in_nI (by omega) (by decide)) (nm_r (e' := nI (rc_sm f j)) (by rw [ej, had j (by omega)]; exact es) ?_)))
  rw [ej]
  refine br_c (fun e => And.intro hvj ?_) (fun e => ?_)
  · obtain ⟨_, ⟨g, g1, g2, ge⟩, _⟩ := rc_la_g (hs.2.1 j hj) e
    have hfj : f j = g := by rw [(hv j hj).1 e, ge, nI_clamp (by omega)]
    refine nm_r (e' := nI (rc_sm f j + f j)) (by rw [ge, nI_add, hfj]) ?_
    refine Exists.intro (f j + 1) (rc_x_e33 (e := rc_sm f j + f j) (by omega) (im0 := im) (s := rc_sm f j) ?_ (f j) (rc_sm f j) im rfl (Nat.le_refl _) (fun _ _ => rfl) (fun u h1 h2 => absurd h1 (by omega)))
    intro im' h1 h2
    exact fin im' h1 ⟨fun _ t ht => h2 _ (by omega) (by omega), fun z => absurd e z⟩
  · have hl := rc_la_i (hs.2.1 j hj) e
    refine rc_x_dp hs hj had ?_
    refine And.intro hvj ?_
    rw [hln j hj]
    rcases ((hv j hj).2 e).1 with h1 | h1
    · have hr := hc j hj e h1
      refine br_t (by rw [h1]; rfl) (And.intro hvj (And.intro hvj (And.intro hvj (rc_x_sf (rc_lg_o hl) ?_))))
      have hS := rc_ds_s (p := 0) (rc_dsp_ev hs hv hj) hl hr
      refine And.intro (vp_in_nI (by omega) (by decide)) (nm_r (e' := upd im (rc_sm f j) (rc_sf (so j) (sa j) (sb j) (sc j) (rc_dsp f lp (so j) (sb j) (sc j) j))) ?_ (fin _ ?_ ?_))
      · rw [nI_clamp (by omega), pk_vc]
        exact congrArg _ (rc_wlo_id hS.1)
      · intro u hu
        exact pk_un (by omega)
      · exact ⟨fun z => absurd z e, fun _ => Or.inl ⟨h1, hr, pk_us⟩⟩
    · refine br_f (by rw [h1]; decide) (And.intro hvj (And.intro hvj (And.intro hvj (rc_x_lf (rc_lg_o hl) ?_))))
      refine And.intro (vp_in_nI (by omega) (by decide)) (nm_r (e' := upd im (rc_sm f j) (rc_wlo (rc_lf (so j) (sa j) (sb j) (sc j) (rc_dsp f lp (so j) (sb j) (sc j) j)))) ?_ (And.intro ?_ (nm_r (e' := upd (upd im (rc_sm f j) (rc_wlo (rc_lf (so j) (sa j) (sb j) (sc j) (rc_dsp f lp (so j) (sb j) (sc j) j)))) (rc_sm f j + 1) (rc_whi (rc_lf (so j) (sa j) (sb j) (sc j) (rc_dsp f lp (so j) (sb j) (sc j) j)))) ?_ (fin _ ?_ ?_))))
      · rw [nI_clamp (by omega), pk_vc]
        rfl
      · rw [nI_1]
        exact vp_in_nI (by omega) (by decide)
      · rw [nI_1, nI_clamp (by omega), pk_vc]
        exact congrArg _ (rc_wlo_id (rc_whi_uv _))
      · intro u hu
        rw [pk_un (by omega), pk_un (by omega)]
      · exact ⟨fun z => absurd z e, fun _ => Or.inr ⟨h1, by rw [pk_un (by omega)]; exact pk_us, pk_us⟩⟩
theorem rc_x_a44 {post : Int32 → SX → Prop} (hs : rc_Src n L so sa sb sc lp) (hv : rc_Vl n so sa sb sc f) (hc : rc_Cl n so sa sb sc lp f) (hit : it = nI n) (hln : ∀ i, i < n → ln i = nI (2 * f i)) (had : ∀ i, i ≤ n → ad i = nI (2 * rc_sm f i))
    (H : ∀ im, rc_Cts n f so sa sb sc lp im → wX_assemble_44 post (0 + 1) (nI n) mI mL mS it rs ii iB gr uo ua ub uc so sa sb sc lp ln im ad lb) : ∀ (d i : Nat) (im : Nat → Int32), i + d = n → rc_Cts i f so sa sb sc lp im → wX_assemble_44 post (d + 1) (nI i) mI mL mS it rs ii iB gr uo ua ub uc so sa sb sc lp ln im ad lb := by
  have hn := hs.1
  intro d
  induction d with
  | zero =>
    intro i im hi hC
    have e : i = n := by omega
    subst e
    exact H im hC
  | succ d ih =>
    intro i im hi hC
    refine br_f (by rw [hit]; exact nI_ge (by omega) (by omega)) (rc_x_em hs hv hc (show i < n by omega) hln had hC ?_)
    intro im' hC'
    exact nm_r (nI_1 i) (ih (i + 1) im' (by omega) hC')
def rc_Lv (n : Nat) (q ad lb : Nat → Int32) (l : Nat) : Prop := (q l = -1 ∧ lb l = -1) ∨ ∃ p, p ≤ n ∧ q l = nI p ∧ lb l = ad p
theorem rc_x_a65 {post : Int32 → SX → Prop} (hn : n ≤ 64) (hq : ∀ l, l < 16 → lp l = -1 ∨ ∃ p, p ≤ n ∧ lp l = nI p) (H : ∀ lb, (∀ l, l < 16 → rc_Lv n lp ad lb l) → wX_assemble_65 post mI mL mS it rs ii iB gr uo ua ub uc (0 + 1) (nI 16) so sa sb sc lp ln im ad lb) : ∀ (d i : Nat) (lb : Nat → Int32), i + d = 16 → (∀ l, l < i → rc_Lv n lp ad lb l) → wX_assemble_65 post mI mL mS it rs ii iB gr uo ua ub uc (d + 1) (nI i) so sa sb sc lp ln im ad lb := by
  intro d
  induction d with
  | zero =>
    intro i lb hi hL
    have e : i = 16 := by omega
    subst e
    exact H lb hL
  | succ d ih =>
    intro i lb hi hL
    have hvi : vp_in (nI i) 16 := vp_in_nI (by omega) (by decide)
    have ei : (nI i).toNatClampNeg = i := nI_clamp (by omega)
    have keep : ∀ v, rc_Lv n lp ad (upd lb i v) i → ∀ l, l < i + 1 → rc_Lv n lp ad (upd lb i v) l := by
      intro v hv l hl
      by_cases e : l = i
      · subst e; exact hv
      · unfold rc_Lv
        rw [pk_un e]
        exact hL l (by omega)
    refine br_f (nI_ge (b := 16) (by omega) (by decide)) (And.intro hvi (nm_e ?_))
    rw [ei]
    rcases hq i (by omega) with h | ⟨p, hp, h⟩
    · rw [h]
      refine br_f (by decide) (And.intro hvi (nm_r (e' := upd lb i (-1)) rfl (nm_r (nI_1 i) (ih (i + 1) _ (by omega) (keep _ (Or.inl ⟨h, pk_us⟩))))))
    · rw [h]
      refine br_t (nI_pos' (by omega)) (And.intro (vp_in_nI (by omega) (by decide)) (And.intro hvi (nm_r (e' := upd lb i (ad p)) (by rw [nI_clamp (by omega)]) (nm_r (nI_1 i) (ih (i + 1) _ (by omega) (keep _ (Or.inr ⟨p, hp, h, pk_us⟩)))))))
/-- whether every label asked for is bound -/
def rc_okj (o b c q : Nat → Int32) (j : Nat) : Prop := 0 ≤ rc_lab (o j) (b j) (c j) → 0 ≤ q (rc_lab (o j) (b j) (c j)).toNatClampNeg
theorem rc_x_a2 {post : Int32 → SX → Prop} (hn : n ≤ 64) (hit : it = nI n) (hl : ∀ j, j < n → 0 ≤ rc_lab (so j) (sb j) (sc j) → vp_in (rc_lab (so j) (sb j) (sc j)) 16) (Hg : (∀ j, j < n → rc_okj so sb sc lp j) → wX_assemble_2 post mI mL mS it rs ii iB gr uo ua ub uc so sa sb sc lp ln im ad lb (0 + 1) (nI n)) (Hb : (∃ j, j < n ∧ ¬ rc_okj so sb sc lp j) → post (-6) (mI, mL, mS, it, rs, ii, iB, gr, uo, ua, ub, uc, so, sa, sb, sc, lp, ln, im, ad, lb)) : ∀ (d i : Nat), i + d = n → (∀ j, j < i → rc_okj so sb sc lp j) → wX_assemble_2 post mI mL mS it rs ii iB gr uo ua ub uc so sa sb sc lp ln im ad lb (d + 1) (nI i) := by
  intro d
  induction d with
  | zero =>
    intro i hi hk
    have e : i = n := by omega
    subst e
    exact Hg hk
  | succ d ih =>
    intro i hi hk
    have ei : (nI i).toNatClampNeg = i := nI_clamp (by omega)
    have nx : rc_okj so sb sc lp i → wX_assemble_2 post mI mL mS it rs ii iB gr uo ua ub uc so sa sb sc lp ln im ad lb (d + 1) (nI (i + 1)) := by
      intro hok
      refine ih (i + 1) (by omega) fun j hj => ?_
      by_cases e : j = i
      · subst e; exact hok
      · exact hk j (by omega)
    refine br_f (by rw [hit]; exact nI_ge (by omega) (by omega)) (rc_x_tl (vp_in_nI (by omega) (by decide)) ?_)
    rw [ei]
    refine br_c (fun hneg => nm_r (nI_1 i) (nx fun z => absurd hneg (Int32.not_lt.mpr z))) (fun hpos => And.intro (hl i (by omega) (Int32.not_lt.mp hpos)) (br_c (fun h => nm_r (nI_1 i) (nx fun _ => h)) (fun h => Hb ⟨i, by omega, fun z => h (z (Int32.not_lt.mp hpos))⟩)))
theorem rc_x_asm {post : Int32 → SX → Prop} (hn : n ≤ 64) (hit : it = nI n) (hl : ∀ j, j < n → 0 ≤ rc_lab (so j) (sb j) (sc j) → vp_in (rc_lab (so j) (sb j) (sc j)) 16) (hq : ∀ l, l < 16 → lp l = -1 ∨ ∃ p, p ≤ n ∧ lp l = nI p) (hS : (∀ j, j < n → rc_okj so sb sc lp j) → rc_Src n L so sa sb sc lp)
    (Hb : (∃ j, j < n ∧ ¬ rc_okj so sb sc lp j) → post (-6) (mI, mL, mS, it, rs, ii, iB, gr, uo, ua, ub, uc, so, sa, sb, sc, lp, ln, im, ad, lb))
    (H : rc_Src n L so sa sb sc lp → ∀ (f : Nat → Nat) (gr : Int32) (ln im ad lb : Nat → Int32), rc_Vl n so sa sb sc f → rc_Cl n so sa sb sc lp f → rc_Be n so sa sb sc lp f → gr = nI (rc_Gc n so sa sb f) → (∀ i, i ≤ n → ad i = nI (2 * rc_sm f i)) → rc_Cts n f so sa sb sc lp im → (∀ l, l < 16 → rc_Lv n lp ad lb l) → post 0 (mI, mL, mS, it, rs, it, (nI (2 * rc_sm f n)), gr, uo, ua, ub, uc, so, sa, sb, sc, lp, ln, im, ad, lb)) : wpX_assemble post (mI, mL, mS, it, rs, ii, iB, gr, uo, ua, ub, uc, so, sa, sb, sc, lp, ln, im, ad, lb) := by
  refine Exists.intro (n + 1) (rc_x_a2 hn hit hl (fun hok => ?_) Hb n 0 (by omega) (fun j hj => absurd hj (by omega)))
  have hs := hS hok
  refine br_t (by rw [hit]; exact nI_le (Nat.le_refl _) (by omega)) (rc_x_lay hs hit ?_)
  intro f gr' ln' ad' hv hc hb hg hl' ha'
  refine Exists.intro (n + 1) (rc_x_a44 hs hv hc hit hl' ha' ?_ n 0 im (by omega) (fun j hj => absurd hj (by omega)))
  intro im' hC
  refine br_t (by rw [hit]; exact nI_le (Nat.le_refl _) (by omega)) (Exists.intro 17 (rc_x_a65 hn hq ?_ 16 0 lb (by omega) (fun j hj => absurd hj (by omega))))
  intro lb' hL
  refine br_t (nI_le (a := 16) (b := 16) (Nat.le_refl _) (by decide)) (And.intro (by rw [hit]; exact vp_in_nI (by omega) (by decide)) (nm_r (e' := nI (2 * rc_sm f n)) (by rw [hit, nI_clamp (by omega)]; exact ha' n (Nat.le_refl _)) ?_))
  exact H hs f gr' ln' im' ad' lb' hv hc hb hg ha' hC hL
end
end
section
/-! the reference's layout -/
section
variable {mI mL mS it ii : Int32} {so sa sb sc lp yo ya yb yc yl yp : Nat → Int32} {m : Nat} {f : Nat → Nat}
theorem rc_y_a18 {post : Int32 → Prop} {i : Nat} (hi : i ≤ 64) (hyl : ∀ j, j < i → yl j = nI (2 * f j)) (h : post (nI (2 * rc_sm f i))) : ∀ (d t : Nat), t + d = i → wY_addressOf_18 post (nI i) mI mL mS it ii so sa sb sc lp yo ya yb yc yl yp (d + 1) (nI (2 * rc_sm f t)) (nI t) := by
  intro d
  induction d with
  | zero =>
    intro t ht
    have e : t = i := by omega
    subst e
    exact br_t (nI_le (Nat.le_refl _) (by omega)) h
  | succ d ih =>
    intro t ht
    refine br_f (nI_ge (by omega) (by omega)) (And.intro (vp_in_nI (by omega) (by decide)) (nm_r (e' := nI (2 * rc_sm f (t + 1))) ?_ (nm_r (nI_1 t) (ih (t + 1) (by omega)))))
    rw [nI_clamp (by omega), hyl t (by omega), nI_add]
    exact congrArg nI (show 2 * rc_sm f t + 2 * f t = 2 * (rc_sm f t + f t) by omega)
theorem rc_y_ad {post : Int32 → Prop} {i : Nat} (hii : ii = nI m) (hm : m ≤ 64) (hyl : ∀ j, j < m → yl j = nI (2 * f j)) (hi : i ≤ m) (h : post (nI (2 * rc_sm f i))) : wpY_addressOf post (mI, mL, mS, it, ii, so, sa, sb, sc, lp, yo, ya, yb, yc, yl, yp) (nI i) :=
  br_f (nI_pos (by omega)) (br_t (by rw [hii]; exact nI_le hi (by omega)) (Exists.intro (i + 1) (rc_y_a18 (by omega) (fun j hj => hyl j (by omega)) h i 0 (by omega))))
theorem rc_y_il {post : Int32 → Prop} {l p : Nat} (hii : ii = nI m) (hm : m ≤ 64) (hyl : ∀ j, j < m → yl j = nI (2 * f j)) (hl : l < 16) (hL : rc_Lb mL (nI l)) (hp : p ≤ m) (e : yp l = nI p) (h : post (nI (2 * rc_sm f p))) : wpY_imageLabel post (mI, mL, mS, it, ii, so, sa, sb, sc, lp, yo, ya, yb, yc, yl, yp) (nI l) := by
  refine br_f hL.1 (br_t (Int32.not_le.mp hL.2) (And.intro (vp_in_nI hl (by decide)) ?_))
  rw [nI_clamp (by omega), e]
  exact rc_y_ad hii hm hyl hp h
theorem rc_y_iln {post : Int32 → Prop} {l : Nat} (hl : l < 16) (hL : rc_Lb mL (nI l)) (e : yp l = -1) (h : post (-1)) : wpY_imageLabel post (mI, mL, mS, it, ii, so, sa, sb, sc, lp, yo, ya, yb, yc, yl, yp) (nI l) := by
  refine br_f hL.1 (br_t (Int32.not_le.mp hL.2) (And.intro (vp_in_nI hl (by decide)) ?_))
  rw [nI_clamp (by omega), e]
  exact br_t (by decide) h
theorem rc_y_lb {post : Int32 → Prop} {op b c : Int32} (h : post (rc_lab op b c)) : wpY_labelOf post (mI, mL, mS, it, ii, so, sa, sb, sc, lp, yo, ya, yb, yc, yl, yp) op b c := rc_ib h id fun h => rc_ib h id fun h => rc_ib h id id
theorem rc_y_dp {post : Int32 → Prop} {j : Nat} (hs : rc_Src m mL yo ya yb yc yp) (hii : ii = nI m) (hyl : ∀ j, j < m → yl j = nI (2 * f j)) (hj : j < m) (h : post (rc_dsp f yp (yo j) (yb j) (yc j) j)) : wpY_displacement post (mI, mL, mS, it, ii, so, sa, sb, sc, lp, yo, ya, yb, yc, yl, yp) (nI j) := by
  have hm := hs.1
  have ej : (nI j).toNatClampNeg = j := nI_clamp (by omega)
  have hv : vp_in (nI j) 64 := vp_in_nI (by omega) (by decide)
  refine And.intro hv (And.intro hv (And.intro hv (rc_y_lb ?_)))
  rw [ej]
  by_cases hl : 0 ≤ rc_lab (yo j) (yb j) (yc j)
  · obtain ⟨l, p, hl1, e1, e2, hp⟩ := hs.2.2.1 j hj hl
    have ho : ¬ yo j = 0 := fun z => rc_lab_0 z hl
    have hL := rc_lb_l (rc_la_i (hs.2.1 j hj) ho) hl
    have ed : rc_dsp f yp (yo j) (yb j) (yc j) j = nI (2 * rc_sm f p) - nI (2 * rc_sm f j) := by
      unfold rc_dsp
      rw [if_pos hl, rc_ps_e hl1 (by omega) e1 e2]
    rw [ed] at h
    refine br_t hl ?_
    rw [e1] at hL ⊢
    exact rc_y_il hii hm hyl hl1 hL hp e2 (rc_y_ad hii hm hyl (by omega) h)
  · have ed : rc_dsp f yp (yo j) (yb j) (yc j) j = 0 := if_neg hl
    rw [ed] at h
    exact br_f hl h
theorem rc_y_sa {post : Int32 → Prop} {j : Nat} (hs : rc_Src m mL yo ya yb yc yp) (hii : ii = nI m) (hyl : ∀ j, j < m → yl j = nI (2 * f j)) (hj : j < m) (ho : ¬ yo j = 0) (h : post (rc_sf (yo j) (ya j) (yb j) (yc j) (rc_dsp f yp (yo j) (yb j) (yc j) j))) : wpY_shortAt post (mI, mL, mS, it, ii, so, sa, sb, sc, lp, yo, ya, yb, yc, yl, yp) (nI j) := by
  have hm := hs.1
  have ej : (nI j).toNatClampNeg = j := nI_clamp (by omega)
  have hv : vp_in (nI j) 64 := vp_in_nI (by omega) (by decide)
  unfold wpY_shortAt
  refine rc_y_dp hs hii hyl hj (And.intro hv (And.intro hv (And.intro hv (And.intro hv ?_))))
  rw [ej]
  exact rc_y_sf (rc_la_i (hs.2.1 j hj) ho) h
theorem rc_y_la {post : Int32 → Prop} {j : Nat} (hs : rc_Src m mL yo ya yb yc yp) (hii : ii = nI m) (hyl : ∀ j, j < m → yl j = nI (2 * f j)) (hj : j < m) (ho : ¬ yo j = 0) (h : post (rc_lf (yo j) (ya j) (yb j) (yc j) (rc_dsp f yp (yo j) (yb j) (yc j) j))) : wpY_longAt post (mI, mL, mS, it, ii, so, sa, sb, sc, lp, yo, ya, yb, yc, yl, yp) (nI j) := by
  have hm := hs.1
  have ej : (nI j).toNatClampNeg = j := nI_clamp (by omega)
  have hv : vp_in (nI j) 64 := vp_in_nI (by omega) (by decide)
  refine And.intro hv (nm_r (congrArg yo ej) (And.intro hv (nm_r (congrArg ya ej) (And.intro hv (nm_r (congrArg yb ej) (And.intro hv (nm_r (congrArg yc ej) ?_)))))))
  exact rc_y_dp hs hii hyl hj (rc_y_tl (rc_la_i (hs.2.1 j hj) ho) h)
/-! the rounds -/
theorem rc_y_228 {post : Int32 → SY → Prop} {J : Int32 → (Nat → Int32) → (Nat → Int32) → (Nat → Int32) → (Nat → Int32) → (Nat → Int32) → (Nat → Int32) → (Nat → Int32) → (Nat → Int32) → (Nat → Int32) → (Nat → Int32) → (Nat → Int32) → Prop} {r : Nat} {f0 : Nat → Nat} (hs : rc_Src m mL yo ya yb yc yp) (hii : ii = nI m)
    (H : ∀ (f : Nat → Nat) (yl : Nat → Int32), (∀ j, j < m → yl j = nI (2 * f j)) → rc_Vl m yo ya yb yc f → rc_Be m yo ya yb yc yp f → ((f = f0 ∧ rc_Cl m yo ya yb yc yp f0) ∨ (rc_on m yo f < rc_on m yo f0 ∧ ¬ rc_Cl m yo ya yb yc yp f0)) → J (nI (r + 1)) so sa sb sc lp yo ya yb yc yl yp) :
    ∀ (d i : Nat) (f : Nat → Nat) (yl : Nat → Int32), i + d = m → (∀ j, j < m → yl j = nI (2 * f j)) → rc_Vl m yo ya yb yc f → rc_Be m yo ya yb yc yp f → ((f = f0 ∧ rc_Cl i yo ya yb yc yp f0) ∨ (rc_on m yo f < rc_on m yo f0 ∧ ¬ rc_Cl m yo ya yb yc yp f0)) → wY_assemble_228 post J (nI r) mI mL mS it ii (d + 1) (nI i) so sa sb sc lp yo ya yb yc yl yp := by
  have hm := hs.1
  intro d
  induction d with
  | zero =>
    intro i f yl hi hl hv hb hx
    have e : i = m := by omega
    subst e
    exact br_t (by rw [hii]; exact nI_le (Nat.le_refl _) (by omega)) (nm_r (nI_1 r) (H f yl hl hv hb hx))
  | succ d ih =>
    intro i f yl hi hl hv hb hx
    have hi' : i < m := by omega
    have ei : (nI i).toNatClampNeg = i := nI_clamp (by omega)
    have hvi : vp_in (nI i) 64 := vp_in_nI (by omega) (by decide)
    have hbn := Nat.le_trans (rc_sm_mono f (show i + 1 ≤ m by omega)) (rc_vl_sm hs hv)
    have hb2 : rc_sm f (i + 1) = rc_sm f i + f i := rfl
    have stay : (¬ yo i = 0 → f i = 1 → 0 ≤ rc_sf (yo i) (ya i) (yb i) (yc i) (rc_dsp f yp (yo i) (yb i) (yc i) i)) → wY_assemble_228 post J (nI r) mI mL mS it ii (d + 1) (nI (i + 1)) so sa sb sc lp yo ya yb yc yl yp := by
      intro hok
      refine ih (i + 1) f yl (by omega) hl hv hb ?_
      rcases hx with ⟨h1, h2⟩ | h
      · refine Or.inl ⟨h1, fun j hj => ?_⟩
        by_cases e : j = i
        · subst e; rw [h1] at hok; exact hok
        · exact h2 j (by omega)
      · exact Or.inr h
    refine br_f (by rw [hii]; exact nI_ge (by omega) (by omega)) (And.intro hvi ?_)
    rw [ei]
    refine br_c (fun e => nm_r (nI_1 i) (stay fun z => absurd e z)) (fun ho => And.intro hvi ?_)
    rw [hl i hi']
    refine br_c (fun h2 => ?_) (fun h2 => nm_r (nI_1 i) (stay fun _ z => absurd (by rw [z]; rfl) h2))
    have hf1 : f i = 1 := by
      rw [show (2 : Int32) = nI 2 from rfl, nI_eq (by omega) (by omega)] at h2
      omega
    refine rc_y_sa hs hii hl hi' ho ?_
    refine br_c (fun k => nm_r (nI_1 i) (stay fun _ _ => k)) (fun k => And.intro hvi (nm_r (e' := upd yl i 4) rfl (nm_r (nI_1 i) ?_)))
    have hneg := Int32.not_le.mp k
    have hlab := rc_gr_lab hs hv hi' ho hf1 hneg
    refine ih (i + 1) (rc_up2 f i) _ (by omega) ?_ (rc_up_v hs hv hi' ho hlab) (rc_up_b hs hv hb hi' ho hneg) (Or.inr ?_)
    · intro j hj
      unfold rc_up2
      by_cases e : j = i
      · subst e; rw [pk_us, if_pos rfl]; rfl
      · rw [pk_un e, if_neg e]; exact hl j hj
    · have h3 := rc_up_o (n := m) (f := f) hi' ho hf1
      rcases hx with ⟨h1, h2⟩ | ⟨h1, h2⟩
      · subst h1
        exact ⟨h3, fun z => k (z i hi' ho hf1)⟩
      · exact ⟨by omega, h2⟩
theorem rc_y_220 {post : Int32 → SY → Prop} (hs : rc_Src m mL yo ya yb yc yp) (hii : ii = nI m)
    (H : ∀ (f : Nat → Nat) (yl : Nat → Int32), (∀ j, j < m → yl j = nI (2 * f j)) → rc_Vl m yo ya yb yc f → rc_Cl m yo ya yb yc yp f → rc_Be m yo ya yb yc yp f → post 0 (mI, mL, mS, it, ii, so, sa, sb, sc, lp, yo, ya, yb, yc, yl, yp)) :
    ∀ (d r : Nat) (f : Nat → Nat) (yl : Nat → Int32), r + d = 64 → (∀ j, j < m → yl j = nI (2 * f j)) → rc_Vl m yo ya yb yc f → rc_Be m yo ya yb yc yp f → (rc_Cl m yo ya yb yc yp f ∨ rc_on m yo f + r ≤ 64) → wY_assemble_220 post mI mL mS it ii (d + 1) (nI r) so sa sb sc lp yo ya yb yc yl yp := by
  have hm := hs.1
  intro d
  induction d with
  | zero =>
    intro r f yl hr hl hv hb hx
    have e : r = 64 := by omega
    subst e
    refine br_t (by decide) (H f yl hl hv ?_ hb)
    rcases hx with h | h
    · exact h
    · exact rc_on_0 (by omega)
  | succ d ih =>
    intro r f yl hr hl hv hb hx
    refine br_f (nI_ge (b := 64) (by omega) (by decide)) (Exists.intro (m + 1) (rc_y_228 (f0 := f) hs hii ?_ m 0 f yl (by omega) hl hv hb (Or.inl ⟨rfl, fun j hj => absurd hj (by omega)⟩)))
    intro f' yl' hl' hv' hb' hx'
    refine ih (r + 1) f' yl' (by omega) hl' hv' hb' ?_
    rcases hx' with ⟨h1, h2⟩ | ⟨h1, h2⟩
    · rw [h1]; exact Or.inl h2
    · rcases hx with h | h
      · exact absurd h h2
      · exact Or.inr (by omega)
end
end
section
/-! two copies of a source that agree -/
def rc_Agr (n : Nat) (o a b c q o' a' b' c' q' : Nat → Int32) : Prop := (∀ j, j < n → o' j = o j ∧ a' j = a j ∧ b' j = b j ∧ c' j = c j) ∧ ∀ l, l < 16 → q' l = q l
section
variable {n : Nat} {L : Int32} {o a b c q o' a' b' c' q' : Nat → Int32} {f : Nat → Nat}
theorem rc_ag_s (h : rc_Agr n o a b c q o' a' b' c' q') : rc_Agr n o' a' b' c' q' o a b c q :=
  ⟨fun j hj => ⟨(h.1 j hj).1.symm, (h.1 j hj).2.1.symm, (h.1 j hj).2.2.1.symm, (h.1 j hj).2.2.2.symm⟩, fun l hl => (h.2 l hl).symm⟩
theorem rc_ag_src (h : rc_Agr n o a b c q o' a' b' c' q') (hs : rc_Src n L o a b c q) : rc_Src n L o' a' b' c' q' := by
  refine ⟨hs.1, fun j hj => ?_, fun j hj hl => ?_, ?_⟩
  · obtain ⟨e1, e2, e3, e4⟩ := h.1 j hj
    rw [e1, e2, e3, e4]
    exact hs.2.1 j hj
  · obtain ⟨e1, e2, e3, e4⟩ := h.1 j hj
    rw [e1, e3, e4] at hl ⊢
    obtain ⟨l, p, h1, h2, h3, h4⟩ := hs.2.2.1 j hj hl
    exact ⟨l, p, h1, h2, by rw [h.2 l h1]; exact h3, h4⟩
  · rw [rc_sm_eq (g := rc_rz o a) fun j hj => ?_]
    · exact hs.2.2.2
    · obtain ⟨e1, e2, e3, e4⟩ := h.1 j hj
      unfold rc_rz
      rw [e1, e2]
theorem rc_ag_h0 (h : rc_Agr n o a b c q o' a' b' c' q') {j : Nat} (hj : j < n) : rc_h0 o' a' b' c' j = rc_h0 o a b c j := by
  obtain ⟨e1, e2, e3, e4⟩ := h.1 j hj
  unfold rc_h0
  rw [e1, e2, e3, e4]
theorem rc_ag_vl (h : rc_Agr n o a b c q o' a' b' c' q') (hv : rc_Vl n o a b c f) : rc_Vl n o' a' b' c' f := by
  intro j hj
  have hv' := hv j hj
  rw [rc_ag_h0 h hj]
  obtain ⟨e1, e2, e3, e4⟩ := h.1 j hj
  rw [e1, e2, e3, e4]
  exact hv'
theorem rc_ag_dsp (h : rc_Agr n o a b c q o' a' b' c' q') (hs : rc_Src n L o a b c q) {j : Nat} (hj : j < n) : rc_dsp f q' (o' j) (b' j) (c' j) j = rc_dsp f q (o j) (b j) (c j) j := by
  obtain ⟨e1, e2, e3, e4⟩ := h.1 j hj
  rw [e1, e3, e4]
  unfold rc_dsp
  by_cases hl : 0 ≤ rc_lab (o j) (b j) (c j)
  · obtain ⟨l, p, h1, h2, h3, h4⟩ := hs.2.2.1 j hj hl
    have hn := hs.1
    rw [if_pos hl, if_pos hl, rc_ps_e h1 (by omega) h2 h3, rc_ps_e h1 (by omega) h2 ((h.2 l h1).trans h3)]
  · rw [if_neg hl, if_neg hl]
theorem rc_ag_cl (h : rc_Agr n o a b c q o' a' b' c' q') (hs : rc_Src n L o a b c q) (hc : rc_Cl n o a b c q f) : rc_Cl n o' a' b' c' q' f := by
  intro j hj
  have hc' := hc j hj
  rw [rc_ag_dsp h hs hj]
  obtain ⟨e1, e2, e3, e4⟩ := h.1 j hj
  rw [e1, e2, e3, e4]
  exact hc'
theorem rc_ag_be (h : rc_Agr n o a b c q o' a' b' c' q') (hs : rc_Src n L o a b c q) (hb : rc_Be n o a b c q f) : rc_Be n o' a' b' c' q' f :=
  fun g kv kc => hb g (rc_ag_vl (rc_ag_s h) kv) (rc_ag_cl (rc_ag_s h) (rc_ag_src h hs) kc)
theorem rc_ag_cts {im : Nat → Int32} (h : rc_Agr n o a b c q o' a' b' c' q') (hs : rc_Src n L o a b c q) (hC : rc_Cts n f o a b c q im) : rc_Cts n f o' a' b' c' q' im := by
  intro j hj
  have hC' := hC j hj
  rw [rc_ag_dsp h hs hj]
  obtain ⟨e1, e2, e3, e4⟩ := h.1 j hj
  rw [e1, e2, e3, e4]
  exact hC'
theorem rc_ag_gc (h : rc_Agr n o a b c q o' a' b' c' q') : rc_Gc n o' a' b' f = rc_Gc n o a b f := by
  unfold rc_Gc
  refine rc_sm_eq fun j hj => ?_
  obtain ⟨e1, e2, e3, e4⟩ := h.1 j hj
  rw [e1, e2, e3]
theorem rc_dsp_f {g : Nat → Nat} (hs : rc_Src n L o a b c q) (h : ∀ j, j < n → f j = g j) {j : Nat} (hj : j < n) : rc_dsp f q (o j) (b j) (c j) j = rc_dsp g q (o j) (b j) (c j) j := by
  unfold rc_dsp
  by_cases hl : 0 ≤ rc_lab (o j) (b j) (c j)
  · obtain ⟨l, p, h1, h2, h3, h4⟩ := hs.2.2.1 j hj hl
    have hn := hs.1
    rw [if_pos hl, if_pos hl, rc_ps_e h1 (by omega) h2 h3, rc_sm_eq (n := p) (fun i hi => h i (by omega)), rc_sm_eq (n := j) (fun i hi => h i (by omega))]
  · rw [if_neg hl, if_neg hl]
theorem rc_cts_f {g : Nat → Nat} {im : Nat → Int32} (hs : rc_Src n L o a b c q) (h : ∀ j, j < n → f j = g j) (hC : rc_Cts n f o a b c q im) : rc_Cts n g o a b c q im := by
  intro j hj
  have hC' := hC j hj
  rw [rc_dsp_f hs h hj, h j hj, rc_sm_eq (n := j) (fun i hi => h i (by omega))] at hC'
  exact hC'
theorem rc_gc_f {g : Nat → Nat} (h : ∀ j, j < n → f j = g j) : rc_Gc n o a b f = rc_Gc n o a b g := by
  unfold rc_Gc
  refine rc_sm_eq fun j hj => ?_
  rw [h j hj]
end
/-! the reference's copies -/
section
variable {mI mL mS it ii : Int32} {so sa sb sc lp yo ya yb yc yl yp : Nat → Int32} {n : Nat} {L : Int32}
theorem rc_y_sfA {post : Int32 → Prop} {op a b c d : Int32} (hl : rc_LegA L op a b c) (h : post (rc_sf op a b c d)) : wpY_shortForm post (mI, mL, mS, it, ii, so, sa, sb, sc, lp, yo, ya, yb, yc, yl, yp) op a b c d := by
  rcases hl with g | g
  · rw [g.1] at h ⊢
    exact rc_y_sf0 h
  · exact rc_y_sf g h
theorem rc_y_a91 {post : Int32 → SY → Prop} (hs : rc_Src n L so sa sb sc lp) (hit : it = nI n) (H : ∀ yo ya yb yc yl, (∀ j, j < n → yo j = so j ∧ ya j = sa j ∧ yb j = sb j ∧ yc j = sc j) → (∀ j, j < n → yl j = nI (2 * rc_h0 so sa sb sc j)) → wY_assemble_91 post mI mL mS it ii (0 + 1) (nI n) so sa sb sc lp yo ya yb yc yl yp) : ∀ (d i : Nat) (yo ya yb yc yl : Nat → Int32), i + d = n → (∀ j, j < i → yo j = so j ∧ ya j = sa j ∧ yb j = sb j ∧ yc j = sc j) → (∀ j, j < i → yl j = nI (2 * rc_h0 so sa sb sc j)) → wY_assemble_91 post mI mL mS it ii (d + 1) (nI i) so sa sb sc lp yo ya yb yc yl yp := by
  have hn := hs.1
  intro d
  induction d with
  | zero =>
    intro i yo ya yb yc yl hi h1 h2
    have e : i = n := by omega
    subst e
    exact H yo ya yb yc yl h1 h2
  | succ d ih =>
    intro i yo ya yb yc yl hi h1 h2
    have hi' : i < n := by omega
    have ei : (nI i).toNatClampNeg = i := nI_clamp (by omega)
    have hv : vp_in (nI i) 64 := vp_in_nI (by omega) (by decide)
    have nx : ∀ v, v = nI (2 * rc_h0 so sa sb sc i) → wY_assemble_91 post mI mL mS it ii (d + 1) (nI (i + 1)) so sa sb sc lp (upd yo i (so i)) (upd ya i (sa i)) (upd yb i (sb i)) (upd yc i (sc i)) (upd yl i v) yp := by
      intro v ev
      refine ih (i + 1) _ _ _ _ _ (by omega) ?_ ?_
      · intro j hj
        by_cases e : j = i
        · subst e; exact ⟨pk_us, pk_us, pk_us, pk_us⟩
        · rw [pk_un e, pk_un e, pk_un e, pk_un e]; exact h1 j (by omega)
      · intro j hj
        by_cases e : j = i
        · subst e; rw [pk_us]; exact ev
        · rw [pk_un e]; exact h2 j (by omega)
    refine br_f (by rw [hit]; exact nI_ge (by omega) (by omega)) ?_
    refine And.intro hv (And.intro hv (nm_r (e' := upd yo i (so i)) (by rw [ei]) (And.intro hv (And.intro hv (nm_r (e' := upd ya i (sa i)) (by rw [ei]) (And.intro hv (And.intro hv (nm_r (e' := upd yb i (sb i)) (by rw [ei]) (And.intro hv (And.intro hv (nm_r (e' := upd yc i (sc i)) (by rw [ei]) ?_)))))))))))
    refine And.intro hv (And.intro hv (And.intro hv (And.intro hv ?_)))
    rw [ei]
    refine rc_y_sfA (hs.2.1 i hi') (And.intro hv ?_)
    refine br_c (fun e => And.intro hv (And.intro hv (nm_r (e' := upd yl i (2 * sa i)) rfl (nm_r (nI_1 i) (nx _ ?_))))) (fun e => br_c (fun k => And.intro hv (nm_r (e' := upd yl i 4) rfl (nm_r (nI_1 i) (nx _ ?_)))) (fun k => And.intro hv (nm_r (e' := upd yl i 2) rfl (nm_r (nI_1 i) (nx _ ?_)))))
    · have e1 : rc_h0 so sa sb sc i = (sa i).toNatClampNeg := if_pos e
      obtain ⟨_, ⟨g, g1, g2, ge⟩, _⟩ := rc_la_g (hs.2.1 i hi') e
      rw [e1, ge, nI_clamp (by omega), show (2 : Int32) = nI 2 from rfl, pk_mul]
    · have e1 : rc_h0 so sa sb sc i = if rc_sf (so i) (sa i) (sb i) (sc i) 0 < 0 then 2 else 1 := if_neg e
      rw [e1, if_pos k]
      rfl
    · have e1 : rc_h0 so sa sb sc i = if rc_sf (so i) (sa i) (sb i) (sc i) 0 < 0 then 2 else 1 := if_neg e
      rw [e1, if_neg k]
      rfl
theorem rc_y_a65 {post : Int32 → SY → Prop} (H : ∀ yp, (∀ l, l < 16 → yp l = lp l) → wY_assemble_65 post mI mL mS it ii (0 + 1) (nI 16) so sa sb sc lp yo ya yb yc yl yp) : ∀ (d i : Nat) (yp : Nat → Int32), i + d = 16 → (∀ l, l < i → yp l = lp l) → wY_assemble_65 post mI mL mS it ii (d + 1) (nI i) so sa sb sc lp yo ya yb yc yl yp := by
  intro d
  induction d with
  | zero =>
    intro i yp hi h
    have e : i = 16 := by omega
    subst e
    exact H yp h
  | succ d ih =>
    intro i yp hi h
    have hv : vp_in (nI i) 16 := vp_in_nI (by omega) (by decide)
    refine br_f (nI_ge (b := 16) (by omega) (by decide)) (And.intro hv (And.intro hv (nm_r (e' := upd yp i (lp i)) (by rw [nI_clamp (by omega)]) (nm_r (nI_1 i) (ih (i + 1) _ (by omega) ?_)))))
    intro l hl
    by_cases e : l = i
    · subst e; exact pk_us
    · rw [pk_un e]; exact h l (by omega)
theorem rc_y_a2 {post : Int32 → SY → Prop} (hn : n ≤ 64) (hit : it = nI n) (hl : ∀ j, j < n → 0 ≤ rc_lab (so j) (sb j) (sc j) → vp_in (rc_lab (so j) (sb j) (sc j)) 16) (Hg : (∀ j, j < n → rc_okj so sb sc lp j) → wY_assemble_2 post mI mL mS it ii so sa sb sc lp yo ya yb yc yl yp (0 + 1) (nI n)) (Hb : (∃ j, j < n ∧ ¬ rc_okj so sb sc lp j) → post (-6) (mI, mL, mS, it, ii, so, sa, sb, sc, lp, yo, ya, yb, yc, yl, yp)) : ∀ (d i : Nat), i + d = n → (∀ j, j < i → rc_okj so sb sc lp j) → wY_assemble_2 post mI mL mS it ii so sa sb sc lp yo ya yb yc yl yp (d + 1) (nI i) := by
  intro d
  induction d with
  | zero =>
    intro i hi hk
    have e : i = n := by omega
    subst e
    exact Hg hk
  | succ d ih =>
    intro i hi hk
    have ei : (nI i).toNatClampNeg = i := nI_clamp (by omega)
    have hv : vp_in (nI i) 64 := vp_in_nI (by omega) (by decide)
    have nx : rc_okj so sb sc lp i → wY_assemble_2 post mI mL mS it ii so sa sb sc lp yo ya yb yc yl yp (d + 1) (nI (i + 1)) := by
      intro hok
      refine ih (i + 1) (by omega) fun j hj => ?_
      by_cases e : j = i
      · subst e; exact hok
      · exact hk j (by omega)
    refine br_f (by rw [hit]; exact nI_ge (by omega) (by omega)) (And.intro hv (And.intro hv (And.intro hv ?_)))
    rw [ei]
    refine rc_y_lb ?_
    refine br_c (fun hneg => nm_r (nI_1 i) (nx fun z => absurd hneg (Int32.not_lt.mpr z))) (fun hpos => And.intro (hl i (by omega) (Int32.not_lt.mp hpos)) (br_c (fun h => nm_r (nI_1 i) (nx fun _ => h)) (fun h => Hb ⟨i, by omega, fun z => h (z (Int32.not_lt.mp hpos))⟩)))
theorem rc_y_asm {post : Int32 → SY → Prop} (hn : n ≤ 64) (hit : it = nI n) (hl : ∀ j, j < n → 0 ≤ rc_lab (so j) (sb j) (sc j) → vp_in (rc_lab (so j) (sb j) (sc j)) 16) (hS : (∀ j, j < n → rc_okj so sb sc lp j) → rc_Src n mL so sa sb sc lp)
    (Hb : (∃ j, j < n ∧ ¬ rc_okj so sb sc lp j) → post (-6) (mI, mL, mS, it, ii, so, sa, sb, sc, lp, yo, ya, yb, yc, yl, yp))
    (H : rc_Src n mL so sa sb sc lp → ∀ (f : Nat → Nat) (yo ya yb yc yl yp : Nat → Int32), rc_Agr n so sa sb sc lp yo ya yb yc yp → (∀ j, j < n → yl j = nI (2 * f j)) → rc_Vl n yo ya yb yc f → rc_Cl n yo ya yb yc yp f → rc_Be n yo ya yb yc yp f → post 0 (mI, mL, mS, it, it, so, sa, sb, sc, lp, yo, ya, yb, yc, yl, yp)) : wpY_assemble post (mI, mL, mS, it, ii, so, sa, sb, sc, lp, yo, ya, yb, yc, yl, yp) := by
  refine Exists.intro (n + 1) (rc_y_a2 hn hit hl (fun hok => ?_) Hb n 0 (by omega) (fun j hj => absurd hj (by omega)))
  have hs := hS hok
  refine br_t (by rw [hit]; exact nI_le (Nat.le_refl _) (by omega)) (Exists.intro 17 (rc_y_a65 ?_ 16 0 yp (by omega) (fun j hj => absurd hj (by omega))))
  intro yp' hp
  refine br_t (nI_le (a := 16) (b := 16) (Nat.le_refl _) (by decide)) (Exists.intro (n + 1) (rc_y_a91 hs hit ?_ n 0 yo ya yb yc yl (by omega) (fun j hj => absurd hj (by omega)) (fun j hj => absurd hj (by omega))))
  intro yo' ya' yb' yc' yl' h1 h2
  have hA : rc_Agr n so sa sb sc lp yo' ya' yb' yc' yp' := ⟨h1, hp⟩
  have := rc_on_n (n := n) (o := yo') (f := rc_h0 so sa sb sc)
  refine br_t (by rw [hit]; exact nI_le (Nat.le_refl _) (by omega)) (Exists.intro 65 (rc_y_220 (m := n) (rc_ag_src hA hs) hit ?_ 64 0 (rc_h0 so sa sb sc) yl' (by omega) h2 (rc_ag_vl hA rc_h0_v) (rc_ag_be hA hs rc_h0_b) (Or.inr (by omega))))
  intro f yl'' k1 k2 k3 k4
  exact H hs f yo' ya' yb' yc' yl'' yp' hA k1 k2 k3 k4
end
end
section
/-! the relation -/
def rc_Rs (n : Nat) (mI mL mS it rs : Int32) (so sa sb sc lp : Nat → Int32) : Prop :=
  n ≤ 64 ∧ it = nI n ∧ (∃ N, n ≤ N ∧ N ≤ 64 ∧ mI = nI N) ∧ (∃ M, M ≤ 16 ∧ mL = nI M) ∧ (∃ S, S ≤ 2047 ∧ mS = nI S ∧ rc_sm (rc_rz so sa) n ≤ S) ∧ rs = nI (rc_sm (rc_rz so sa) n) ∧ (∀ j, j < n → rc_LegA mL (so j) (sa j) (sb j) (sc j)) ∧ (∀ l, l < 16 → lp l = -1 ∨ ∃ p, p ≤ n ∧ lp l = nI p)
def rc_Ri (mL ii iB gr : Int32) (im ad lb yo ya yb yc yl yp : Nat → Int32) : Prop :=
  ∃ (m : Nat) (f : Nat → Nat), ii = nI m ∧ rc_Src m mL yo ya yb yc yp ∧ rc_Vl m yo ya yb yc f ∧ rc_Cts m f yo ya yb yc yp im ∧ (∀ j, j < m → yl j = nI (2 * f j)) ∧ (∀ i, i ≤ m → ad i = nI (2 * rc_sm f i)) ∧ iB = nI (2 * rc_sm f m) ∧ gr = nI (rc_Gc m yo ya yb f) ∧ ∀ l, l < 16 → rc_Lv m yp ad lb l
def i_Rel (k : Nat) (u : SX) (v : SY) : Prop := match u, v with
  | (mI, mL, mS, it, rs, ii, iB, gr, uo, ua, ub, uc, so, sa, sb, sc, lp, ln, im, ad, lb), (mI', mL', mS', it', ii', so', sa', sb', sc', lp', yo, ya, yb, yc, yl, yp) => mI = mI' ∧ mL = mL' ∧ mS = mS' ∧ it = it' ∧ ii = ii' ∧ so = so' ∧ sa = sa' ∧ sb = sb' ∧ sc = sc' ∧ lp = lp' ∧ (∃ n, rc_Rs n mI mL mS it rs so sa sb sc lp) ∧ rc_Ri mL ii iB gr im ad lb yo ya yb yc yl yp
theorem rc_mk_r {mI mL mS it rs ii iB gr uo ua ub uc : Int32} {so sa sb sc lp ln im ad lb yo ya yb yc yl yp : Nat → Int32} {k n : Nat} (h1 : rc_Rs n mI mL mS it rs so sa sb sc lp) (h2 : rc_Ri mL ii iB gr im ad lb yo ya yb yc yl yp) : i_Rel k (mI, mL, mS, it, rs, ii, iB, gr, uo, ua, ub, uc, so, sa, sb, sc, lp, ln, im, ad, lb) (mI, mL, mS, it, ii, so, sa, sb, sc, lp, yo, ya, yb, yc, yl, yp) :=
  And.intro rfl (And.intro rfl (And.intro rfl (And.intro rfl (And.intro rfl (And.intro rfl (And.intro rfl (And.intro rfl (And.intro rfl (And.intro rfl (And.intro ⟨n, h1⟩ h2))))))))))
theorem rc_zz_el {k : Nat} {u : SX} {v : SY} {P : SX → SY → Prop} (h : ∀ (mI mL mS it rs ii iB gr uo ua ub uc : Int32) (so sa sb sc lp ln im ad lb yo ya yb yc yl yp : Nat → Int32) (n : Nat), rc_Rs n mI mL mS it rs so sa sb sc lp → rc_Ri mL ii iB gr im ad lb yo ya yb yc yl yp → P (mI, mL, mS, it, rs, ii, iB, gr, uo, ua, ub, uc, so, sa, sb, sc, lp, ln, im, ad, lb) (mI, mL, mS, it, ii, so, sa, sb, sc, lp, yo, ya, yb, yc, yl, yp)) (I : i_Rel k u v) : P u v := by
  obtain ⟨mI, mL, mS, it, rs, ii, iB, gr, uo, ua, ub, uc, so, sa, sb, sc, lp, ln, im, ad, lb⟩ := u
  obtain ⟨mI', mL', mS', it', ii', so', sa', sb', sc', lp', yo, ya, yb, yc, yl, yp⟩ := v
  obtain ⟨e1, e2, e3, e4, e5, e6, e7, e8', e9, e10, ⟨n, h1⟩, h2⟩ := I
  subst e1 e2 e3 e4 e5 e6 e7 e8' e9 e10
  exact h _ _ _ _ _ _ _ _ _ _ _ _ _ _ _ _ _ _ _ _ _ _ _ _ _ _ _ n h1 h2
theorem i_up {k : Nat} {u : SX} {v : SY} (h : i_Rel k u v) : i_Rel (k + 5) u v := h
/-! operand forms -/
def rc_xfm (op k : Int32) : Int32 := if op = 0 then 0 else if op = 21 then 0 else if k = 0 then 1 else if k = 1 then (if op = 15 then 4 else if op = 17 then 5 else 1) else if 6 < op then (if op < 10 then (if op = 15 then 0 else if op = 17 then 0 else if op < 18 then 2 else 5) else if 12 < op then (if op = 15 then 0 else if op = 17 then 0 else if op < 18 then 2 else 5) else 3) else 1
def rc_ytp (op k : Int32) : Int32 := if op < 1 then 0 else if op < 21 then (if k = 0 then 1 else if op = 15 then (if k = 1 then 5 else 0) else if op = 17 then (if k = 1 then 3 else 0) else if k = 1 then 1 else if 6 < op then (if op < 18 then (if op < 10 then 2 else if 12 < op then 2 else 4) else 3) else 1) else 0
def rc_ym (f : Nat) : Nat := if f = 3 then 4 else if f = 4 then 5 else if f = 5 then 3 else f
theorem rc_xfm_t : ∀ o, o < 22 → ∀ k, k < 3 → rc_xfm (nI o) (nI k) = nI (rc_fm o k) := by decide +kernel
theorem rc_ytp_t : ∀ o, o < 22 → ∀ k, k < 3 → rc_ytp (nI o) (nI k) = nI (rc_ym (rc_fm o k)) := by decide +kernel
theorem rc_fm_l : ∀ o, o < 22 → ∀ k, k < 3 → rc_fm o k < 6 := by decide +kernel
section
variable {mI mL mS it rs ii iB gr uo ua ub uc : Int32} {so sa sb sc lp ln im ad lb : Nat → Int32} {post : Int32 → Prop}
theorem rc_x_fm0 {op k : Int32} (h : post (rc_xfm op k)) : wpX_operandForm post (mI, mL, mS, it, rs, ii, iB, gr, uo, ua, ub, uc, so, sa, sb, sc, lp, ln, im, ad, lb) op k :=
  rc_ib h id fun h => rc_ib h id fun h => rc_ib h id fun h => rc_ib h (fun h => rc_ib h id fun h => rc_ib h id id) fun h => rc_ib h (fun h => rc_ib h (fun h => rc_ib h id fun h => rc_ib h id fun h => rc_ib h id id) fun h => rc_ib h (fun h => rc_ib h id fun h => rc_ib h id fun h => rc_ib h id id) id) id
theorem rc_x_fm {o k : Nat} (ho : o < 22) (hk : k < 3) (h : post (nI (rc_fm o k))) : wpX_operandForm post (mI, mL, mS, it, rs, ii, iB, gr, uo, ua, ub, uc, so, sa, sb, sc, lp, ln, im, ad, lb) (nI o) (nI k) := rc_x_fm0 (by rw [rc_xfm_t o ho k hk]; exact h)
theorem rc_x_lab {x : Int32} (h1 : rc_Lb mL x → post 1) (h2 : ¬ rc_Lb mL x → post 0) : wpX_isLabel post (mI, mL, mS, it, rs, ii, iB, gr, uo, ua, ub, uc, so, sa, sb, sc, lp, ln, im, ad, lb) x :=
  br_c (fun e => h2 fun z => z.1 e) (fun e => br_c (fun e2 => h2 fun z => z.2 e2) (fun e2 => h1 ⟨e, e2⟩))
theorem rc_x_fit {o k : Nat} {v : Int32} (ho : o < 22) (hk : k < 3) (h1 : rc_Ft mL (rc_fm o k) v → post 1) (h2 : ¬ rc_Ft mL (rc_fm o k) v → post 0) : wpX_operandFits post (mI, mL, mS, it, rs, ii, iB, gr, uo, ua, ub, uc, so, sa, sb, sc, lp, ln, im, ad, lb) (nI o) (nI k) v := by
  unfold wpX_operandFits
  refine rc_x_fm ho hk ?_
  have hl := rc_fm_l o ho k hk
  generalize rc_fm o k = g at *
  have hc : g = 0 ∨ g = 1 ∨ g = 2 ∨ g = 3 ∨ g = 4 ∨ g = 5 := by omega
  rcases hc with rfl | rfl | rfl | rfl | rfl | rfl
  · exact br_t (by decide) (br_c (fun e => h1 e) (fun e => h2 e))
  · exact br_f (by decide) (br_f (by decide) (br_t rfl (br_c (fun e => h2 fun z => z.1 e) (fun e => br_c (fun e2 => h2 fun z => z.2 e2) (fun e2 => h1 ⟨e, e2⟩)))))
  · exact br_f (by decide) (br_f (by decide) (br_f (by decide) (br_t rfl (br_c (fun e => h2 fun z => z.1 e) (fun e => br_c (fun e2 => h2 fun z => z.2 e2) (fun e2 => h1 ⟨e, e2⟩))))))
  · exact br_f (by decide) (br_f (by decide) (br_f (by decide) (br_f (by decide) (br_t rfl (br_c (fun e => h2 fun z => z.1 e) (fun e => br_c (fun e2 => h2 fun z => z.2 e2) (fun e2 => h1 ⟨e, e2⟩)))))))
  · exact br_f (by decide) (br_f (by decide) (br_f (by decide) (br_f (by decide) (br_f (by decide) (br_t rfl (br_c (fun e => h2 fun z => z.1 e) (fun e => br_c (fun e2 => h2 fun z => z.2 e2) (fun e2 => h1 ⟨e, e2⟩))))))))
  · exact br_f (by decide) (br_f (by decide) (br_f (by decide) (br_f (by decide) (br_f (by decide) (br_f (by decide) (br_t rfl (rc_x_lab (fun z => ⟨rfl, h1 z⟩) (fun z => ⟨rfl, h2 z⟩))))))))
end
section
variable {mI mL mS it ii : Int32} {so sa sb sc lp yo ya yb yc yl yp : Nat → Int32} {post : Int32 → Prop}
theorem rc_y_tp0 {op k : Int32} (h : post (rc_ytp op k)) : wpY_typeOf post (mI, mL, mS, it, ii, so, sa, sb, sc, lp, yo, ya, yb, yc, yl, yp) op k :=
  rc_ib h id fun h => rc_ib h (fun h => rc_ib h id fun h => rc_ib h (fun h => rc_ib h id id) fun h => rc_ib h (fun h => rc_ib h id id) fun h => rc_ib h id fun h => rc_ib h (fun h => rc_ib h (fun h => rc_ib h id fun h => rc_ib h id id) id) id) id
theorem rc_y_tp {o k : Nat} (ho : o < 22) (hk : k < 3) (h : post (nI (rc_ym (rc_fm o k)))) : wpY_typeOf post (mI, mL, mS, it, ii, so, sa, sb, sc, lp, yo, ya, yb, yc, yl, yp) (nI o) (nI k) := rc_y_tp0 (by rw [rc_ytp_t o ho k hk]; exact h)
theorem rc_y_fit {o k : Nat} {v : Int32} (ho : o < 22) (hk : k < 3) (h1 : rc_Ft mL (rc_fm o k) v → post 1) (h2 : ¬ rc_Ft mL (rc_fm o k) v → post 0) : wpY_legal post (mI, mL, mS, it, ii, so, sa, sb, sc, lp, yo, ya, yb, yc, yl, yp) (nI o) (nI k) v := by
  unfold wpY_legal
  refine rc_y_tp ho hk ?_
  have hl := rc_fm_l o ho k hk
  generalize rc_fm o k = g at *
  have hc : g = 0 ∨ g = 1 ∨ g = 2 ∨ g = 3 ∨ g = 4 ∨ g = 5 := by omega
  rcases hc with rfl | rfl | rfl | rfl | rfl | rfl
  · exact br_t (by decide) (br_c (fun e => h1 e) (fun e => h2 e))
  · exact br_f (by decide) (br_f (by decide) (br_f (by decide) (br_f (by decide) (br_c (fun e => h2 fun z => z.1 e) (fun e => br_c (fun e2 => h2 fun z => z.2 e2) (fun e2 => h1 ⟨e, e2⟩))))))
  · exact br_f (by decide) (br_t rfl (br_c (fun e => h2 fun z => z.1 e) (fun e => br_c (fun e2 => h2 fun z => z.2 e2) (fun e2 => h1 ⟨e, e2⟩))))
  · exact br_f (by decide) (br_f (by decide) (br_f (by decide) (br_f (by decide) (br_c (fun e => h2 fun z => z.1 e) (fun e => br_c (fun e2 => h2 fun z => z.2 e2) (fun e2 => h1 ⟨e, e2⟩))))))
  · exact br_f (by decide) (br_f (by decide) (br_f (by decide) (br_t rfl (br_c (fun e => h2 fun z => z.1 e) (fun e => br_c (fun e2 => h2 fun z => z.2 e2) (fun e2 => h1 ⟨e, e2⟩))))))
  · exact br_f (by decide) (br_f (by decide) (br_t rfl (br_c (fun e => h2 fun z => z.1 e) (fun e => br_c (fun e2 => h2 fun z => z.2 e2) (fun e2 => h1 ⟨e, e2⟩)))))
end
section
variable {mI mL mS it rs ii iB gr uo ua ub uc : Int32} {so sa sb sc lp ln im ad lb : Nat → Int32} {n : Nat}
theorem rc_x_ap {post : Int32 → SX → Prop} {o a b c : Int32} (hn : n < 64) (h : post (nI n) (mI, mL, mS, (nI (n + 1)), rs, ii, iB, gr, uo, ua, ub, uc, (upd so n o), (upd sa n a), (upd sb n b), (upd sc n c), lp, ln, im, ad, lb)) : wpX_append post (mI, mL, mS, (nI n), rs, ii, iB, gr, uo, ua, ub, uc, so, sa, sb, sc, lp, ln, im, ad, lb) o a b c := by
  have hv : vp_in (nI n) 64 := vp_in_nI hn (by decide)
  have e : (nI n).toNatClampNeg = n := nI_clamp (by omega)
  exact And.intro hv (nm_r (e' := upd so n o) (by rw [e]) (And.intro hv (nm_r (e' := upd sa n a) (by rw [e]) (And.intro hv (nm_r (e' := upd sb n b) (by rw [e]) (And.intro hv (nm_r (e' := upd sc n c) (by rw [e]) (nm_r (nI_1 n) h))))))))
end
section
variable {mI mL mS it ii : Int32} {so sa sb sc lp yo ya yb yc yl yp : Nat → Int32} {n : Nat}
theorem rc_y_ap {post : Int32 → SY → Prop} {o a b c : Int32} (hn : n < 64) (h : post (nI n) (mI, mL, mS, (nI (n + 1)), ii, (upd so n o), (upd sa n a), (upd sb n b), (upd sc n c), lp, yo, ya, yb, yc, yl, yp)) : wpY_append post (mI, mL, mS, (nI n), ii, so, sa, sb, sc, lp, yo, ya, yb, yc, yl, yp) o a b c := by
  have hv : vp_in (nI n) 64 := vp_in_nI hn (by decide)
  have e : (nI n).toNatClampNeg = n := nI_clamp (by omega)
  refine And.intro hv (nm_r (e' := upd so n o) (by rw [e]) (And.intro hv (nm_r (e' := upd sa n a) (by rw [e]) (And.intro hv (nm_r (e' := upd sb n b) (by rw [e]) (And.intro hv (nm_r (e' := upd sc n c) (by rw [e]) (nm_r (nI_1 n) ?_))))))))
  rw [nI_pred]
  exact h
theorem rc_y_r4 {post : Int32 → Prop} (hn : n ≤ 64) (hL : ∀ j, j < n → rc_LegA mL (so j) (sa j) (sb j) (sc j)) (h : post (nI (rc_sm (rc_rz so sa) n))) : ∀ (d t : Nat), t + d = n → wY_reserved_4 post mI mL mS (nI n) ii so sa sb sc lp yo ya yb yc yl yp (d + 1) (nI (rc_sm (rc_rz so sa) t)) (nI t) := by
  intro d
  induction d with
  | zero =>
    intro t ht
    have e : t = n := by omega
    subst e
    exact br_t (nI_le (Nat.le_refl _) (by omega)) h
  | succ d ih =>
    intro t ht
    have ei : (nI t).toNatClampNeg = t := nI_clamp (by omega)
    have hv : vp_in (nI t) 64 := vp_in_nI (by omega) (by decide)
    refine br_f (nI_ge (by omega) (by omega)) (And.intro hv ?_)
    rw [ei]
    refine br_c (fun e => And.intro hv (nm_r (e' := nI (rc_sm (rc_rz so sa) (t + 1))) ?_ (nm_r (nI_1 t) (ih (t + 1) (by omega))))) (fun e => nm_r (e' := nI (rc_sm (rc_rz so sa) (t + 1))) ?_ (nm_r (nI_1 t) (ih (t + 1) (by omega))))
    · obtain ⟨_, ⟨g, g1, g2, ge⟩, _⟩ := rc_la_g (hL t (by omega)) e
      have e1 : rc_rz so sa t = g := by unfold rc_rz; rw [if_pos e, ge, nI_clamp (by omega)]
      rw [ge, nI_add]
      show _ = nI (rc_sm (rc_rz so sa) t + rc_rz so sa t)
      rw [e1]
    · have e1 : rc_rz so sa t = 2 := by unfold rc_rz; rw [if_neg e]
      show _ = nI (rc_sm (rc_rz so sa) t + rc_rz so sa t)
      rw [e1, show (2 : Int32) = nI 2 from rfl, nI_add]
theorem rc_y_rs {post : Int32 → Prop} (hn : n ≤ 64) (hL : ∀ j, j < n → rc_LegA mL (so j) (sa j) (sb j) (sc j)) (h : post (nI (rc_sm (rc_rz so sa) n))) : wpY_reserved post (mI, mL, mS, (nI n), ii, so, sa, sb, sc, lp, yo, ya, yb, yc, yl, yp) :=
  Exists.intro (n + 1) (rc_y_r4 hn hL h n 0 (by omega))
end
end
section
/-! the source's methods -/
def rc_fil (i : Nat) (f : Nat → Int32) : Nat → Int32 := fun l => if l < i then -1 else f l
theorem rc_fil_s (i : Nat) (f : Nat → Int32) : upd (rc_fil i f) i (-1) = rc_fil (i + 1) f := by
  funext l
  unfold upd rc_fil
  by_cases e : l = i
  · rw [if_pos e, if_pos (by omega)]
  · rw [if_neg e]
    by_cases e2 : l < i
    · rw [if_pos e2, if_pos (by omega)]
    · rw [if_neg e2, if_neg (by omega)]
theorem rc_fil_0 (f : Nat → Int32) : rc_fil 0 f = f := by
  funext l
  exact if_neg (by omega)
theorem rc_fil_16 {f : Nat → Int32} {l : Nat} (h : l < 16) : rc_fil 16 f l = -1 := if_pos h
def rc_rmf (m : Nat) (i : Nat) (f : Nat → Int32) : Nat → Int32 := fun l => if l < i ∧ ¬ f l ≤ nI m then -1 else f l
theorem rc_rmf_i (m i : Nat) (f : Nat → Int32) : rc_rmf m i f i = f i := if_neg (by omega)
theorem rc_rmf_0 (m : Nat) (f : Nat → Int32) : rc_rmf m 0 f = f := by
  funext l
  exact if_neg (by omega)
theorem rc_rmf_t {m i : Nat} {f : Nat → Int32} (h : f i ≤ nI m) : rc_rmf m i f = rc_rmf m (i + 1) f := by
  funext l
  unfold rc_rmf
  by_cases e : l = i
  · subst e
    rw [if_neg (by omega), if_neg (fun z => z.2 h)]
  · by_cases e2 : l < i ∧ ¬ f l ≤ nI m
    · rw [if_pos e2, if_pos ⟨by omega, e2.2⟩]
    · rw [if_neg e2, if_neg (fun z => e2 ⟨by omega, z.2⟩)]
theorem rc_rmf_f {m i : Nat} {f : Nat → Int32} (h : ¬ f i ≤ nI m) : upd (rc_rmf m i f) i (-1) = rc_rmf m (i + 1) f := by
  funext l
  unfold upd rc_rmf
  by_cases e : l = i
  · subst e
    rw [if_pos rfl, if_pos ⟨by omega, h⟩]
  · rw [if_neg e]
    by_cases e2 : l < i ∧ ¬ f l ≤ nI m
    · rw [if_pos e2, if_pos ⟨by omega, e2.2⟩]
    · rw [if_neg e2, if_neg (fun z => e2 ⟨by omega, z.2⟩)]
section
variable {mI mL mS it rs ii iB gr uo ua ub uc : Int32} {so sa sb sc lp ln im ad lb : Nat → Int32}
theorem rc_x_c12 {post : SX → Prop} {q : Nat → Int32} (h : post (mI, mL, mS, it, rs, ii, iB, gr, uo, ua, ub, uc, so, sa, sb, sc, (rc_fil 16 q), ln, im, ad, lb)) : ∀ (d i : Nat), i + d = 16 → wX_clear_12 post mI mL mS it rs ii iB gr uo ua ub uc (d + 1) (nI i) so sa sb sc (rc_fil i q) ln im ad lb := by
  intro d
  induction d with
  | zero =>
    intro i hi
    have e : i = 16 := by omega
    subst e
    exact br_t (by decide) h
  | succ d ih =>
    intro i hi
    refine br_f (nI_ge (b := 16) (by omega) (by decide)) (And.intro (vp_in_nI (by omega) (by decide)) (nm_r (e' := rc_fil (i + 1) q) (by rw [nI_clamp (by omega), rc_fil_s]) (nm_r (nI_1 i) (ih (i + 1) (by omega)))))
theorem rc_x_clr {post : SX → Prop} (h : post (mI, mL, mS, 0, 0, ii, iB, gr, uo, ua, ub, uc, so, sa, sb, sc, (rc_fil 16 lp), ln, im, ad, lb)) : wpX_clear post (mI, mL, mS, it, rs, ii, iB, gr, uo, ua, ub, uc, so, sa, sb, sc, lp, ln, im, ad, lb) := by
  have k := rc_x_c12 (q := lp) h 16 0 (by omega)
  rw [rc_fil_0] at k
  exact Exists.intro 17 k
theorem rc_x_r55 {post : Int32 → SX → Prop} {q : Nat → Int32} {m : Nat} (h : post 1 (mI, mL, mS, (nI m), rs, ii, iB, gr, uo, ua, ub, uc, so, sa, sb, sc, (rc_rmf m 16 q), ln, im, ad, lb)) : ∀ (d i : Nat), i + d = 16 → wX_removeLast_55 post mI mL mS (nI m) rs ii iB gr uo ua ub uc (d + 1) (nI i) so sa sb sc (rc_rmf m i q) ln im ad lb := by
  intro d
  induction d with
  | zero =>
    intro i hi
    have e : i = 16 := by omega
    subst e
    exact br_t (by decide) h
  | succ d ih =>
    intro i hi
    have ei : (nI i).toNatClampNeg = i := nI_clamp (by omega)
    refine br_f (nI_ge (b := 16) (by omega) (by decide)) (And.intro (vp_in_nI (by omega) (by decide)) ?_)
    rw [ei, rc_rmf_i]
    refine br_c (fun e => ?_) (fun e => ?_)
    · have k := ih (i + 1) (by omega)
      rw [← rc_rmf_t e] at k
      exact nm_r (nI_1 i) k
    · exact And.intro (vp_in_nI (by omega) (by decide)) (nm_r (e' := rc_rmf m (i + 1) q) (rc_rmf_f e) (nm_r (nI_1 i) (ih (i + 1) (by omega))))
theorem rc_x_i119 {post : SX → Prop} {q r : Nat → Int32} (h : post (mI, mL, mS, it, rs, ii, iB, gr, uo, ua, ub, uc, so, sa, sb, sc, (rc_fil 16 q), ln, im, ad, (rc_fil 16 r))) : ∀ (d i : Nat), i + d = 16 → wX_init_119 post mI mL mS it rs ii iB gr uo ua ub uc (d + 1) (nI i) so sa sb sc (rc_fil i q) ln im ad (rc_fil i r) := by
  intro d
  induction d with
  | zero =>
    intro i hi
    have e : i = 16 := by omega
    subst e
    exact br_t (by decide) h
  | succ d ih =>
    intro i hi
    have hv : vp_in (nI i) 16 := vp_in_nI (by omega) (by decide)
    exact br_f (nI_ge (b := 16) (by omega) (by decide)) (And.intro hv (nm_r (e' := rc_fil (i + 1) q) (by rw [nI_clamp (by omega), rc_fil_s]) (And.intro hv (nm_r (e' := rc_fil (i + 1) r) (by rw [nI_clamp (by omega), rc_fil_s]) (nm_r (nI_1 i) (ih (i + 1) (by omega)))))))
end
section
variable {mI mL mS it ii : Int32} {so sa sb sc lp yo ya yb yc yl yp : Nat → Int32}
theorem rc_y_c7 {post : SY → Prop} {q : Nat → Int32} (h : post (mI, mL, mS, it, ii, so, sa, sb, sc, (rc_fil 16 q), yo, ya, yb, yc, yl, yp)) : ∀ (d i : Nat), i + d = 16 → wY_clear_7 post mI mL mS it ii (d + 1) (nI i) so sa sb sc (rc_fil i q) yo ya yb yc yl yp := by
  intro d
  induction d with
  | zero =>
    intro i hi
    have e : i = 16 := by omega
    subst e
    exact br_t (by decide) h
  | succ d ih =>
    intro i hi
    refine br_f (nI_ge (b := 16) (by omega) (by decide)) (And.intro (vp_in_nI (by omega) (by decide)) (nm_r (e' := rc_fil (i + 1) q) (by rw [nI_clamp (by omega), rc_fil_s]) (nm_r (nI_1 i) (ih (i + 1) (by omega)))))
theorem rc_y_clr {post : SY → Prop} (h : post (mI, mL, mS, 0, ii, so, sa, sb, sc, (rc_fil 16 lp), yo, ya, yb, yc, yl, yp)) : wpY_clear post (mI, mL, mS, it, ii, so, sa, sb, sc, lp, yo, ya, yb, yc, yl, yp) := by
  have k := rc_y_c7 (q := lp) h 16 0 (by omega)
  rw [rc_fil_0] at k
  exact Exists.intro 17 k
theorem rc_y_r21 {post : Int32 → SY → Prop} {q : Nat → Int32} {m : Nat} (h : post 1 (mI, mL, mS, (nI m), ii, so, sa, sb, sc, (rc_rmf m 16 q), yo, ya, yb, yc, yl, yp)) : ∀ (d i : Nat), i + d = 16 → wY_removeLast_21 post mI mL mS (nI m) ii (d + 1) (nI i) so sa sb sc (rc_rmf m i q) yo ya yb yc yl yp := by
  intro d
  induction d with
  | zero =>
    intro i hi
    have e : i = 16 := by omega
    subst e
    exact br_t (by decide) h
  | succ d ih =>
    intro i hi
    have ei : (nI i).toNatClampNeg = i := nI_clamp (by omega)
    refine br_f (nI_ge (b := 16) (by omega) (by decide)) (And.intro (vp_in_nI (by omega) (by decide)) ?_)
    rw [ei, rc_rmf_i]
    refine br_c (fun e => ?_) (fun e => ?_)
    · have k := ih (i + 1) (by omega)
      rw [← rc_rmf_t e] at k
      exact nm_r (nI_1 i) k
    · exact And.intro (vp_in_nI (by omega) (by decide)) (nm_r (e' := rc_rmf m (i + 1) q) (rc_rmf_f e) (nm_r (nI_1 i) (ih (i + 1) (by omega))))
theorem rc_y_i186 {post : SY → Prop} {q r : Nat → Int32} (h : post (mI, mL, mS, it, ii, so, sa, sb, sc, (rc_fil 16 q), yo, ya, yb, yc, yl, (rc_fil 16 r))) : ∀ (d i : Nat), i + d = 16 → wY_init_186 post mI mL mS it ii (d + 1) (nI i) so sa sb sc (rc_fil i q) yo ya yb yc yl (rc_fil i r) := by
  intro d
  induction d with
  | zero =>
    intro i hi
    have e : i = 16 := by omega
    subst e
    exact br_t (by decide) h
  | succ d ih =>
    intro i hi
    have hv : vp_in (nI i) 16 := vp_in_nI (by omega) (by decide)
    exact br_f (nI_ge (b := 16) (by omega) (by decide)) (And.intro hv (nm_r (e' := rc_fil (i + 1) q) (by rw [nI_clamp (by omega), rc_fil_s]) (And.intro hv (nm_r (e' := rc_fil (i + 1) r) (by rw [nI_clamp (by omega), rc_fil_s]) (nm_r (nI_1 i) (ih (i + 1) (by omega)))))))
end
/-! the constructors -/
def rc_clp (p l h : Int32) : Int32 := if l ≤ p then (if p ≤ h then p else h) else l
theorem rc_clp_r (p : Int32) {l h : Nat} (hl : l ≤ h) (hh : h < 2 ^ 31) : ∃ N, l ≤ N ∧ N ≤ h ∧ rc_clp p (nI l) (nI h) = nI N := by
  unfold rc_clp
  by_cases e : nI l ≤ p
  · rw [if_pos e]
    by_cases e2 : p ≤ nI h
    · rw [if_pos e2]
      have rc_h0 : ¬ p < 0 := by
        rw [Int32.lt_iff_toInt_lt]
        rw [Int32.le_iff_toInt_le, nI_toInt (by omega)] at e
        have : (0 : Int32).toInt = 0 := by decide
        omega
      obtain ⟨N, hN, rfl⟩ := nI_of rc_h0
      rw [nI_leI (by omega) hN] at e
      rw [nI_leI hN hh] at e2
      exact ⟨N, e, e2, rfl⟩
    · rw [if_neg e2]
      exact ⟨h, hl, Nat.le_refl _, rfl⟩
  · rw [if_neg e]
    exact ⟨l, Nat.le_refl _, hl, rfl⟩
theorem rc_x_clp {post : Int32 → Prop} {u : SX} {p l h : Int32} (H : post (rc_clp p l h)) : wpX_clamp post u p l h := rc_ib H (fun H => rc_ib H id id) id
theorem rc_x_ini {post : SX → Prop} {k0 k1 k2 : Int32} (h : post (rc_clp k0 8 64, rc_clp k1 1 16, rc_clp k2 64 2047, 0, 0, 0, 0, 0, 0, 0, 0, 0, (fun _ => 0), (fun _ => 0), (fun _ => 0), (fun _ => 0), rc_fil 16 (fun _ => 0), (fun _ => 0), (fun _ => 0), (fun _ => 0), rc_fil 16 (fun _ => 0))) : wpX_init post k0 k1 k2 := by
  unfold wpX_init
  refine rc_x_clp (rc_x_clp (rc_x_clp (Exists.intro 17 ?_)))
  have k := rc_x_i119 (q := fun _ => 0) (r := fun _ => 0) h 16 0 (by omega)
  rw [rc_fil_0] at k
  exact k
theorem rc_y_i151 {post : SY → Prop} {x a b : Int32} (h : post (b, a, rc_clp x 64 2047, 0, 0, (fun _ => 0), (fun _ => 0), (fun _ => 0), (fun _ => 0), rc_fil 16 (fun _ => 0), (fun _ => 0), (fun _ => 0), (fun _ => 0), (fun _ => 0), (fun _ => 0), rc_fil 16 (fun _ => 0))) : wY_init_151 post x a b 0 0 0 0 (fun _ => 0) (fun _ => 0) (fun _ => 0) (fun _ => 0) (fun _ => 0) (fun _ => 0) (fun _ => 0) (fun _ => 0) (fun _ => 0) (fun _ => 0) (fun _ => 0) := by
  have k : ∀ z, post (b, a, z, 0, 0, (fun _ => 0), (fun _ => 0), (fun _ => 0), (fun _ => 0), rc_fil 16 (fun _ => 0), (fun _ => 0), (fun _ => 0), (fun _ => 0), (fun _ => 0), (fun _ => 0), rc_fil 16 (fun _ => 0)) → ∃ n : Nat, wY_init_186 post b a z 0 0 n 0 (fun _ => 0) (fun _ => 0) (fun _ => 0) (fun _ => 0) (fun _ => 0) (fun _ => 0) (fun _ => 0) (fun _ => 0) (fun _ => 0) (fun _ => 0) (fun _ => 0) := by
    intro z hz
    have k := rc_y_i186 (q := fun _ => 0) (r := fun _ => 0) hz 16 0 (by omega)
    rw [rc_fil_0] at k
    exact ⟨17, k⟩
  have h' : (fun z => post (b, a, z, 0, 0, (fun _ => 0), (fun _ => 0), (fun _ => 0), (fun _ => 0), rc_fil 16 (fun _ => 0), (fun _ => 0), (fun _ => 0), (fun _ => 0), (fun _ => 0), (fun _ => 0), rc_fil 16 (fun _ => 0))) (if 64 ≤ x then (if x ≤ 2047 then x else 2047) else 64) := h
  refine rc_ib (P := fun z => post (b, a, z, 0, 0, (fun _ => 0), (fun _ => 0), (fun _ => 0), (fun _ => 0), rc_fil 16 (fun _ => 0), (fun _ => 0), (fun _ => 0), (fun _ => 0), (fun _ => 0), (fun _ => 0), rc_fil 16 (fun _ => 0))) h' (fun h => rc_ib (P := fun z => post (b, a, z, 0, 0, (fun _ => 0), (fun _ => 0), (fun _ => 0), (fun _ => 0), rc_fil 16 (fun _ => 0), (fun _ => 0), (fun _ => 0), (fun _ => 0), (fun _ => 0), (fun _ => 0), rc_fil 16 (fun _ => 0))) h (k _) (k _)) (k _)
theorem rc_y_ini {post : SY → Prop} {k0 k1 k2 : Int32} (h : post (rc_clp k0 8 64, rc_clp k1 1 16, rc_clp k2 64 2047, 0, 0, (fun _ => 0), (fun _ => 0), (fun _ => 0), (fun _ => 0), rc_fil 16 (fun _ => 0), (fun _ => 0), (fun _ => 0), (fun _ => 0), (fun _ => 0), (fun _ => 0), rc_fil 16 (fun _ => 0))) : wpY_init post k0 k1 k2 := by
  have k2' : ∀ z w, post (z, w, rc_clp k2 64 2047, 0, 0, (fun _ => 0), (fun _ => 0), (fun _ => 0), (fun _ => 0), rc_fil 16 (fun _ => 0), (fun _ => 0), (fun _ => 0), (fun _ => 0), (fun _ => 0), (fun _ => 0), rc_fil 16 (fun _ => 0)) → wY_init_151 post k2 w z 0 0 0 0 (fun _ => 0) (fun _ => 0) (fun _ => 0) (fun _ => 0) (fun _ => 0) (fun _ => 0) (fun _ => 0) (fun _ => 0) (fun _ => 0) (fun _ => 0) (fun _ => 0) := fun z w hz => rc_y_i151 hz
  generalize hQ : (fun z w => post (z, w, rc_clp k2 64 2047, 0, 0, (fun _ => 0), (fun _ => 0), (fun _ => 0), (fun _ => 0), rc_fil 16 (fun _ => 0), (fun _ => 0), (fun _ => 0), (fun _ => 0), (fun _ => 0), (fun _ => 0), rc_fil 16 (fun _ => 0))) = Q at *
  have hk : ∀ z w, Q z w → wY_init_151 post k2 w z 0 0 0 0 (fun _ => 0) (fun _ => 0) (fun _ => 0) (fun _ => 0) (fun _ => 0) (fun _ => 0) (fun _ => 0) (fun _ => 0) (fun _ => 0) (fun _ => 0) (fun _ => 0) := by
    intro z w hz
    rw [← hQ] at hz
    exact k2' z w hz
  have h2 : Q (rc_clp k0 8 64) (rc_clp k1 1 16) := by rw [← hQ]; exact h
  have k1' : ∀ z, Q z (rc_clp k1 1 16) → wY_init_126 post k1 k2 z 0 0 0 0 0 (fun _ => 0) (fun _ => 0) (fun _ => 0) (fun _ => 0) (fun _ => 0) (fun _ => 0) (fun _ => 0) (fun _ => 0) (fun _ => 0) (fun _ => 0) (fun _ => 0) := by
    intro z hz
    exact rc_ib (P := Q z) (c := 1 ≤ k1) hz (fun h => rc_ib h (hk _ _) (hk _ _)) (hk _ _)
  generalize hR : (fun z => Q z (rc_clp k1 1 16)) = R at *
  have k1r : ∀ z, R z → wY_init_126 post k1 k2 z 0 0 0 0 0 (fun _ => 0) (fun _ => 0) (fun _ => 0) (fun _ => 0) (fun _ => 0) (fun _ => 0) (fun _ => 0) (fun _ => 0) (fun _ => 0) (fun _ => 0) (fun _ => 0) := by
    intro z hz
    rw [← hR] at hz
    exact k1' z hz
  have h3 : R (rc_clp k0 8 64) := by rw [← hR]; exact h2
  exact rc_ib (P := R) (c := 8 ≤ k0) h3 (fun h => rc_ib h (k1r _) (k1r _)) (k1r _)
theorem i_vc0 (k0 : Int32) (k1 : Int32) (k2 : Int32) : wpX_init (fun u => wpY_init (fun v => i_Rel 3 u v) k0 k1 k2) k0 k1 k2 := by
  refine rc_x_ini (rc_y_ini ?_)
  obtain ⟨N, hN1, hN2, eN⟩ := rc_clp_r k0 (l := 8) (h := 64) (by decide) (by decide)
  obtain ⟨M, hM1, hM2, eM⟩ := rc_clp_r k1 (l := 1) (h := 16) (by decide) (by decide)
  obtain ⟨S, hS1, hS2, eS⟩ := rc_clp_r k2 (l := 64) (h := 2047) (by decide) (by decide)
  refine rc_mk_r (n := 0) ?_ ?_
  · exact ⟨by decide, rfl, ⟨N, by omega, hN2, eN⟩, ⟨M, hM2, eM⟩, ⟨S, hS2, eS, Nat.zero_le _⟩, rfl, fun j hj => absurd hj (by omega), fun l hl => Or.inl (rc_fil_16 hl)⟩
  · refine ⟨0, fun _ => 0, rfl, ⟨by decide, fun j hj => absurd hj (by omega), fun j hj => absurd hj (by omega), Nat.zero_le _⟩, fun j hj => absurd hj (by omega), fun j hj => absurd hj (by omega), fun j hj => absurd hj (by omega), fun i hi => ?_, rfl, rfl, fun l hl => Or.inl ⟨rc_fil_16 hl, rc_fil_16 hl⟩⟩
    rw [show i = 0 by omega]
    rfl
end
section
/-! the source's methods, owed -/
theorem rc_n0_1 {x : Int32} (h : 1 ≤ x) : ¬ x < 0 := by
  rw [Int32.lt_iff_toInt_lt]
  rw [Int32.le_iff_toInt_le] at h
  have e0 : (0 : Int32).toInt = 0 := by decide
  have e1 : (1 : Int32).toInt = 1 := by decide
  omega
theorem rc_rz_upd {so sa : Nat → Int32} {n : Nat} {o a : Int32} : rc_sm (rc_rz (upd so n o) (upd sa n a)) n = rc_sm (rc_rz so sa) n := by
  refine rc_sm_eq fun j hj => ?_
  unfold rc_rz
  rw [pk_un (by omega), pk_un (by omega)]
theorem rc_rs_ap {n N M S : Nat} {so sa sb sc lp : Nat → Int32} {o a b c : Int32} (hn : n < N) (hN : N ≤ 64) (hM : M ≤ 16) (hS : S ≤ 2047) (hL : ∀ j, j < n → rc_LegA (nI M) (so j) (sa j) (sb j) (sc j)) (hq : ∀ l, l < 16 → lp l = -1 ∨ ∃ p, p ≤ n ∧ lp l = nI p) (hl : rc_LegA (nI M) o a b c) {z : Nat} (hz : (if o = 0 then a.toNatClampNeg else 2) = z) (hb : rc_sm (rc_rz so sa) n + z ≤ S) : rc_Rs (n + 1) (nI N) (nI M) (nI S) (nI (n + 1)) (nI (rc_sm (rc_rz so sa) n + z)) (upd so n o) (upd sa n a) (upd sb n b) (upd sc n c) lp := by
  have e : rc_sm (rc_rz (upd so n o) (upd sa n a)) (n + 1) = rc_sm (rc_rz so sa) n + z := by
    show rc_sm _ n + rc_rz _ _ n = _
    rw [rc_rz_upd]
    unfold rc_rz
    rw [pk_us, pk_us, hz]
  refine ⟨by omega, rfl, ⟨N, by omega, hN, rfl⟩, ⟨M, hM, rfl⟩, ⟨S, hS, rfl, by rw [e]; exact hb⟩, by rw [e], fun j hj => ?_, fun l hl2 => ?_⟩
  · by_cases ej : j = n
    · subst ej
      rw [pk_us, pk_us, pk_us, pk_us]
      exact hl
    · rw [pk_un ej, pk_un ej, pk_un ej, pk_un ej]
      exact hL j (by omega)
  · rcases hq l hl2 with h | ⟨p, hp, h⟩
    · exact Or.inl h
    · exact Or.inr ⟨p, by omega, h⟩
section
variable {mI mL mS it rs ii iB gr uo ua ub uc : Int32} {so sa sb sc lp ln im ad lb yo ya yb yc yl yp : Nat → Int32} {k n : Nat} {x y z w : Int32}
theorem rc_m_gap (hR : rc_Rs n mI mL mS it rs so sa sb sc lp) (hI : rc_Ri mL ii iB gr im ad lb yo ya yb yc yl yp) : wpX_gap (fun r u' => wpY_gap (fun r' v' => r' = r ∧ i_Rel k u' v') (mI, mL, mS, it, ii, so, sa, sb, sc, lp, yo, ya, yb, yc, yl, yp) x) (mI, mL, mS, it, rs, ii, iB, gr, uo, ua, ub, uc, so, sa, sb, sc, lp, ln, im, ad, lb) x := by
  have K : i_Rel k (mI, mL, mS, it, rs, ii, iB, gr, uo, ua, ub, uc, so, sa, sb, sc, lp, ln, im, ad, lb) (mI, mL, mS, it, ii, so, sa, sb, sc, lp, yo, ya, yb, yc, yl, yp) := rc_mk_r hR hI
  obtain ⟨hn, rfl, ⟨N, hN1, hN2, rfl⟩, ⟨M, hM, rfl⟩, ⟨S, hS, rfl, hS2⟩, rfl, hL, hq⟩ := hR
  by_cases h1 : 1 ≤ x
  · by_cases h2 : nI n < nI N
    · by_cases h3 : x ≤ nI S - nI (rc_sm (rc_rz so sa) n)
      · refine br_t h1 (br_t h2 (br_t h3 ?_))
        obtain ⟨g, hg, rfl⟩ := nI_of (rc_n0_1 h1)
        have g1 : 1 ≤ g := by rw [show (1 : Int32) = nI 1 from rfl, nI_leI (by decide) hg] at h1; exact h1
        have n1 : n < N := by rw [nI_ltI (by omega) (by omega)] at h2; exact h2
        have h3' := h3
        rw [pk_sub hS2, nI_leI hg (by omega)] at h3'
        refine nm_r (nI_add _ g) (rc_x_ap (by omega) ?_)
        refine br_t h1 (br_t h2 (rc_y_rs hn hL (br_t h3 (rc_y_ap (by omega) ⟨rfl, rc_mk_r (rc_rs_ap n1 hN2 hM hS hL hq (Or.inl ⟨rfl, ⟨g, g1, by omega, rfl⟩, rfl, rfl⟩) (by rw [if_pos rfl, nI_clamp hg]) (by omega)) hI⟩))))
      · exact br_t h1 (br_t h2 (br_f h3 (br_t h1 (br_t h2 (rc_y_rs hn hL (br_f h3 ⟨rfl, K⟩))))))
    · exact br_t h1 (br_f h2 (br_t h1 (br_f h2 ⟨rfl, K⟩)))
  · exact br_f h1 (br_f h1 ⟨rfl, K⟩)
theorem rc_m_add (hR : rc_Rs n mI mL mS it rs so sa sb sc lp) (hI : rc_Ri mL ii iB gr im ad lb yo ya yb yc yl yp) : wpX_add (fun r u' => wpY_add (fun r' v' => r' = r ∧ i_Rel k u' v') (mI, mL, mS, it, ii, so, sa, sb, sc, lp, yo, ya, yb, yc, yl, yp) x y z w) (mI, mL, mS, it, rs, ii, iB, gr, uo, ua, ub, uc, so, sa, sb, sc, lp, ln, im, ad, lb) x y z w := by
  have K : i_Rel k (mI, mL, mS, it, rs, ii, iB, gr, uo, ua, ub, uc, so, sa, sb, sc, lp, ln, im, ad, lb) (mI, mL, mS, it, ii, so, sa, sb, sc, lp, yo, ya, yb, yc, yl, yp) := rc_mk_r hR hI
  obtain ⟨hn, rfl, ⟨N, hN1, hN2, rfl⟩, ⟨M, hM, rfl⟩, ⟨S, hS, rfl, hS2⟩, rfl, hL, hq⟩ := hR
  by_cases h1 : x < 1
  · exact br_t h1 (br_t h1 ⟨rfl, K⟩)
  by_cases h2 : x ≤ 21
  · obtain ⟨o, ho, rfl⟩ := nI_of (rc_n0_1 (Int32.not_lt.mp h1))
    have o1 : 1 ≤ o := by rw [show (1 : Int32) = nI 1 from rfl, nI_ltI ho (by decide)] at h1; omega
    have o2 : o < 22 := by rw [show (21 : Int32) = nI 21 from rfl, nI_leI ho (by decide)] at h2; omega
    by_cases f0 : rc_Ft (nI M) (rc_fm o 0) y
    · by_cases f1 : rc_Ft (nI M) (rc_fm o 1) z
      · by_cases f2 : rc_Ft (nI M) (rc_fm o 2) w
        · refine br_f h1 (br_t h2 (rc_x_fit (k := 0) o2 (by decide) (fun _ => br_f rc_n10 (rc_x_fit (k := 1) o2 (by decide) (fun _ => br_f rc_n10 (rc_x_fit (k := 2) o2 (by decide) (fun _ => br_f rc_n10 ?_) (fun e => absurd f2 e))) (fun e => absurd f1 e))) (fun e => absurd f0 e)))
          by_cases h3 : nI n < nI N
          · by_cases h4 : nI (rc_sm (rc_rz so sa) n) + 2 ≤ nI S
            · have n1 : n < N := by rw [nI_ltI (by omega) (by omega)] at h3; exact h3
              have h4' := h4
              rw [show (2 : Int32) = nI 2 from rfl, nI_add, nI_leI (by omega) (by omega)] at h4'
              refine br_t h3 (br_t h4 (nm_r (e' := nI (rc_sm (rc_rz so sa) n + 2)) (nI_add _ 2) (rc_x_ap (by omega) ?_)))
              refine br_f h1 (br_t h2 (rc_y_fit (k := 0) o2 (by decide) (fun _ => br_f rc_n10 (rc_y_fit (k := 1) o2 (by decide) (fun _ => br_f rc_n10 (rc_y_fit (k := 2) o2 (by decide) (fun _ => br_f rc_n10 (br_t h3 (rc_y_rs hn hL (br_t h4 (rc_y_ap (by omega) ?_))))) (fun e => absurd f2 e))) (fun e => absurd f1 e))) (fun e => absurd f0 e)))
              have o0 : ¬ nI o = 0 := by rw [show (0 : Int32) = nI 0 from rfl, nI_eq ho (by decide)]; omega
              exact ⟨rfl, rc_mk_r (rc_rs_ap n1 hN2 hM hS hL hq (Or.inr ⟨o, o1, o2, rfl, f0, f1, f2⟩) (if_neg o0) h4') hI⟩
            · exact br_t h3 (br_f h4 (br_f h1 (br_t h2 (rc_y_fit (k := 0) o2 (by decide) (fun _ => br_f rc_n10 (rc_y_fit (k := 1) o2 (by decide) (fun _ => br_f rc_n10 (rc_y_fit (k := 2) o2 (by decide) (fun _ => br_f rc_n10 (br_t h3 (rc_y_rs hn hL (br_f h4 ⟨rfl, K⟩)))) (fun e => absurd f2 e))) (fun e => absurd f1 e))) (fun e => absurd f0 e)))))
          · exact br_f h3 (br_f h1 (br_t h2 (rc_y_fit (k := 0) o2 (by decide) (fun _ => br_f rc_n10 (rc_y_fit (k := 1) o2 (by decide) (fun _ => br_f rc_n10 (rc_y_fit (k := 2) o2 (by decide) (fun _ => br_f rc_n10 (br_f h3 ⟨rfl, K⟩)) (fun e => absurd f2 e))) (fun e => absurd f1 e))) (fun e => absurd f0 e))))
        · exact br_f h1 (br_t h2 (rc_x_fit (k := 0) o2 (by decide) (fun _ => br_f rc_n10 (rc_x_fit (k := 1) o2 (by decide) (fun _ => br_f rc_n10 (rc_x_fit (k := 2) o2 (by decide) (fun e => absurd e f2) (fun _ => br_t rfl (br_f h1 (br_t h2 (rc_y_fit (k := 0) o2 (by decide) (fun _ => br_f rc_n10 (rc_y_fit (k := 1) o2 (by decide) (fun _ => br_f rc_n10 (rc_y_fit (k := 2) o2 (by decide) (fun e => absurd e f2) (fun _ => br_t rfl ⟨rfl, K⟩))) (fun e => absurd f1 e))) (fun e => absurd f0 e))))))) (fun e => absurd f1 e))) (fun e => absurd f0 e)))
      · exact br_f h1 (br_t h2 (rc_x_fit (k := 0) o2 (by decide) (fun _ => br_f rc_n10 (rc_x_fit (k := 1) o2 (by decide) (fun e => absurd e f1) (fun _ => br_t rfl (br_f h1 (br_t h2 (rc_y_fit (k := 0) o2 (by decide) (fun _ => br_f rc_n10 (rc_y_fit (k := 1) o2 (by decide) (fun e => absurd e f1) (fun _ => br_t rfl ⟨rfl, K⟩))) (fun e => absurd f0 e))))))) (fun e => absurd f0 e)))
    · exact br_f h1 (br_t h2 (rc_x_fit (k := 0) o2 (by decide) (fun e => absurd e f0) (fun _ => br_t rfl (br_f h1 (br_t h2 (rc_y_fit (k := 0) o2 (by decide) (fun e => absurd e f0) (fun _ => br_t rfl ⟨rfl, K⟩)))))))
  · exact br_f h1 (br_f h2 (br_f h1 (br_f h2 ⟨rfl, K⟩)))
theorem rc_lb_m {M : Nat} (hM : M ≤ 16) {x : Int32} (h : rc_Lb (nI M) x) : ∃ l, l < M ∧ x = nI l := by
  obtain ⟨l, hl, rfl⟩ := nI_of h.1
  have h2 := h.2
  rw [nI_leI (by omega) hl] at h2
  exact ⟨l, by omega, rfl⟩
theorem rc_m_bind (hR : rc_Rs n mI mL mS it rs so sa sb sc lp) (hI : rc_Ri mL ii iB gr im ad lb yo ya yb yc yl yp) : wpX_bind (fun r u' => wpY_bind (fun r' v' => r' = r ∧ i_Rel k u' v') (mI, mL, mS, it, ii, so, sa, sb, sc, lp, yo, ya, yb, yc, yl, yp) x) (mI, mL, mS, it, rs, ii, iB, gr, uo, ua, ub, uc, so, sa, sb, sc, lp, ln, im, ad, lb) x := by
  have K : i_Rel k (mI, mL, mS, it, rs, ii, iB, gr, uo, ua, ub, uc, so, sa, sb, sc, lp, ln, im, ad, lb) (mI, mL, mS, it, ii, so, sa, sb, sc, lp, yo, ya, yb, yc, yl, yp) := rc_mk_r hR hI
  obtain ⟨hn, rfl, ⟨N, hN1, hN2, rfl⟩, ⟨M, hM, rfl⟩, ⟨S, hS, rfl, hS2⟩, rfl, hL, hq⟩ := hR
  unfold wpX_bind
  refine rc_x_lab (fun hl => br_f rc_n10 ?_) (fun hl => br_t rfl ?_)
  · obtain ⟨l, hl1, rfl⟩ := rc_lb_m hM hl
    have hv : vp_in (nI l) 16 := vp_in_nI (by omega) (by decide)
    have el : (nI l).toNatClampNeg = l := nI_clamp (by omega)
    refine And.intro hv ?_
    rw [el]
    by_cases h : lp l < 0
    · refine br_t h (And.intro hv (nm_e (br_f hl.1 (br_t (Int32.not_le.mp hl.2) (And.intro hv ?_)))))
      rw [el]
      refine br_t h (And.intro hv (nm_e ⟨rfl, rc_mk_r (n := n) ⟨hn, rfl, ⟨N, hN1, hN2, rfl⟩, ⟨M, hM, rfl⟩, ⟨S, hS, rfl, hS2⟩, rfl, hL, fun i hi => ?_⟩ hI⟩))
      by_cases e : i = l
      · subst e; exact Or.inr ⟨n, Nat.le_refl _, pk_us⟩
      · rw [pk_un e]; exact hq i hi
    · refine br_f h (br_f hl.1 (br_t (Int32.not_le.mp hl.2) (And.intro hv ?_)))
      rw [el]
      exact br_f h ⟨rfl, K⟩
  · refine br_c (fun _ => ⟨rfl, K⟩) (fun e => br_f (fun e2 => hl ⟨e, Int32.not_le.mpr e2⟩) ⟨rfl, K⟩)
theorem rc_m_clear (hR : rc_Rs n mI mL mS it rs so sa sb sc lp) (hI : rc_Ri mL ii iB gr im ad lb yo ya yb yc yl yp) : wpX_clear (fun u' => wpY_clear (fun v' => i_Rel k u' v') (mI, mL, mS, it, ii, so, sa, sb, sc, lp, yo, ya, yb, yc, yl, yp)) (mI, mL, mS, it, rs, ii, iB, gr, uo, ua, ub, uc, so, sa, sb, sc, lp, ln, im, ad, lb) := by
  obtain ⟨hn, rfl, ⟨N, hN1, hN2, rfl⟩, ⟨M, hM, rfl⟩, ⟨S, hS, rfl, hS2⟩, rfl, hL, hq⟩ := hR
  refine rc_x_clr (rc_y_clr (rc_mk_r (n := 0) ⟨by omega, rfl, ⟨N, by omega, hN2, rfl⟩, ⟨M, hM, rfl⟩, ⟨S, hS, rfl, Nat.zero_le _⟩, rfl, fun j hj => absurd hj (by omega), fun l hl => Or.inl (rc_fil_16 hl)⟩ hI))
theorem rc_m_remove (hR : rc_Rs n mI mL mS it rs so sa sb sc lp) (hI : rc_Ri mL ii iB gr im ad lb yo ya yb yc yl yp) : wpX_removeLast (fun r u' => wpY_removeLast (fun r' v' => r' = r ∧ i_Rel k u' v') (mI, mL, mS, it, ii, so, sa, sb, sc, lp, yo, ya, yb, yc, yl, yp)) (mI, mL, mS, it, rs, ii, iB, gr, uo, ua, ub, uc, so, sa, sb, sc, lp, ln, im, ad, lb) := by
  have K : i_Rel k (mI, mL, mS, it, rs, ii, iB, gr, uo, ua, ub, uc, so, sa, sb, sc, lp, ln, im, ad, lb) (mI, mL, mS, it, ii, so, sa, sb, sc, lp, yo, ya, yb, yc, yl, yp) := rc_mk_r hR hI
  obtain ⟨hn, rfl, ⟨N, hN1, hN2, rfl⟩, ⟨M, hM, rfl⟩, ⟨S, hS, rfl, hS2⟩, rfl, hL, hq⟩ := hR
  cases n with
  | zero => exact br_t rfl (br_t rfl ⟨rfl, K⟩)
  | succ n =>
    have n0 : ¬ nI (n + 1) = 0 := nI_ne0 (by omega) (by omega)
    have hv : vp_in (nI n) 64 := vp_in_nI (by omega) (by decide)
    have en : (nI n).toNatClampNeg = n := nI_clamp (by omega)
    have hsm : rc_sm (rc_rz so sa) (n + 1) = rc_sm (rc_rz so sa) n + rc_rz so sa n := rfl
    have fin : ∀ rs', rs' = nI (rc_sm (rc_rz so sa) n) → ∃ n55, wX_removeLast_55 (fun r u' => wpY_removeLast (fun r' v' => r' = r ∧ i_Rel k u' v') ((nI N), (nI M), (nI S), (nI (n + 1)), ii, so, sa, sb, sc, lp, yo, ya, yb, yc, yl, yp)) (nI N) (nI M) (nI S) (nI n) rs' ii iB gr uo ua ub uc n55 0 so sa sb sc lp ln im ad lb := by
      intro rs' er
      have hrel : ∀ k, i_Rel k ((nI N), (nI M), (nI S), (nI n), rs', ii, iB, gr, uo, ua, ub, uc, so, sa, sb, sc, (rc_rmf n 16 lp), ln, im, ad, lb) ((nI N), (nI M), (nI S), (nI n), ii, so, sa, sb, sc, (rc_rmf n 16 lp), yo, ya, yb, yc, yl, yp) := by
        intro k
        refine rc_mk_r (n := n) ⟨by omega, rfl, ⟨N, by omega, hN2, rfl⟩, ⟨M, hM, rfl⟩, ⟨S, hS, rfl, by omega⟩, er, fun j hj => hL j (by omega), fun l hl => ?_⟩ hI
        unfold rc_rmf
        by_cases e : l < 16 ∧ ¬ lp l ≤ nI n
        · rw [if_pos e]; exact Or.inl rfl
        · rw [if_neg e]
          rcases hq l hl with h | ⟨p, hp, h⟩
          · exact Or.inl h
          · refine Or.inr ⟨p, ?_, h⟩
            by_cases e2 : p ≤ n
            · exact e2
            · exact absurd ⟨hl, by rw [h]; exact nI_ge (by omega) (by omega)⟩ e
      have kx := rc_x_r55 (post := fun r u' => wpY_removeLast (fun r' v' => r' = r ∧ i_Rel k u' v') ((nI N), (nI M), (nI S), (nI (n + 1)), ii, so, sa, sb, sc, lp, yo, ya, yb, yc, yl, yp)) (mI := nI N) (mL := nI M) (mS := nI S) (rs := rs') (ii := ii) (iB := iB) (gr := gr) (uo := uo) (ua := ua) (ub := ub) (uc := uc) (so := so) (sa := sa) (sb := sb) (sc := sc) (ln := ln) (im := im) (ad := ad) (lb := lb) (q := lp) (m := n) ?_ 16 0 (by omega)
      · rw [rc_rmf_0] at kx
        exact ⟨17, kx⟩
      · refine br_f n0 (nm_r (nI_pred n) ?_)
        have ky := rc_y_r21 (post := fun r' v' => r' = 1 ∧ i_Rel k ((nI N), (nI M), (nI S), (nI n), rs', ii, iB, gr, uo, ua, ub, uc, so, sa, sb, sc, (rc_rmf n 16 lp), ln, im, ad, lb) v') (mI := nI N) (mL := nI M) (mS := nI S) (ii := ii) (so := so) (sa := sa) (sb := sb) (sc := sc) (yo := yo) (ya := ya) (yb := yb) (yc := yc) (yl := yl) (yp := yp) (q := lp) (m := n) ⟨rfl, hrel k⟩ 16 0 (by omega)
        rw [rc_rmf_0] at ky
        exact ⟨17, ky⟩
    refine br_f n0 (nm_r (nI_pred n) (And.intro hv ?_))
    rw [en]
    refine br_c (fun e => And.intro hv (nm_r (e' := nI (rc_sm (rc_rz so sa) n)) ?_ (fin _ rfl))) (fun e => nm_r (e' := nI (rc_sm (rc_rz so sa) n)) ?_ (fin _ rfl))
    · obtain ⟨_, ⟨g, g1, g2, ge⟩, _⟩ := rc_la_g (hL n (by omega)) e
      have e1 : rc_rz so sa n = g := by unfold rc_rz; rw [if_pos e, ge, nI_clamp (by omega)]
      rw [hsm, e1, ge, pk_sub (by omega), Nat.add_sub_cancel]
    · have e1 : rc_rz so sa n = 2 := by unfold rc_rz; rw [if_neg e]
      rw [hsm, e1, show (2 : Int32) = nI 2 from rfl, pk_sub (by omega), Nat.add_sub_cancel]
end
end
section
/-! retarget, setGap, reads, assemble -/
theorem rc_sm_one {f g : Nat → Nat} {n j : Nat} (hj : j < n) (h : ∀ i, i < n → i ≠ j → f i = g i) : rc_sm f n + g j = rc_sm g n + f j := by
  induction n with
  | zero => omega
  | succ n ih =>
    by_cases e : j = n
    · subst e
      have := rc_sm_eq (f := f) (g := g) (n := j) (fun i hi => h i (by omega) (by omega))
      show rc_sm f j + f j + g j = rc_sm g j + g j + f j
      omega
    · have h1 := ih (by omega) (fun i hi => h i (by omega))
      have h2 := h n (by omega) (by omega)
      show rc_sm f n + f n + g j = rc_sm g n + g n + f j
      omega
theorem rc_lg_jal {L op a b c x : Int32} (h : rc_LegA L op a b c) (e : op = 17) (hx : rc_Lb L x) : rc_LegA L op a x c := by
  obtain ⟨o, h1, h2, rfl, ha, hb, hc⟩ := rc_la_i h (by rw [e]; decide)
  rw [show (17 : Int32) = nI 17 from rfl, nI_eq (by omega) (by omega)] at e
  subst e
  exact Or.inr ⟨17, h1, h2, rfl, ha, hx, hc⟩
theorem rc_lg_br {L op a b c x : Int32} (h : rc_LegA L op a b c) (e1 : ¬ op < 17) (e2 : op ≤ 20) (e3 : ¬ op = 17) (hx : rc_Lb L x) : rc_LegA L op a b x := by
  obtain ⟨o, h1, h2, rfl, ha, hb, hc⟩ := rc_la_i h (fun z => e1 (by rw [z]; decide))
  rw [show (17 : Int32) = nI 17 from rfl, nI_ltI (by omega) (by omega)] at e1
  rw [show (20 : Int32) = nI 20 from rfl, nI_leI (by omega) (by omega)] at e2
  rw [show (17 : Int32) = nI 17 from rfl, nI_eq (by omega) (by omega)] at e3
  have hc2 : o = 18 ∨ o = 19 ∨ o = 20 := by omega
  rcases hc2 with rfl | rfl | rfl
  · exact Or.inr ⟨18, h1, h2, rfl, ha, hb, hx⟩
  · exact Or.inr ⟨19, h1, h2, rfl, ha, hb, hx⟩
  · exact Or.inr ⟨20, h1, h2, rfl, ha, hb, hx⟩
section
variable {mI mL mS it rs ii iB gr uo ua ub uc : Int32} {so sa sb sc lp ln im ad lb yo ya yb yc yl yp : Nat → Int32} {k n : Nat} {x y z w : Int32}
theorem rc_x_item {post : Int32 → Prop} (h1 : ¬ x < 0 ∧ ¬ it ≤ x → post 1) (h2 : ¬ (¬ x < 0 ∧ ¬ it ≤ x) → post 0) : wpX_isItem post (mI, mL, mS, it, rs, ii, iB, gr, uo, ua, ub, uc, so, sa, sb, sc, lp, ln, im, ad, lb) x :=
  br_c (fun e => h2 fun z => z.1 e) (fun e => br_c (fun e2 => h2 fun z => z.2 e2) (fun e2 => h1 ⟨e, e2⟩))
theorem rc_it_m (hn : n ≤ 64) (h : ¬ x < 0 ∧ ¬ nI n ≤ x) : ∃ j, j < n ∧ x = nI j := by
  obtain ⟨l, hl, rfl⟩ := nI_of h.1
  have h2 := h.2
  rw [nI_leI (by omega) hl] at h2
  exact ⟨l, by omega, rfl⟩
theorem rc_lab_y {A B C : Prop} {L : Int32} (hl : ¬ rc_Lb L x) (h : A) (h2 : B) : (x < 0 → A) ∧ (¬ x < 0 → ((x < L → C) ∧ (¬ x < L → B))) :=
  br_c (fun _ => h) (fun e => br_f (fun e2 => hl ⟨e, Int32.not_le.mpr e2⟩) h2)
theorem rc_lab_z {A B C : Prop} {L : Int32} (hl : rc_Lb L x) (h : C) : (x < 0 → A) ∧ (¬ x < 0 → ((x < L → C) ∧ (¬ x < L → B))) := br_f hl.1 (br_t (Int32.not_le.mp hl.2) h)
theorem rc_m_retarget (hR : rc_Rs n mI mL mS it rs so sa sb sc lp) (hI : rc_Ri mL ii iB gr im ad lb yo ya yb yc yl yp) : wpX_retarget (fun r u' => wpY_retarget (fun r' v' => r' = r ∧ i_Rel k u' v') (mI, mL, mS, it, ii, so, sa, sb, sc, lp, yo, ya, yb, yc, yl, yp) x y) (mI, mL, mS, it, rs, ii, iB, gr, uo, ua, ub, uc, so, sa, sb, sc, lp, ln, im, ad, lb) x y := by
  have K : i_Rel k (mI, mL, mS, it, rs, ii, iB, gr, uo, ua, ub, uc, so, sa, sb, sc, lp, ln, im, ad, lb) (mI, mL, mS, it, ii, so, sa, sb, sc, lp, yo, ya, yb, yc, yl, yp) := rc_mk_r hR hI
  obtain ⟨hn, rfl, ⟨N, hN1, hN2, rfl⟩, ⟨M, hM, rfl⟩, ⟨S, hS, rfl, hS2⟩, rfl, hL, hq⟩ := hR
  unfold wpX_retarget
  refine rc_x_item (fun hi => br_f rc_n10 ?_) (fun hi => br_t rfl (rc_lab_y hi ⟨rfl, K⟩ ⟨rfl, K⟩))
  obtain ⟨j, hj, rfl⟩ := rc_it_m hn hi
  have ej : (nI j).toNatClampNeg = j := nI_clamp (by omega)
  have hv : vp_in (nI j) 64 := vp_in_nI (by omega) (by decide)
  refine And.intro hv (nm_r (congrArg so ej) ?_)
  by_cases h1 : so j < 17
  · refine br_t h1 (rc_lab_z hi (And.intro hv ?_))
    rw [ej]
    exact br_t h1 ⟨rfl, K⟩
  by_cases h2 : so j ≤ 20
  · refine br_f h1 (br_t h2 (rc_x_lab (fun hl => br_f rc_n10 ?_) (fun hl => br_t rfl (rc_lab_z hi (And.intro hv ?_)))))
    · by_cases h3 : so j = 17
      · refine br_t h3 (And.intro hv (nm_r (e' := upd sb j y) (by rw [ej]) (rc_lab_z hi (And.intro hv ?_))))
        rw [ej]
        refine br_f h1 (And.intro hv (br_t h2 (rc_lab_z hl (And.intro hv (br_t h3 (And.intro hv (nm_e ⟨rfl, rc_mk_r (n := n) ⟨hn, rfl, ⟨N, hN1, hN2, rfl⟩, ⟨M, hM, rfl⟩, ⟨S, hS, rfl, hS2⟩, rfl, fun i hi2 => ?_, hq⟩ hI⟩)))))))
        by_cases e : i = j
        · subst e; rw [pk_us]; exact rc_lg_jal (hL i hi2) h3 hl
        · rw [pk_un e]; exact hL i hi2
      · refine br_f h3 (And.intro hv (nm_r (e' := upd sc j y) (by rw [ej]) (rc_lab_z hi (And.intro hv ?_))))
        rw [ej]
        refine br_f h1 (And.intro hv (br_t h2 (rc_lab_z hl (And.intro hv (br_f h3 (And.intro hv (nm_e ⟨rfl, rc_mk_r (n := n) ⟨hn, rfl, ⟨N, hN1, hN2, rfl⟩, ⟨M, hM, rfl⟩, ⟨S, hS, rfl, hS2⟩, rfl, fun i hi2 => ?_, hq⟩ hI⟩)))))))
        by_cases e : i = j
        · subst e; rw [pk_us]; exact rc_lg_br (hL i hi2) h1 h2 h3 hl
        · rw [pk_un e]; exact hL i hi2
    · rw [ej]
      exact br_f h1 (And.intro hv (br_t h2 (rc_lab_y hl ⟨rfl, K⟩ ⟨rfl, K⟩)))
  · refine br_f h1 (br_f h2 (rc_lab_z hi (And.intro hv ?_)))
    rw [ej]
    exact br_f h1 (And.intro hv (br_f h2 ⟨rfl, K⟩))
theorem rc_m_setGap (hR : rc_Rs n mI mL mS it rs so sa sb sc lp) (hI : rc_Ri mL ii iB gr im ad lb yo ya yb yc yl yp) : wpX_setGap (fun r u' => wpY_setGap (fun r' v' => r' = r ∧ i_Rel k u' v') (mI, mL, mS, it, ii, so, sa, sb, sc, lp, yo, ya, yb, yc, yl, yp) x y) (mI, mL, mS, it, rs, ii, iB, gr, uo, ua, ub, uc, so, sa, sb, sc, lp, ln, im, ad, lb) x y := by
  have K : i_Rel k (mI, mL, mS, it, rs, ii, iB, gr, uo, ua, ub, uc, so, sa, sb, sc, lp, ln, im, ad, lb) (mI, mL, mS, it, ii, so, sa, sb, sc, lp, yo, ya, yb, yc, yl, yp) := rc_mk_r hR hI
  obtain ⟨hn, rfl, ⟨N, hN1, hN2, rfl⟩, ⟨M, hM, rfl⟩, ⟨S, hS, rfl, hS2⟩, rfl, hL, hq⟩ := hR
  unfold wpX_setGap
  refine rc_x_item (fun hi => br_f rc_n10 ?_) (fun hi => br_t rfl (rc_lab_y hi ⟨rfl, K⟩ ⟨rfl, K⟩))
  obtain ⟨j, hj, rfl⟩ := rc_it_m hn hi
  have ej : (nI j).toNatClampNeg = j := nI_clamp (by omega)
  have hv : vp_in (nI j) 64 := vp_in_nI (by omega) (by decide)
  refine And.intro hv ?_
  rw [ej]
  by_cases h1 : so j = 0
  · by_cases h2 : 1 ≤ y
    · obtain ⟨_, ⟨g, g1, g2, ge⟩, gb, gc⟩ := rc_la_g (hL j hj) h1
      have eg : rc_rz so sa j = g := by unfold rc_rz; rw [if_pos h1, ge, nI_clamp (by omega)]
      have hle : g ≤ rc_sm (rc_rz so sa) n := by
        have h3 := rc_sm_mono (rc_rz so sa) (show j + 1 ≤ n by omega)
        have h4 : rc_sm (rc_rz so sa) (j + 1) = rc_sm (rc_rz so sa) j + rc_rz so sa j := rfl
        omega
      have eo : nI (rc_sm (rc_rz so sa) n) - sa j = nI (rc_sm (rc_rz so sa) n - g) := by rw [ge, pk_sub hle]
      refine br_t h1 (br_t h2 (And.intro hv (nm_r eo ?_)))
      by_cases h3 : y ≤ nI S - nI (rc_sm (rc_rz so sa) n - g)
      · obtain ⟨t, ht, rfl⟩ := nI_of (rc_n0_1 h2)
        have t1 : 1 ≤ t := by rw [show (1 : Int32) = nI 1 from rfl, nI_leI (by decide) ht] at h2; exact h2
        have h3' := h3
        rw [pk_sub (by omega), nI_leI ht (by omega)] at h3'
        have hs1 : rc_sm (rc_rz so (upd sa j (nI t))) n = rc_sm (rc_rz so sa) n - g + t := by
          have := rc_sm_one (f := rc_rz so (upd sa j (nI t))) (g := rc_rz so sa) hj (fun i _ hne => by unfold rc_rz; rw [pk_un hne])
          have e2 : rc_rz so (upd sa j (nI t)) j = t := by unfold rc_rz; rw [if_pos h1, pk_us, nI_clamp ht]
          omega
        refine br_t h3 (And.intro hv (nm_e (nm_r (nI_add _ t) (rc_lab_z hi (And.intro hv ?_)))))
        rw [ej]
        refine br_t h1 (br_t h2 (rc_y_rs hn hL (And.intro hv ?_)))
        rw [eo]
        refine br_t h3 (And.intro hv (nm_e ⟨rfl, rc_mk_r (n := n) ⟨hn, rfl, ⟨N, hN1, hN2, rfl⟩, ⟨M, hM, rfl⟩, ⟨S, hS, rfl, by rw [hs1]; omega⟩, by rw [hs1], fun i hi2 => ?_, hq⟩ hI⟩))
        by_cases e : i = j
        · subst e; rw [pk_us]; exact Or.inl ⟨h1, ⟨t, t1, by omega, rfl⟩, gb, gc⟩
        · rw [pk_un e]; exact hL i hi2
      · refine br_f h3 (rc_lab_z hi (And.intro hv ?_))
        rw [ej]
        refine br_t h1 (br_t h2 (rc_y_rs hn hL (And.intro hv ?_)))
        rw [eo]
        exact br_f h3 ⟨rfl, K⟩
    · refine br_t h1 (br_f h2 (rc_lab_z hi (And.intro hv ?_)))
      rw [ej]
      exact br_t h1 (br_f h2 ⟨rfl, K⟩)
  · refine br_f h1 (rc_lab_z hi (And.intro hv ?_))
    rw [ej]
    exact br_f h1 ⟨rfl, K⟩
theorem rc_m_labelItem (hR : rc_Rs n mI mL mS it rs so sa sb sc lp) (K : i_Rel k (mI, mL, mS, it, rs, ii, iB, gr, uo, ua, ub, uc, so, sa, sb, sc, lp, ln, im, ad, lb) (mI, mL, mS, it, ii, so, sa, sb, sc, lp, yo, ya, yb, yc, yl, yp)) : wpX_labelItem (fun r => wpY_labelItem (fun r' => r' = r ∧ i_Rel k (mI, mL, mS, it, rs, ii, iB, gr, uo, ua, ub, uc, so, sa, sb, sc, lp, ln, im, ad, lb) (mI, mL, mS, it, ii, so, sa, sb, sc, lp, yo, ya, yb, yc, yl, yp)) (mI, mL, mS, it, ii, so, sa, sb, sc, lp, yo, ya, yb, yc, yl, yp) x) (mI, mL, mS, it, rs, ii, iB, gr, uo, ua, ub, uc, so, sa, sb, sc, lp, ln, im, ad, lb) x := by
  obtain ⟨hn, rfl, ⟨N, hN1, hN2, rfl⟩, ⟨M, hM, rfl⟩, ⟨S, hS, rfl, hS2⟩, rfl, hL, hq⟩ := hR
  unfold wpX_labelItem
  refine rc_x_lab (fun hl => br_f rc_n10 ?_) (fun hl => br_t rfl (rc_lab_y hl ⟨rfl, K⟩ ⟨rfl, K⟩))
  obtain ⟨l, hl1, rfl⟩ := rc_lb_m hM hl
  have hv : vp_in (nI l) 16 := vp_in_nI (by omega) (by decide)
  exact And.intro hv (rc_lab_z hl (And.intro hv ⟨rfl, K⟩))
theorem rc_m_sourceField (hR : rc_Rs n mI mL mS it rs so sa sb sc lp) (K : i_Rel k (mI, mL, mS, it, rs, ii, iB, gr, uo, ua, ub, uc, so, sa, sb, sc, lp, ln, im, ad, lb) (mI, mL, mS, it, ii, so, sa, sb, sc, lp, yo, ya, yb, yc, yl, yp)) : wpX_sourceField (fun r => wpY_sourceField (fun r' => r' = r ∧ i_Rel k (mI, mL, mS, it, rs, ii, iB, gr, uo, ua, ub, uc, so, sa, sb, sc, lp, ln, im, ad, lb) (mI, mL, mS, it, ii, so, sa, sb, sc, lp, yo, ya, yb, yc, yl, yp)) (mI, mL, mS, it, ii, so, sa, sb, sc, lp, yo, ya, yb, yc, yl, yp) x y) (mI, mL, mS, it, rs, ii, iB, gr, uo, ua, ub, uc, so, sa, sb, sc, lp, ln, im, ad, lb) x y := by
  obtain ⟨hn, rfl, ⟨N, hN1, hN2, rfl⟩, ⟨M, hM, rfl⟩, ⟨S, hS, rfl, hS2⟩, rfl, hL, hq⟩ := hR
  unfold wpX_sourceField
  refine rc_x_item (fun hi => br_f rc_n10 ?_) (fun hi => br_t rfl (br_c (fun _ => ⟨rfl, K⟩) (fun e => br_t (Decidable.byContradiction fun e2 => hi ⟨e, e2⟩) ⟨rfl, K⟩)))
  obtain ⟨j, hj, rfl⟩ := rc_it_m hn hi
  have hv : vp_in (nI j) 64 := vp_in_nI (by omega) (by decide)
  by_cases h1 : y < 0
  · exact br_t h1 (br_f hi.1 (br_f hi.2 (br_t h1 ⟨rfl, K⟩)))
  by_cases h2 : 3 < y
  · exact br_f h1 (br_t h2 (br_f hi.1 (br_f hi.2 (br_f h1 (br_f (Int32.not_le.mpr h2) ⟨rfl, K⟩)))))
  have h2' := Int32.not_lt.mp h2
  obtain ⟨t, ht, rfl⟩ := nI_of h1
  have t3 : t ≤ 3 := by rw [show (3 : Int32) = nI 3 from rfl, nI_leI ht (by decide)] at h2'; exact h2'
  have hc : t = 0 ∨ t = 1 ∨ t = 2 ∨ t = 3 := by omega
  rcases hc with rfl | rfl | rfl | rfl
  · exact br_f h1 (br_f h2 (br_t rfl (And.intro hv (br_f hi.1 (br_f hi.2 (br_f h1 (br_t h2' (br_t rfl (And.intro hv ⟨rfl, K⟩)))))))))
  · exact br_f h1 (br_f h2 (br_f (by decide) (br_t rfl (And.intro hv (br_f hi.1 (br_f hi.2 (br_f h1 (br_t h2' (br_f (by decide) (br_t rfl (And.intro hv ⟨rfl, K⟩)))))))))))
  · exact br_f h1 (br_f h2 (br_f (by decide) (br_f (by decide) (br_t rfl (And.intro hv (br_f hi.1 (br_f hi.2 (br_f h1 (br_t h2' (br_f (by decide) (br_f (by decide) (br_t rfl (And.intro hv ⟨rfl, K⟩)))))))))))))
  · exact br_f h1 (br_f h2 (br_f (by decide) (br_f (by decide) (br_f (by decide) (br_t rfl (And.intro hv (br_f hi.1 (br_f hi.2 (br_f h1 (br_t h2' (br_f (by decide) (br_f (by decide) (br_f (by decide) (And.intro hv ⟨rfl, K⟩))))))))))))))
theorem rc_m_imageLabel (hR : rc_Rs n mI mL mS it rs so sa sb sc lp) (hI : rc_Ri mL ii iB gr im ad lb yo ya yb yc yl yp) (K : i_Rel k (mI, mL, mS, it, rs, ii, iB, gr, uo, ua, ub, uc, so, sa, sb, sc, lp, ln, im, ad, lb) (mI, mL, mS, it, ii, so, sa, sb, sc, lp, yo, ya, yb, yc, yl, yp)) : wpX_imageLabel (fun r => wpY_imageLabel (fun r' => r' = r ∧ i_Rel k (mI, mL, mS, it, rs, ii, iB, gr, uo, ua, ub, uc, so, sa, sb, sc, lp, ln, im, ad, lb) (mI, mL, mS, it, ii, so, sa, sb, sc, lp, yo, ya, yb, yc, yl, yp)) (mI, mL, mS, it, ii, so, sa, sb, sc, lp, yo, ya, yb, yc, yl, yp) x) (mI, mL, mS, it, rs, ii, iB, gr, uo, ua, ub, uc, so, sa, sb, sc, lp, ln, im, ad, lb) x := by
  obtain ⟨hn, rfl, ⟨N, hN1, hN2, rfl⟩, ⟨M, hM, rfl⟩, ⟨S, hS, rfl, hS2⟩, rfl, hL, hq⟩ := hR
  obtain ⟨m, f, hii, hs, hV, hC, hyl, had, hiB, hgr, hlb⟩ := hI
  unfold wpX_imageLabel
  refine rc_x_lab (fun hl => br_f rc_n10 ?_) (fun hl => br_t rfl (rc_lab_y hl ⟨rfl, K⟩ ⟨rfl, K⟩))
  obtain ⟨l, hl1, rfl⟩ := rc_lb_m hM hl
  have hv : vp_in (nI l) 16 := vp_in_nI (by omega) (by decide)
  refine And.intro hv ?_
  rw [nI_clamp (show l < 2 ^ 31 by omega)]
  rcases hlb l (by omega) with ⟨e1, e2⟩ | ⟨p, hp, e1, e2⟩
  · exact rc_y_iln (by omega) hl e1 ⟨e2.symm, K⟩
  · exact rc_y_il hii hs.1 hyl (by omega) hl hp e1 ⟨by rw [e2, had p hp], K⟩
theorem rc_m_addressOf (hI : rc_Ri mL ii iB gr im ad lb yo ya yb yc yl yp) (K : i_Rel k (mI, mL, mS, it, rs, ii, iB, gr, uo, ua, ub, uc, so, sa, sb, sc, lp, ln, im, ad, lb) (mI, mL, mS, it, ii, so, sa, sb, sc, lp, yo, ya, yb, yc, yl, yp)) : wpX_addressOf (fun r => wpY_addressOf (fun r' => r' = r ∧ i_Rel k (mI, mL, mS, it, rs, ii, iB, gr, uo, ua, ub, uc, so, sa, sb, sc, lp, ln, im, ad, lb) (mI, mL, mS, it, ii, so, sa, sb, sc, lp, yo, ya, yb, yc, yl, yp)) (mI, mL, mS, it, ii, so, sa, sb, sc, lp, yo, ya, yb, yc, yl, yp) x) (mI, mL, mS, it, rs, ii, iB, gr, uo, ua, ub, uc, so, sa, sb, sc, lp, ln, im, ad, lb) x := by
  obtain ⟨m, f, hii, hs, hV, hC, hyl, had, hiB, hgr, hlb⟩ := hI
  have hm := hs.1
  by_cases h1 : x < 0
  · exact br_t h1 (br_t h1 ⟨rfl, K⟩)
  by_cases h2 : x ≤ ii
  · refine br_f h1 (br_t h2 ?_)
    obtain ⟨i, hi, rfl⟩ := nI_of h1
    rw [hii, nI_leI hi (by omega)] at h2
    refine And.intro (vp_in_nI (by omega) (by decide)) (rc_y_ad hii hm hyl h2 ⟨?_, K⟩)
    rw [nI_clamp hi, had i h2]
  · exact br_f h1 (br_f h2 (br_f h1 (br_f h2 ⟨rfl, K⟩)))
theorem rc_m_imageBytes (hI : rc_Ri mL ii iB gr im ad lb yo ya yb yc yl yp) (K : i_Rel k (mI, mL, mS, it, rs, ii, iB, gr, uo, ua, ub, uc, so, sa, sb, sc, lp, ln, im, ad, lb) (mI, mL, mS, it, ii, so, sa, sb, sc, lp, yo, ya, yb, yc, yl, yp)) : wpX_imageBytes (fun r => wpY_imageBytes (fun r' => r' = r ∧ i_Rel k (mI, mL, mS, it, rs, ii, iB, gr, uo, ua, ub, uc, so, sa, sb, sc, lp, ln, im, ad, lb) (mI, mL, mS, it, ii, so, sa, sb, sc, lp, yo, ya, yb, yc, yl, yp)) (mI, mL, mS, it, ii, so, sa, sb, sc, lp, yo, ya, yb, yc, yl, yp)) (mI, mL, mS, it, rs, ii, iB, gr, uo, ua, ub, uc, so, sa, sb, sc, lp, ln, im, ad, lb) := by
  obtain ⟨m, f, hii, hs, hV, hC, hyl, had, hiB, hgr, hlb⟩ := hI
  show wpY_addressOf (fun r' => r' = iB ∧ i_Rel k (mI, mL, mS, it, rs, ii, iB, gr, uo, ua, ub, uc, so, sa, sb, sc, lp, ln, im, ad, lb) (mI, mL, mS, it, ii, so, sa, sb, sc, lp, yo, ya, yb, yc, yl, yp)) (mI, mL, mS, it, ii, so, sa, sb, sc, lp, yo, ya, yb, yc, yl, yp) ii
  subst hii
  exact rc_y_ad rfl hs.1 hyl (Nat.le_refl m) ⟨hiB.symm, K⟩
end
end
section
/-! assemble and grownCount -/
theorem rc_src_ok {n : Nat} {L : Int32} {o a b c q : Nat → Int32} (hs : rc_Src n L o a b c q) : ∀ j, j < n → rc_okj o b c q j := by
  intro j hj hl
  have hn := hs.1
  obtain ⟨l, p, h1, h2, h3, h4⟩ := hs.2.2.1 j hj hl
  rw [h2, nI_clamp (by omega), h3]
  exact nI_pos' (by omega)
section
variable {mI mL mS it rs ii iB gr uo ua ub uc : Int32} {so sa sb sc lp ln im ad lb yo ya yb yc yl yp : Nat → Int32} {k n : Nat}
theorem rc_m_assemble (hR : rc_Rs n mI mL mS it rs so sa sb sc lp) (hI : rc_Ri mL ii iB gr im ad lb yo ya yb yc yl yp) : wpX_assemble (fun r u' => wpY_assemble (fun r' v' => r' = r ∧ i_Rel k u' v') (mI, mL, mS, it, ii, so, sa, sb, sc, lp, yo, ya, yb, yc, yl, yp)) (mI, mL, mS, it, rs, ii, iB, gr, uo, ua, ub, uc, so, sa, sb, sc, lp, ln, im, ad, lb) := by
  have K : i_Rel k (mI, mL, mS, it, rs, ii, iB, gr, uo, ua, ub, uc, so, sa, sb, sc, lp, ln, im, ad, lb) (mI, mL, mS, it, ii, so, sa, sb, sc, lp, yo, ya, yb, yc, yl, yp) := rc_mk_r hR hI
  have hR' := hR
  obtain ⟨hn, hit, ⟨N, hN1, hN2, hmI⟩, ⟨M, hM, hmL⟩, ⟨S, hS, hmS, hS2⟩, hrs, hL, hq⟩ := hR
  have hlab : ∀ j, j < n → 0 ≤ rc_lab (so j) (sb j) (sc j) → ∃ l, l < 16 ∧ rc_lab (so j) (sb j) (sc j) = nI l := by
    intro j hj hl
    have h1 := rc_lb_l (rc_la_i (hL j hj) (fun z => rc_lab_0 z hl)) hl
    rw [hmL] at h1
    obtain ⟨l, h2, h3⟩ := rc_lb_m hM h1
    exact ⟨l, by omega, h3⟩
  have hvl : ∀ j, j < n → 0 ≤ rc_lab (so j) (sb j) (sc j) → vp_in (rc_lab (so j) (sb j) (sc j)) 16 := by
    intro j hj hl
    obtain ⟨l, h1, h2⟩ := hlab j hj hl
    rw [h2]
    exact vp_in_nI h1 (by decide)
  have hSr : (∀ j, j < n → rc_okj so sb sc lp j) → rc_Src n mL so sa sb sc lp := by
    intro hok
    refine ⟨hn, hL, fun j hj hl => ?_, by omega⟩
    obtain ⟨l, h1, h2⟩ := hlab j hj hl
    have h3 := hok j hj hl
    rw [h2, nI_clamp (by omega)] at h3
    rcases hq l h1 with e | ⟨p, hp, e⟩
    · rw [e] at h3; exact absurd h3 (by decide)
    · exact ⟨l, p, h1, h2, e, hp⟩
  refine rc_x_asm (L := mL) hn hit hvl hq hSr (fun hb => ?_) ?_
  · refine rc_y_asm hn hit hvl hSr (fun _ => ⟨rfl, K⟩) ?_
    intro hs
    obtain ⟨j, hj, hno⟩ := hb
    exact absurd (rc_src_ok hs j hj) hno
  · intro hs f gr' ln' im' ad' lb' hv hc hb hg had hC hLv
    refine rc_y_asm hn hit hvl hSr (fun hbad => ?_) ?_
    · obtain ⟨j, hj, hno⟩ := hbad
      exact absurd (rc_src_ok hs j hj) hno
    · intro _ g yo' ya' yb' yc' yl' yp' hA hyl kv kc kb
      have hfg : ∀ j, j < n → f j = g j := rc_lay_u (rc_ag_vl hA hv) (rc_ag_cl hA hs hc) (rc_ag_be hA hs hb) kv kc kb
      refine ⟨rfl, rc_mk_r hR' ⟨n, g, hit, rc_ag_src hA hs, kv, rc_cts_f (rc_ag_src hA hs) hfg (rc_ag_cts hA hs hC), hyl, fun i hi => ?_, ?_, ?_, fun l hl => ?_⟩⟩
      · rw [had i hi, rc_sm_eq (n := i) (fun j hj => hfg j (by omega))]
      · rw [rc_sm_eq (n := n) hfg]
      · rw [hg, ← rc_ag_gc hA, rc_gc_f hfg]
      · unfold rc_Lv
        rw [hA.2 l hl]
        exact hLv l hl
end
section
variable {mI mL mS it ii : Int32} {so sa sb sc lp yo ya yb yc yl yp : Nat → Int32} {m : Nat} {f : Nat → Nat} {post : Int32 → Prop} {J : Int32 → Int32 → Prop} {x1 : Int32} {i : Nat}
theorem rc_gw_117 (hi : i < 64) (h1 : yl i = 4 → J (x1 + 1) (nI (i + 1))) (rc_h0 : ¬ yl i = 4 → J x1 (nI (i + 1))) : wY_grownCount_117 post J x1 (nI i) mI mL mS it ii so sa sb sc lp yo ya yb yc yl yp := by
  refine And.intro (vp_in_nI hi (by decide)) ?_
  rw [nI_clamp (by omega)]
  exact br_c (fun e => nm_e (nm_r (nI_1 i) (h1 e))) (fun e => nm_r (nI_1 i) (rc_h0 e))
theorem rc_gw_106t {x3 z0 : Int32} (hi : i < 64) (hx : ¬ x3 = 0 ∨ ¬ z0 = 0) (h1 : yl i = 4 → J (x1 + 1) (nI (i + 1))) (rc_h0 : ¬ yl i = 4 → J x1 (nI (i + 1))) : wY_grownCount_106 post J x1 (nI i) x3 z0 mI mL mS it ii so sa sb sc lp yo ya yb yc yl yp :=
  br_c (fun e => br_f (hx.resolve_left fun z => z e) (rc_gw_117 hi h1 rc_h0)) (fun _ => rc_gw_117 hi h1 rc_h0)
theorem rc_gw_106f (rc_h0 : J x1 (nI (i + 1))) : wY_grownCount_106 post J x1 (nI i) 0 0 mI mL mS it ii so sa sb sc lp yo ya yb yc yl yp := br_t rfl (br_t rfl (nm_r (nI_1 i) rc_h0))
theorem rc_gw_70 {x3 : Int32} (hx3 : x3 = 0 ∨ x3 = 1) (hi : i < 64) (h1 : (¬ x3 = 0 ∨ (rc_lw (ya i) ∧ yb i = 0)) → yl i = 4 → J (x1 + 1) (nI (i + 1))) (rc_h0 : ¬ ((¬ x3 = 0 ∨ (rc_lw (ya i) ∧ yb i = 0)) ∧ yl i = 4) → J x1 (nI (i + 1))) : wY_grownCount_70 post J x1 (nI i) x3 mI mL mS it ii so sa sb sc lp yo ya yb yc yl yp := by
  have hv : vp_in (nI i) 64 := vp_in_nI hi (by decide)
  have ei : (nI i).toNatClampNeg = i := nI_clamp (by omega)
  have no : ¬ (rc_lw (ya i) ∧ yb i = 0) → wY_grownCount_105 post J x1 (nI i) x3 mI mL mS it ii so sa sb sc lp yo ya yb yc yl yp := by
    intro hn
    rcases hx3 with e | e
    · rw [e]
      exact rc_gw_106f (rc_h0 fun z => z.1.elim (fun z2 => z2 e) hn)
    · refine rc_gw_106t hi (Or.inl (by rw [e]; exact rc_n10)) (fun e4 => h1 (Or.inl (by rw [e]; exact rc_n10)) e4) (fun e4 => rc_h0 fun z => e4 z.2)
  refine And.intro hv ?_
  rw [ei]
  refine br_c (fun e => no fun z => z.1.1 e) (fun e => And.intro hv (br_c (fun e2 => no fun z => z.1.2 e2) (fun e2 => And.intro hv (br_c (fun e3 => ?_) (fun e3 => no fun z => e3 z.2)))))
  exact rc_gw_106t hi (Or.inr rc_n10) (fun e4 => h1 (Or.inr ⟨⟨e, e2⟩, e3⟩) e4) (fun e4 => rc_h0 fun z => e4 z.2)
theorem rc_gw_47 {x3 : Int32} (hx3 : x3 = 0 ∨ x3 = 1) (hi : i < 64) (h1 : (¬ x3 = 0 ∨ ((yo i = 18 ∨ yo i = 19) ∧ rc_lw (ya i) ∧ yb i = 0)) → yl i = 4 → J (x1 + 1) (nI (i + 1))) (rc_h0 : ¬ ((¬ x3 = 0 ∨ ((yo i = 18 ∨ yo i = 19) ∧ rc_lw (ya i) ∧ yb i = 0)) ∧ yl i = 4) → J x1 (nI (i + 1))) : wY_grownCount_47 post J x1 (nI i) x3 mI mL mS it ii so sa sb sc lp yo ya yb yc yl yp := by
  have hv : vp_in (nI i) 64 := vp_in_nI hi (by decide)
  have ei : (nI i).toNatClampNeg = i := nI_clamp (by omega)
  have yes : (yo i = 18 ∨ yo i = 19) → wY_grownCount_70 post J x1 (nI i) x3 mI mL mS it ii so sa sb sc lp yo ya yb yc yl yp := by
    intro ho
    refine rc_gw_70 hx3 hi (fun z e4 => h1 (z.elim Or.inl fun z2 => Or.inr ⟨ho, z2⟩) e4) (fun z => rc_h0 fun z2 => z ⟨z2.1.elim Or.inl fun z3 => Or.inr z3.2, z2.2⟩)
  refine And.intro hv ?_
  rw [ei]
  refine br_c (fun e => yes (Or.inl e)) (fun e => And.intro hv (br_c (fun e2 => yes (Or.inr e2)) (fun e2 => ?_)))
  rcases hx3 with e3 | e3
  · rw [e3]
    exact rc_gw_106f (rc_h0 fun z => z.1.elim (fun z2 => z2 e3) (fun z2 => z2.1.elim e e2))
  · exact rc_gw_106t hi (Or.inl (by rw [e3]; exact rc_n10)) (fun e4 => h1 (Or.inl (by rw [e3]; exact rc_n10)) e4) (fun e4 => rc_h0 fun z => e4 z.2)
theorem rc_gw_4 (hm : m ≤ 64) (hii : ii = nI m) (hyl : ∀ j, j < m → yl j = nI (2 * f j)) (hfb : ∀ j, j < m → f j ≤ 2047) (h : post (nI (rc_Gc m yo ya yb f))) : ∀ (d i : Nat), i + d = m → wY_grownCount_4 post mI mL mS it ii so sa sb sc lp yo ya yb yc yl yp (d + 1) (nI (rc_Gc i yo ya yb f)) (nI i) := by
  intro d
  induction d with
  | zero =>
    intro i hi
    have e : i = m := by omega
    subst e
    exact br_t (by rw [hii]; exact nI_le (Nat.le_refl _) (by omega)) h
  | succ d ih =>
    intro i hi
    have hi' : i < m := by omega
    have hv : vp_in (nI i) 64 := vp_in_nI (by omega) (by decide)
    have ei : (nI i).toNatClampNeg = i := nI_clamp (by omega)
    have e4 : yl i = 4 ↔ f i = 2 := by
      have := hfb i hi'
      rw [hyl i hi', show (4 : Int32) = nI 4 from rfl, nI_eq (by omega) (by omega)]
      omega
    have hG : rc_Gc (i + 1) yo ya yb f = rc_Gc i yo ya yb f + if rc_Fl (yo i) (ya i) (yb i) ∧ f i = 2 then 1 else 0 := rfl
    have k1 : rc_Fl (yo i) (ya i) (yb i) → yl i = 4 → wY_grownCount_4 post mI mL mS it ii so sa sb sc lp yo ya yb yc yl yp (d + 1) (nI (rc_Gc i yo ya yb f) + 1) (nI (i + 1)) := by
      intro hF h4
      have := ih (i + 1) (by omega)
      rw [hG, if_pos ⟨hF, e4.mp h4⟩] at this
      rw [nI_1]
      exact this
    have k0 : ¬ (rc_Fl (yo i) (ya i) (yb i) ∧ yl i = 4) → wY_grownCount_4 post mI mL mS it ii so sa sb sc lp yo ya yb yc yl yp (d + 1) (nI (rc_Gc i yo ya yb f)) (nI (i + 1)) := by
      intro hn
      have := ih (i + 1) (by omega)
      rw [hG, if_neg (fun z => hn ⟨z.1, e4.mpr z.2⟩), Nat.add_zero] at this
      exact this
    have t42 : (yo i = 17 ∧ (ya i = 0 ∨ ya i = 1)) → wY_grownCount_42 post (wY_grownCount_4 post mI mL mS it ii so sa sb sc lp yo ya yb yc yl yp (d + 1)) (nI (rc_Gc i yo ya yb f)) (nI i) mI mL mS it ii so sa sb sc lp yo ya yb yc yl yp := by
      intro hF
      exact rc_gw_47 (Or.inr rfl) (by omega) (fun _ h4 => k1 (Or.inl hF) h4) (fun z => k0 fun z2 => z ⟨Or.inl rc_n10, z2.2⟩)
    have t46 : ¬ (yo i = 17 ∧ (ya i = 0 ∨ ya i = 1)) → wY_grownCount_46 post (wY_grownCount_4 post mI mL mS it ii so sa sb sc lp yo ya yb yc yl yp (d + 1)) (nI (rc_Gc i yo ya yb f)) (nI i) mI mL mS it ii so sa sb sc lp yo ya yb yc yl yp := by
      intro hF
      exact rc_gw_47 (Or.inl rfl) (by omega) (fun z h4 => k1 (z.elim (fun z2 => absurd rfl z2) Or.inr) h4) (fun z => k0 fun z2 => z ⟨Or.inr (z2.1.resolve_left hF), z2.2⟩)
    refine br_f (by rw [hii]; exact nI_ge (by omega) (by omega)) (And.intro hv ?_)
    rw [ei]
    refine br_c (fun e => And.intro hv (br_c (fun e2 => t42 ⟨e, Or.inl e2⟩) (fun e2 => And.intro hv (br_c (fun e3 => t42 ⟨e, Or.inr e3⟩) (fun e3 => t46 fun z => z.2.elim e2 e3))))) (fun e => t46 fun z => e z.1)
end
section
variable {mI mL mS it rs ii iB gr uo ua ub uc : Int32} {so sa sb sc lp ln im ad lb yo ya yb yc yl yp : Nat → Int32} {k n : Nat}
theorem rc_m_grown (hI : rc_Ri mL ii iB gr im ad lb yo ya yb yc yl yp) (K : i_Rel k (mI, mL, mS, it, rs, ii, iB, gr, uo, ua, ub, uc, so, sa, sb, sc, lp, ln, im, ad, lb) (mI, mL, mS, it, ii, so, sa, sb, sc, lp, yo, ya, yb, yc, yl, yp)) : wpX_grownCount (fun r => wpY_grownCount (fun r' => r' = r ∧ i_Rel k (mI, mL, mS, it, rs, ii, iB, gr, uo, ua, ub, uc, so, sa, sb, sc, lp, ln, im, ad, lb) (mI, mL, mS, it, ii, so, sa, sb, sc, lp, yo, ya, yb, yc, yl, yp)) (mI, mL, mS, it, ii, so, sa, sb, sc, lp, yo, ya, yb, yc, yl, yp)) (mI, mL, mS, it, rs, ii, iB, gr, uo, ua, ub, uc, so, sa, sb, sc, lp, ln, im, ad, lb) := by
  obtain ⟨m, f, hii, hs, hV, hC, hyl, had, hiB, hgr, hlb⟩ := hI
  refine Exists.intro (m + 1) (rc_gw_4 hs.1 hii hyl (fun j hj => ?_) ⟨hgr.symm, K⟩ m 0 (by omega))
  have h1 := Nat.le_trans (rc_sm_mono f (show j + 1 ≤ m by omega)) (rc_vl_sm hs hV)
  have h2 : rc_sm f (j + 1) = rc_sm f j + f j := rfl
  omega
end
end
section
/-! which unit starts at an address -/
def rc_Bn (m : Nat) (f : Nat → Nat) (mL ii iB gr : Int32) (im ad lb yo ya yb yc yl yp : Nat → Int32) : Prop :=
  ii = nI m ∧ rc_Src m mL yo ya yb yc yp ∧ rc_Vl m yo ya yb yc f ∧ rc_Cts m f yo ya yb yc yp im ∧ (∀ j, j < m → yl j = nI (2 * f j)) ∧ (∀ i, i ≤ m → ad i = nI (2 * rc_sm f i)) ∧ iB = nI (2 * rc_sm f m) ∧ gr = nI (rc_Gc m yo ya yb f) ∧ ∀ l, l < 16 → rc_Lv m yp ad lb l
def rc_Hd (m : Nat) (f : Nat → Nat) (j t : Nat) : Prop := j < m ∧ rc_sm f j ≤ t ∧ t < rc_sm f (j + 1)
theorem rc_hd_u {m : Nat} {f : Nat → Nat} {i j t : Nat} (h1 : rc_Hd m f i t) (h2 : rc_Hd m f j t) : i = j := by
  obtain ⟨a1, a2, a3⟩ := h1
  obtain ⟨b1, b2, b3⟩ := h2
  by_cases e : i < j
  · have := rc_sm_mono f (show i + 1 ≤ j by omega); omega
  · by_cases e2 : j < i
    · have := rc_sm_mono f (show j + 1 ≤ i by omega); omega
    · omega
theorem rc_hd_e {f : Nat → Nat} : ∀ {m t : Nat}, t < rc_sm f m → ∃ j, rc_Hd m f j t := by
  intro m
  induction m with
  | zero => intro t h; exact absurd h (Nat.not_lt_zero _)
  | succ m ih =>
    intro t h
    by_cases e : t < rc_sm f m
    · obtain ⟨j, h1, h2, h3⟩ := ih e
      exact ⟨j, by omega, h2, h3⟩
    · exact ⟨m, by omega, by omega, h⟩
abbrev rc_hwx (T : Nat) (x : Int32) : Prop := (x &&& 1) = 0 ∧ ¬ x < 0 ∧ ¬ nI (2 * T) ≤ x
theorem rc_hw_t {T : Nat} (hT : T ≤ 2047) {x : Int32} (h : rc_hwx T x) : ∃ t, t < T ∧ x = nI (2 * t) := by
  obtain ⟨h1, h2, h3⟩ := h
  obtain ⟨v, hv, rfl⟩ := nI_of h2
  rw [nI_leI (by omega) hv] at h3
  rw [pk_andN (by omega) 1 (by decide), show (0 : Int32) = nI 0 from rfl, nI_eq (by omega) (by omega)] at h1
  exact ⟨v / 2, by omega, congrArg nI (by omega)⟩
theorem rc_t_hw {T t : Nat} (hT : T ≤ 2047) (h : t < T) : rc_hwx T (nI (2 * t)) := by
  refine ⟨?_, nI_pos (by omega), nI_ge (by omega) (by omega)⟩
  rw [pk_andN (by omega) 1 (by decide), show 2 * t % 2 ^ 1 = 0 by omega]
  rfl
theorem rc_shr1 {t : Nat} (h : t < 2 ^ 30) : nI (2 * t) >>> ((1 : Int32) &&& 31) = nI t := by
  rw [pk_shrN (by omega) _ 1 (by decide)]
  exact congrArg nI (by omega)
def rc_stq : Nat → Nat
  | 0 => 0
  | k + 1 => 2 ^ k
theorem rc_stq_h : ∀ k, k < 7 → nI (2 ^ k) >>> ((1 : Int32) &&& 31) = nI (rc_stq k) := by decide +kernel
section
variable {mI mL mS it rs ii iB gr uo ua ub uc : Int32} {so sa sb sc lp ln im ad lb : Nat → Int32} {m : Nat} {f : Nat → Nat}
theorem rc_x_hw {post : Int32 → Prop} {x : Int32} {T : Nat} (e : iB = nI (2 * T)) (h1 : rc_hwx T x → post 1) (rc_h0 : ¬ rc_hwx T x → post 0) : wpX_isHalfword post (mI, mL, mS, it, rs, ii, iB, gr, uo, ua, ub, uc, so, sa, sb, sc, lp, ln, im, ad, lb) x := by
  subst e
  exact br_c (fun e => br_c (fun e2 => rc_h0 fun z => z.2.1 e2) (fun e2 => br_c (fun e3 => rc_h0 fun z => z.2.2 e3) (fun e3 => h1 ⟨e, e2, e3⟩))) (fun e => rc_h0 fun z => e z.1)
theorem rc_x_ih5 {post : Int32 → Prop} {t : Nat} (hm : m ≤ 64) (hb : rc_sm f m ≤ 2047) (ht : t < rc_sm f m) (hii : ii = nI m) (had : ∀ i, i ≤ m → ad i = nI (2 * rc_sm f i)) (H : ∀ j, rc_Hd m f j t → post (nI j)) : ∀ (k p : Nat), k ≤ 6 → p < m → rc_sm f p ≤ t → (m ≤ p + 2 ^ k ∨ t < rc_sm f (p + 2 ^ k)) → wX_itemHolding_5 post (nI (2 * t)) mI mL mS it rs ii iB gr uo ua ub uc so sa sb sc lp ln im ad lb (k + 1) (nI p) (nI (rc_stq k)) := by
  subst hii
  intro k
  induction k with
  | zero =>
    intro p hk hp h1 h2
    refine br_t (by decide) (H p ⟨hp, h1, ?_⟩)
    rcases h2 with h | h
    · rw [show p + 1 = m from by omega]; exact ht
    · exact h
  | succ k ih =>
    intro p hk hp h1 h2
    have hpow : 2 ^ k ≤ 32 := Nat.pow_le_pow_right (n := 2) (by decide) (show k ≤ 5 by omega)
    have hpos : 1 ≤ 2 ^ k := Nat.one_le_two_pow
    have hdbl : 2 ^ (k + 1) = 2 ^ k + 2 ^ k := by rw [Nat.pow_succ]; omega
    have e3 : nI (rc_stq (k + 1)) >>> ((1 : Int32) &&& 31) = nI (rc_stq k) := rc_stq_h k (by omega)
    have ep : nI p + nI (rc_stq (k + 1)) = nI (p + 2 ^ k) := nI_add p (2 ^ k)
    refine br_f (nI_nle hpos (show 2 ^ k < 2 ^ 31 by omega)) ?_
    rw [ep]
    by_cases c1 : m ≤ p + 2 ^ k
    · exact br_t (nI_le c1 (by omega)) (nm_r e3 (ih p (by omega) hp h1 (Or.inl c1)))
    · refine br_f (nI_ge (by omega) (by omega)) (And.intro (vp_in_nI (by omega) (by decide)) ?_)
      have hle := rc_sm_mono f (show p + 2 ^ k ≤ m by omega)
      rw [nI_clamp (by omega), had (p + 2 ^ k) (by omega)]
      by_cases c2 : t < rc_sm f (p + 2 ^ k)
      · exact br_t (nI_lt (by omega) (by omega)) (nm_r e3 (ih p (by omega) hp h1 (Or.inr c2)))
      · refine br_f (nI_nlt (by omega) (by omega)) (nm_e (nm_r e3 (ih (p + 2 ^ k) (by omega) (by omega) (by omega) ?_)))
        rw [show p + 2 ^ k + 2 ^ k = p + 2 ^ (k + 1) by omega]
        exact h2
theorem rc_x_ih {post : Int32 → Prop} {j t : Nat} (hm : m ≤ 64) (hb : rc_sm f m ≤ 2047) (hj : rc_Hd m f j t) (hii : ii = nI m) (had : ∀ i, i ≤ m → ad i = nI (2 * rc_sm f i)) (h : post (nI j)) : wpX_itemHolding post (mI, mL, mS, it, rs, ii, iB, gr, uo, ua, ub, uc, so, sa, sb, sc, lp, ln, im, ad, lb) (nI (2 * t)) := by
  have h1 := rc_sm_mono f (show j + 1 ≤ m from hj.1)
  have h2 := hj.2.2
  exact Exists.intro 7 (rc_x_ih5 hm hb (by omega) hii had (fun i hi => by rw [rc_hd_u hi hj]; exact h) 6 0 (by omega) (by have := hj.1; omega) (Nat.zero_le _) (Or.inl (by omega)))
end
theorem rc_wlo_3 (w : Int32) : rc_wlo w &&& 3 = w &&& 3 := by rw [rc_wlo_and, Int32.and_assoc, show (65535 : Int32) &&& 3 = 3 from by decide]
theorem rc_ct_0 {im : Nat → Int32} {s h : Nat} {L op a b c d : Int32} (hl : rc_LegA L op a b c) (he : rc_Ev d) (hh : 1 ≤ h) (H : rc_Ct im s h op a b c d) : im s = 0 ↔ op = 0 := by
  constructor
  · intro e
    by_cases ho : op = 0
    · exact ho
    · exfalso
      have hi := rc_la_i hl ho
      rcases H.2 ho with ⟨h1, h2, h3⟩ | ⟨h1, h2, h3⟩
      · exact (rc_ds_s (p := 0) he hi h2).2.1 (by rw [← h3]; exact e)
      · have h4 := (rc_ds_l (p := 0) he hi).1
        rw [← rc_wlo_3, ← h2, e] at h4
        exact absurd h4 (by decide)
  · intro e
    exact H.1 e 0 (by omega)
section
variable {mI mL mS it rs ii iB gr uo ua ub uc : Int32} {so sa sb sc lp ln im ad lb : Nat → Int32} {m : Nat} {f : Nat → Nat} {yo ya yb yc yl yp : Nat → Int32} {j t : Nat} {x : Int32}
theorem rc_x_su0 {post : Int32 → Prop} (B : rc_Bn m f mL ii iB gr im ad lb yo ya yb yc yl yp) (hx : ¬ rc_hwx (rc_sm f m) x) (h : post 0) : wpX_startsUnit post (mI, mL, mS, it, rs, ii, iB, gr, uo, ua, ub, uc, so, sa, sb, sc, lp, ln, im, ad, lb) x := by
  unfold wpX_startsUnit
  exact rc_x_hw B.2.2.2.2.2.2.1 (fun z => absurd z hx) (fun _ => br_t rfl h)
theorem rc_x_su {post : Int32 → Prop} (B : rc_Bn m f mL ii iB gr im ad lb yo ya yb yc yl yp) (hj : rc_Hd m f j t) (h1 : (yo j = 0 ∨ t = rc_sm f j) → post 1) (rc_h0 : ¬ (yo j = 0 ∨ t = rc_sm f j) → post 0) : wpX_startsUnit post (mI, mL, mS, it, rs, ii, iB, gr, uo, ua, ub, uc, so, sa, sb, sc, lp, ln, im, ad, lb) (nI (2 * t)) := by
  obtain ⟨hii, hs, hV, hC, hyl, had, hiB, hgr, hlb⟩ := B
  have hm := hs.1
  have hb := rc_vl_sm hs hV
  obtain ⟨j1, j2, j3⟩ := hj
  have hjm := rc_sm_mono f (show j + 1 ≤ m from j1)
  have hst : rc_sm f (j + 1) = rc_sm f j + f j := rfl
  unfold wpX_startsUnit
  refine rc_x_hw hiB (fun _ => br_f rc_n10 (rc_x_ih hm hb ⟨j1, j2, j3⟩ hii had ?_)) (fun z => absurd (rc_t_hw hb (by omega)) z)
  refine And.intro (vp_in_nI (by omega) (by decide)) (nm_r (e' := nI (2 * rc_sm f j)) (by rw [nI_clamp (by omega), had j (by omega)]) ?_)
  have hct := rc_ct_0 (hs.2.1 j j1) (rc_dsp_ev hs hV j1) (rc_vl_1 hs hV j1) (hC j j1)
  refine br_c (fun e => h1 (Or.inr ?_)) (fun e => And.intro ?_ ?_)
  · rw [nI_eq (by omega) (by omega)] at e; omega
  · rw [rc_shr1 (by omega)]; exact vp_in_nI (by omega) (by decide)
  · rw [rc_shr1 (by omega), nI_clamp (by omega)]
    refine br_c (fun e2 => h1 (Or.inl (hct.mp e2))) (fun e2 => rc_h0 fun z => ?_)
    rcases z with z | z
    · exact e2 (hct.mpr z)
    · exact e (by rw [z])
end
section
variable {mI mL mS it ii : Int32} {so sa sb sc lp yo ya yb yc yl yp : Nat → Int32} {m : Nat} {f : Nat → Nat} {iB gr : Int32} {im ad lb : Nat → Int32} {j t : Nat} {x : Int32}
theorem rc_y_u12n {post : Int32 → Prop} (hm : m ≤ 64) (hb : rc_sm f m ≤ 2047) (hii : ii = nI m) (hyl : ∀ j, j < m → yl j = nI (2 * f j)) (hx : x < 0 ∨ nI (2 * rc_sm f m) ≤ x) (h : post (-1)) : ∀ (d i : Nat), i + d = m → wY_unit_12 post x mI mL mS it ii so sa sb sc lp yo ya yb yc yl yp (d + 1) (nI (2 * rc_sm f i)) (nI i) := by
  intro d
  induction d with
  | zero =>
    intro i hi
    exact br_t (by rw [hii]; exact nI_le (by omega) (by omega)) h
  | succ d ih =>
    intro i hi
    have hi' : i < m := by omega
    have hle := rc_sm_mono f (show i + 1 ≤ m by omega)
    have hst : rc_sm f (i + 1) = rc_sm f i + f i := rfl
    have ei : (nI i).toNatClampNeg = i := nI_clamp (by omega)
    have hv : vp_in (nI i) 64 := vp_in_nI (by omega) (by decide)
    have ea : nI (2 * rc_sm f i) + yl (nI i).toNatClampNeg = nI (2 * rc_sm f (i + 1)) := by
      rw [ei, hyl i hi', nI_add]
      exact congrArg nI (by omega)
    have nx : wY_unit_57 post (wY_unit_12 post x mI mL mS it ii so sa sb sc lp yo ya yb yc yl yp (d + 1)) x (nI (2 * rc_sm f i)) (nI i) mI mL mS it ii so sa sb sc lp yo ya yb yc yl yp := And.intro hv (nm_r ea (nm_r (nI_1 i) (ih (i + 1) (by omega))))
    refine br_f (by rw [hii]; exact nI_ge (by omega) (by omega)) (br_c (fun _ => nx) (fun e => And.intro hv (br_t ?_ nx)))
    rw [ea]
    rcases hx with h | h
    · exfalso
      apply e
      have e1 := nI_pos' (n := 2 * rc_sm f i) (by omega)
      rw [Int32.lt_iff_toInt_lt] at *
      rw [Int32.le_iff_toInt_le] at e1
      omega
    · exact Int32.le_trans (nI_le (by omega) (by omega)) h
theorem rc_y_u12 {post : Int32 → Prop} (hm : m ≤ 64) (hb : rc_sm f m ≤ 2047) (hii : ii = nI m) (hyl : ∀ j, j < m → yl j = nI (2 * f j)) (hj : rc_Hd m f j t) (h1 : (yo j = 0 ∨ t = rc_sm f j) → post (nI j)) (rc_h0 : ¬ (yo j = 0 ∨ t = rc_sm f j) → post (-1)) : ∀ (d i : Nat), i + d = j → wY_unit_12 post (nI (2 * t)) mI mL mS it ii so sa sb sc lp yo ya yb yc yl yp (d + 1) (nI (2 * rc_sm f i)) (nI i) := by
  obtain ⟨j1, j2, j3⟩ := hj
  intro d
  induction d with
  | zero =>
    intro i hi
    have e : i = j := by omega
    subst e
    have hle := rc_sm_mono f (show i + 1 ≤ m by omega)
    have hst : rc_sm f (i + 1) = rc_sm f i + f i := rfl
    have ei : (nI i).toNatClampNeg = i := nI_clamp (by omega)
    have hv : vp_in (nI i) 64 := vp_in_nI (by omega) (by decide)
    have ea : nI (2 * rc_sm f i) + yl (nI i).toNatClampNeg = nI (2 * rc_sm f (i + 1)) := by
      rw [ei, hyl i j1, nI_add]
      exact congrArg nI (by omega)
    refine br_f (by rw [hii]; exact nI_ge (by omega) (by omega)) (br_f (nI_nlt (by omega) (by omega)) (And.intro hv (br_f (by rw [ea]; exact nI_ge (by omega) (by omega)) (And.intro hv ?_))))
    rw [ei]
    refine br_c (fun e => h1 (Or.inl e)) (fun e => br_c (fun e2 => h1 (Or.inr ?_)) (fun e2 => rc_h0 fun z => ?_))
    · rw [nI_eq (by omega) (by omega)] at e2; omega
    · rcases z with z | z
      · exact e z
      · exact e2 (by rw [z])
  | succ d ih =>
    intro i hi
    have hle := rc_sm_mono f (show i + 1 ≤ j by omega)
    have hle2 := rc_sm_mono f (show j + 1 ≤ m by omega)
    have hst : rc_sm f (i + 1) = rc_sm f i + f i := rfl
    have ei : (nI i).toNatClampNeg = i := nI_clamp (by omega)
    have hv : vp_in (nI i) 64 := vp_in_nI (by omega) (by decide)
    have ea : nI (2 * rc_sm f i) + yl (nI i).toNatClampNeg = nI (2 * rc_sm f (i + 1)) := by
      rw [ei, hyl i (by omega), nI_add]
      exact congrArg nI (by omega)
    exact br_f (by rw [hii]; exact nI_ge (by omega) (by omega)) (br_f (nI_nlt (by omega) (by omega)) (And.intro hv (br_t (by rw [ea]; exact nI_le (by omega) (by omega)) (And.intro hv (nm_r ea (nm_r (nI_1 i) (ih (i + 1) (by omega))))))))
theorem rc_y_un0 {post : Int32 → Prop} (B : rc_Bn m f mL ii iB gr im ad lb yo ya yb yc yl yp) (hx : ¬ rc_hwx (rc_sm f m) x) (h : post (-1)) : wpY_unit post (mI, mL, mS, it, ii, so, sa, sb, sc, lp, yo, ya, yb, yc, yl, yp) x := by
  obtain ⟨hii, hs, hV, hC, hyl, had, hiB, hgr, hlb⟩ := B
  refine br_c (fun e => Exists.intro (m + 1) (rc_y_u12n hs.1 (rc_vl_sm hs hV) hii hyl ?_ h m 0 (by omega))) (fun _ => h)
  by_cases e2 : x < 0
  · exact Or.inl e2
  · by_cases e3 : nI (2 * rc_sm f m) ≤ x
    · exact Or.inr e3
    · exact absurd ⟨e, e2, e3⟩ hx
theorem rc_y_un {post : Int32 → Prop} (B : rc_Bn m f mL ii iB gr im ad lb yo ya yb yc yl yp) (hj : rc_Hd m f j t) (h1 : (yo j = 0 ∨ t = rc_sm f j) → post (nI j)) (rc_h0 : ¬ (yo j = 0 ∨ t = rc_sm f j) → post (-1)) : wpY_unit post (mI, mL, mS, it, ii, so, sa, sb, sc, lp, yo, ya, yb, yc, yl, yp) (nI (2 * t)) := by
  obtain ⟨hii, hs, hV, hC, hyl, had, hiB, hgr, hlb⟩ := B
  have hb := rc_vl_sm hs hV
  have hle2 := rc_sm_mono f (show j + 1 ≤ m from hj.1)
  have h3 := hj.2.2
  exact br_t (rc_t_hw hb (show t < rc_sm f m by omega)).1 (Exists.intro (j + 1) (rc_y_u12 hs.1 hb hii hyl hj h1 rc_h0 j 0 (by omega)))
end
end
section
/-! decoding a unit -/
section
variable {mI mL mS it rs ii iB gr uo ua ub uc : Int32} {so sa sb sc lp ln im ad lb : Nat → Int32} {m : Nat} {f : Nat → Nat} {yo ya yb yc yl yp : Nat → Int32} {j t : Nat} {x : Int32}
theorem rc_x_dc0 {post : Int32 → SX → Prop} (h : ∀ post' : Int32 → Prop, post' 0 → wpX_startsUnit post' (mI, mL, mS, it, rs, ii, iB, gr, uo, ua, ub, uc, so, sa, sb, sc, lp, ln, im, ad, lb) x) (H : post 0 (mI, mL, mS, it, rs, ii, iB, gr, uo, ua, ub, uc, so, sa, sb, sc, lp, ln, im, ad, lb)) : wpX_decode post (mI, mL, mS, it, rs, ii, iB, gr, uo, ua, ub, uc, so, sa, sb, sc, lp, ln, im, ad, lb) x := by
  unfold wpX_decode
  exact h _ (br_t rfl H)
theorem rc_x_dcg {post : Int32 → SX → Prop} (B : rc_Bn m f mL ii iB gr im ad lb yo ya yb yc yl yp) (hj : rc_Hd m f j t) (ho : yo j = 0) (H : post 1 (mI, mL, mS, it, rs, ii, iB, gr, 0, 0, 0, 0, so, sa, sb, sc, lp, ln, im, ad, lb)) : wpX_decode post (mI, mL, mS, it, rs, ii, iB, gr, uo, ua, ub, uc, so, sa, sb, sc, lp, ln, im, ad, lb) (nI (2 * t)) := by
  unfold wpX_decode
  refine rc_x_su B hj (fun _ => br_f rc_n10 ?_) (fun z => absurd (Or.inl ho) z)
  obtain ⟨hii, hs, hV, hC, hyl, had, hiB, hgr, hlb⟩ := B
  have hb := rc_vl_sm hs hV
  obtain ⟨j1, j2, j3⟩ := hj
  have hjm := rc_sm_mono f (show j + 1 ≤ m from j1)
  have hst : rc_sm f (j + 1) = rc_sm f j + f j := rfl
  have ez : im t = 0 := by
    have := (hC j j1).1 ho (t - rc_sm f j) (by omega)
    rw [show rc_sm f j + (t - rc_sm f j) = t by omega] at this
    exact this
  refine nm_r (rc_shr1 (by omega)) (And.intro (vp_in_nI (by omega) (by decide)) (nm_r (e' := 0) (by rw [nI_clamp (by omega)]; exact ez) (nm_r (e' := 0) (by decide) ?_)))
  exact br_f (by decide) (br_f (by decide) (br_t rfl (rc_d0_g H)))
theorem rc_x_dci {post : Int32 → SX → Prop} (B : rc_Bn m f mL ii iB gr im ad lb yo ya yb yc yl yp) (j1 : j < m) (ho : ¬ yo j = 0) (H : post 1 (mI, mL, mS, it, rs, ii, iB, gr, (yo j), (ya j), (rc_tB (yo j) (yb j) (nI (2 * rc_sm f j)) (rc_dsp f yp (yo j) (yb j) (yc j) j)), (rc_tC (yo j) (yc j) (nI (2 * rc_sm f j)) (rc_dsp f yp (yo j) (yb j) (yc j) j)), so, sa, sb, sc, lp, ln, im, ad, lb)) : wpX_decode post (mI, mL, mS, it, rs, ii, iB, gr, uo, ua, ub, uc, so, sa, sb, sc, lp, ln, im, ad, lb) (nI (2 * rc_sm f j)) := by
  have hst : rc_sm f (j + 1) = rc_sm f j + f j := rfl
  have h1f := rc_vl_1 B.2.1 B.2.2.1 j1
  unfold wpX_decode
  refine rc_x_su (j := j) B ⟨j1, Nat.le_refl _, by omega⟩ (fun _ => br_f rc_n10 ?_) (fun z => absurd (Or.inr rfl) z)
  obtain ⟨hii, hs, hV, hC, hyl, had, hiB, hgr, hlb⟩ := B
  have hb := rc_vl_sm hs hV
  have hjm := rc_sm_mono f (show j + 1 ≤ m from j1)
  have hl := rc_la_i (hs.2.1 j j1) ho
  have he := rc_dsp_ev hs hV j1
  refine nm_r (rc_shr1 (by omega)) (And.intro (vp_in_nI (by omega) (by decide)) ?_)
  rcases (hC j j1).2 ho with ⟨k1, k2, k3⟩ | ⟨k1, k2, k3⟩
  · obtain ⟨s1, s2, s3⟩ := rc_ds_s (p := nI (2 * rc_sm f j)) he hl k2
    refine nm_r (e' := rc_sf (yo j) (ya j) (yb j) (yc j) (rc_dsp f yp (yo j) (yb j) (yc j) j)) (by rw [nI_clamp (by omega)]; exact k3) ?_
    rcases s3 with ⟨e, w⟩ | ⟨e, w⟩ | ⟨e, w⟩
    · exact nm_r e (br_f (by decide) (br_f (by decide) (br_t rfl (w _ _ _ _ _ _ _ _ _ _ _ _ _ _ _ _ _ _ _ _ _ _ H))))
    · exact nm_r e (br_f (by decide) (br_f (by decide) (br_f (by decide) (br_t rfl (w _ _ _ _ _ _ _ _ _ _ _ _ _ _ _ _ _ _ _ _ _ _ H)))))
    · exact nm_r e (br_f (by decide) (br_f (by decide) (br_f (by decide) (br_f (by decide) (br_t rfl (w _ _ _ _ _ _ _ _ _ _ _ _ _ _ _ _ _ _ _ _ _ _ H))))))
  · obtain ⟨l1, l2⟩ := rc_ds_l (p := nI (2 * rc_sm f j)) he hl
    refine nm_r (e' := rc_wlo (rc_lf (yo j) (ya j) (yb j) (yc j) (rc_dsp f yp (yo j) (yb j) (yc j) j))) (by rw [nI_clamp (by omega)]; exact k2) (nm_r ((rc_wlo_3 _).trans l1) ?_)
    refine br_f (by decide) (br_t (by decide) (And.intro (by rw [nI_1]; exact vp_in_nI (by omega) (by decide)) ?_))
    rw [nI_1, nI_clamp (by omega), k3]
    have ew := rc_wlo_whi (rc_lf (yo j) (ya j) (yb j) (yc j) (rc_dsp f yp (yo j) (yb j) (yc j) j))
    unfold rc_sl at ew
    rw [show (16 : Int32) = nI 16 from rfl, ew]
    exact l2 _ _ _ _ _ _ _ _ _ _ _ _ _ _ _ _ _ _ _ _ _ _ H
end
/-! the questions -/
section
variable {mI mL mS it rs ii iB gr uo ua ub uc : Int32} {so sa sb sc lp ln im ad lb yo ya yb yc yl yp : Nat → Int32} {k n m : Nat} {f : Nat → Nat} {j t : Nat} {x y : Int32}
/-- an address: no unit, a gap's unit, an instruction's, or the middle of a long one -/
theorem rc_q_c (B : rc_Bn m f mL ii iB gr im ad lb yo ya yb yc yl yp) (x : Int32) : ¬ rc_hwx (rc_sm f m) x ∨ ∃ j t, rc_Hd m f j t ∧ x = nI (2 * t) := by
  by_cases h : rc_hwx (rc_sm f m) x
  · obtain ⟨t, h1, h2⟩ := rc_hw_t (rc_vl_sm B.2.1 B.2.2.1) h
    obtain ⟨j, hj⟩ := rc_hd_e h1
    exact Or.inr ⟨j, t, hj, h2⟩
  · exact Or.inl h
theorem rc_q_opAt (hR : rc_Rs n mI mL mS it rs so sa sb sc lp) (hI : rc_Ri mL ii iB gr im ad lb yo ya yb yc yl yp) : wpX_opAt (fun r u' => wpY_opAt (fun r' => r' = r ∧ i_Rel k u' (mI, mL, mS, it, ii, so, sa, sb, sc, lp, yo, ya, yb, yc, yl, yp)) (mI, mL, mS, it, ii, so, sa, sb, sc, lp, yo, ya, yb, yc, yl, yp) x) (mI, mL, mS, it, rs, ii, iB, gr, uo, ua, ub, uc, so, sa, sb, sc, lp, ln, im, ad, lb) x := by
  obtain ⟨m, f, B'⟩ := id hI
  have B : rc_Bn m f mL ii iB gr im ad lb yo ya yb yc yl yp := B'
  have hm := B.2.1.1
  unfold wpX_opAt
  rcases rc_q_c B x with h | ⟨j, t, hj, rfl⟩
  · refine rc_x_dc0 (fun _ hp => rc_x_su0 B h hp) (br_t rfl ?_)
    unfold wpY_opAt
    exact rc_y_un0 B h (br_f (by decide) ⟨rfl, rc_mk_r hR hI⟩)
  · have j1 := hj.1
    have ej : (nI j).toNatClampNeg = j := nI_clamp (by omega)
    have hv : vp_in (nI j) 64 := vp_in_nI (by omega) (by decide)
    by_cases ho : yo j = 0
    · refine rc_x_dcg B hj ho (br_f rc_n10 ?_)
      unfold wpY_opAt
      refine rc_y_un B hj (fun _ => br_t (nI_pos' (by omega)) (And.intro hv ⟨?_, rc_mk_r hR hI⟩)) (fun z => absurd (Or.inl ho) z)
      rw [ej, ho]
    · by_cases et : t = rc_sm f j
      · rw [et] at hj ⊢
        refine rc_x_dci B j1 ho (br_f rc_n10 ?_)
        unfold wpY_opAt
        refine rc_y_un B hj (fun _ => br_t (nI_pos' (by omega)) (And.intro hv ⟨?_, rc_mk_r hR hI⟩)) (fun z => absurd (Or.inr rfl) z)
        rw [ej]
      · have hno : ¬ (yo j = 0 ∨ t = rc_sm f j) := fun z => z.elim ho et
        refine rc_x_dc0 (fun _ hp => rc_x_su B hj (fun z => absurd z hno) (fun _ => hp)) (br_t rfl ?_)
        unfold wpY_opAt
        exact rc_y_un B hj (fun z => absurd z hno) (fun _ => br_f (by decide) ⟨rfl, rc_mk_r hR hI⟩)
theorem rc_q_lengthAt (hI : rc_Ri mL ii iB gr im ad lb yo ya yb yc yl yp) (K : i_Rel k (mI, mL, mS, it, rs, ii, iB, gr, uo, ua, ub, uc, so, sa, sb, sc, lp, ln, im, ad, lb) (mI, mL, mS, it, ii, so, sa, sb, sc, lp, yo, ya, yb, yc, yl, yp)) : wpX_lengthAt (fun r => wpY_lengthAt (fun r' => r' = r ∧ i_Rel k (mI, mL, mS, it, rs, ii, iB, gr, uo, ua, ub, uc, so, sa, sb, sc, lp, ln, im, ad, lb) (mI, mL, mS, it, ii, so, sa, sb, sc, lp, yo, ya, yb, yc, yl, yp)) (mI, mL, mS, it, ii, so, sa, sb, sc, lp, yo, ya, yb, yc, yl, yp) x) (mI, mL, mS, it, rs, ii, iB, gr, uo, ua, ub, uc, so, sa, sb, sc, lp, ln, im, ad, lb) x := by
  obtain ⟨m, f, B'⟩ := hI
  have B : rc_Bn m f mL ii iB gr im ad lb yo ya yb yc yl yp := B'
  have hm := B.2.1.1
  unfold wpX_lengthAt
  rcases rc_q_c B x with h | ⟨j, t, hj, rfl⟩
  · refine rc_x_su0 B h (br_t rfl ?_)
    unfold wpY_lengthAt
    exact rc_y_un0 B h (br_f (by decide) ⟨rfl, K⟩)
  · have j1 := hj.1
    have ej : (nI j).toNatClampNeg = j := nI_clamp (by omega)
    have hv : vp_in (nI j) 64 := vp_in_nI (by omega) (by decide)
    refine rc_x_su B hj (fun hu => br_f rc_n10 ?_) (fun hno => br_t rfl ?_)
    · obtain ⟨hii, hs, hV, hC, hyl, had, hiB, hgr, hlb⟩ := B'
      have hb := rc_vl_sm hs hV
      obtain ⟨_, j2, j3⟩ := id hj
      have hjm := rc_sm_mono f (show j + 1 ≤ m from j1)
      have hst : rc_sm f (j + 1) = rc_sm f j + f j := rfl
      rw [rc_shr1 (by omega), nI_clamp (by omega)]
      refine And.intro (vp_in_nI (by omega) (by decide)) ?_
      by_cases ho : yo j = 0
      · have ez : im t = 0 := by
          have := (hC j j1).1 ho (t - rc_sm f j) (by omega)
          rw [show rc_sm f j + (t - rc_sm f j) = t by omega] at this
          exact this
        rw [ez]
        refine br_f (by decide) ?_
        unfold wpY_lengthAt
        refine rc_y_un B hj (fun _ => br_t (nI_pos' (by omega)) (And.intro hv ?_)) (fun z => absurd hu z)
        rw [ej]
        exact br_t ho ⟨rfl, K⟩
      · have et : t = rc_sm f j := hu.resolve_left ho
        have hl := rc_la_i (hs.2.1 j j1) ho
        have he := rc_dsp_ev hs hV j1
        have Y2 : ∀ r : Int32, yl j = r → wpY_lengthAt (fun r' => r' = r ∧ i_Rel k (mI, mL, mS, it, rs, ii, iB, gr, uo, ua, ub, uc, so, sa, sb, sc, lp, ln, im, ad, lb) (mI, mL, mS, it, ii, so, sa, sb, sc, lp, yo, ya, yb, yc, yl, yp)) (mI, mL, mS, it, ii, so, sa, sb, sc, lp, yo, ya, yb, yc, yl, yp) (nI (2 * t)) := by
          intro r er
          unfold wpY_lengthAt
          refine rc_y_un B hj (fun _ => br_t (nI_pos' (by omega)) (And.intro hv ?_)) (fun z => absurd hu z)
          rw [ej]
          exact br_f ho (And.intro hv ⟨er, K⟩)
        rcases (hC j j1).2 ho with ⟨k1, k2, k3⟩ | ⟨k1, k2, k3⟩
        · rw [et, k3]
          rw [et] at Y2
          obtain ⟨s1, s2, s3⟩ := rc_ds_s (p := 0) he hl k2
          refine br_f ?_ (Y2 2 (by rw [hyl j j1, k1]; rfl))
          rcases s3 with ⟨e, w⟩ | ⟨e, w⟩ | ⟨e, w⟩ <;> rw [e] <;> decide
        · rw [et, k2]
          rw [et] at Y2
          exact br_t ((rc_wlo_3 _).trans (rc_ds_l (p := 0) he hl).1) (Y2 4 (by rw [hyl j j1, k1]; rfl))
    · unfold wpY_lengthAt
      exact rc_y_un B hj (fun z => absurd z hno) (fun _ => br_f (by decide) ⟨rfl, K⟩)
theorem rc_lf_x {L op a b c d p : Int32} (hl : rc_LegI L op a b c) : (op = 17 → rc_lf op a (rc_tB op b p d) (rc_tC op c p d) (rc_tB op b p d - p) = rc_lf op a b c d) ∧ (¬ op = 17 → rc_lf op a (rc_tB op b p d) (rc_tC op c p d) (rc_tC op c p d - p) = rc_lf op a b c d) :=
  rc_lg_c (P := fun op a b c => (op = 17 → rc_lf op a (rc_tB op b p d) (rc_tC op c p d) (rc_tB op b p d - p) = rc_lf op a b c d) ∧ (¬ op = 17 → rc_lf op a (rc_tB op b p d) (rc_tC op c p d) (rc_tC op c p d - p) = rc_lf op a b c d)) (fun a b c ha hb hc => ⟨fun z => absurd z (by decide), fun _ => by rw [rc_tB_n (by decide), rc_tC_n (by decide), rc_lf_1, rc_lf_1]⟩)
    (fun a b c ha hb hc => ⟨fun z => absurd z (by decide), fun _ => by rw [rc_tB_n (by decide), rc_tC_n (by decide), rc_lf_2, rc_lf_2]⟩)
    (fun a b c ha hb hc => ⟨fun z => absurd z (by decide), fun _ => by rw [rc_tB_n (by decide), rc_tC_n (by decide), rc_lf_3, rc_lf_3]⟩)
    (fun a b c ha hb hc => ⟨fun z => absurd z (by decide), fun _ => by rw [rc_tB_n (by decide), rc_tC_n (by decide), rc_lf_4, rc_lf_4]⟩)
    (fun a b c ha hb hc => ⟨fun z => absurd z (by decide), fun _ => by rw [rc_tB_n (by decide), rc_tC_n (by decide), rc_lf_5, rc_lf_5]⟩)
    (fun a b c ha hb hc => ⟨fun z => absurd z (by decide), fun _ => by rw [rc_tB_n (by decide), rc_tC_n (by decide), rc_lf_6, rc_lf_6]⟩)
    (fun a b c ha hb hc => ⟨fun z => absurd z (by decide), fun _ => by rw [rc_tB_n (by decide), rc_tC_n (by decide), rc_lf_7, rc_lf_7]⟩)
    (fun a b c ha hb hc => ⟨fun z => absurd z (by decide), fun _ => by rw [rc_tB_n (by decide), rc_tC_n (by decide), rc_lf_8, rc_lf_8]⟩)
    (fun a b c ha hb hc => ⟨fun z => absurd z (by decide), fun _ => by rw [rc_tB_n (by decide), rc_tC_n (by decide), rc_lf_9, rc_lf_9]⟩)
    (fun a b c ha hb hc => ⟨fun z => absurd z (by decide), fun _ => by rw [rc_tB_n (by decide), rc_tC_n (by decide), rc_lf_10, rc_lf_10]⟩)
    (fun a b c ha hb hc => ⟨fun z => absurd z (by decide), fun _ => by rw [rc_tB_n (by decide), rc_tC_n (by decide), rc_lf_11, rc_lf_11]⟩)
    (fun a b c ha hb hc => ⟨fun z => absurd z (by decide), fun _ => by rw [rc_tB_n (by decide), rc_tC_n (by decide), rc_lf_12, rc_lf_12]⟩)
    (fun a b c ha hb hc => ⟨fun z => absurd z (by decide), fun _ => by rw [rc_tB_n (by decide), rc_tC_n (by decide), rc_lf_13, rc_lf_13]⟩)
    (fun a b c ha hb hc => ⟨fun z => absurd z (by decide), fun _ => by rw [rc_tB_n (by decide), rc_tC_n (by decide), rc_lf_14, rc_lf_14]⟩)
    (fun a b ha hb => ⟨fun z => absurd z (by decide), fun _ => by rw [rc_tB_n (by decide), rc_tC_n (by decide), rc_lf_15, rc_lf_15]⟩)
    (fun a b c ha hb hc => ⟨fun z => absurd z (by decide), fun _ => by rw [rc_tB_n (by decide), rc_tC_n (by decide), rc_lf_16, rc_lf_16]⟩)
    (fun a b ha hb => ⟨fun _ => by rw [rc_tB_y, rc_tC_n (by decide), rc_lf_17, rc_lf_17, Int32.add_comm, Int32.add_sub_cancel], fun z => absurd rfl z⟩)
    (fun a b c ha hb hc => ⟨fun z => absurd z (by decide), fun _ => by rw [rc_tB_n (by decide), rc_tC_y (by decide), rc_lf_18, rc_lf_18, Int32.add_comm, Int32.add_sub_cancel]⟩)
    (fun a b c ha hb hc => ⟨fun z => absurd z (by decide), fun _ => by rw [rc_tB_n (by decide), rc_tC_y (by decide), rc_lf_19, rc_lf_19, Int32.add_comm, Int32.add_sub_cancel]⟩)
    (fun a b c ha hb hc => ⟨fun z => absurd z (by decide), fun _ => by rw [rc_tB_n (by decide), rc_tC_y (by decide), rc_lf_20, rc_lf_20, Int32.add_comm, Int32.add_sub_cancel]⟩)
    (⟨fun z => absurd z (by decide), fun _ => by rw [rc_tB_n (by decide), rc_tC_n (by decide), rc_lf_21, rc_lf_21]⟩) hl
theorem rc_q_expanded (hR : rc_Rs n mI mL mS it rs so sa sb sc lp) (hI : rc_Ri mL ii iB gr im ad lb yo ya yb yc yl yp) : wpX_expandedWord (fun r u' => wpY_expandedWord (fun r' => r' = r ∧ i_Rel k u' (mI, mL, mS, it, ii, so, sa, sb, sc, lp, yo, ya, yb, yc, yl, yp)) (mI, mL, mS, it, ii, so, sa, sb, sc, lp, yo, ya, yb, yc, yl, yp) x) (mI, mL, mS, it, rs, ii, iB, gr, uo, ua, ub, uc, so, sa, sb, sc, lp, ln, im, ad, lb) x := by
  obtain ⟨m, f, B'⟩ := id hI
  have B : rc_Bn m f mL ii iB gr im ad lb yo ya yb yc yl yp := B'
  have hm := B.2.1.1
  unfold wpX_expandedWord
  rcases rc_q_c B x with h | ⟨j, t, hj, rfl⟩
  · refine rc_x_dc0 (fun _ hp => rc_x_su0 B h hp) (br_t rfl ?_)
    unfold wpY_expandedWord
    exact rc_y_un0 B h (br_t (by decide) ⟨rfl, rc_mk_r hR hI⟩)
  · have j1 := hj.1
    have ej : (nI j).toNatClampNeg = j := nI_clamp (by omega)
    have hv : vp_in (nI j) 64 := vp_in_nI (by omega) (by decide)
    by_cases ho : yo j = 0
    · refine rc_x_dcg B hj ho (br_f rc_n10 (br_f (by decide) (rc_x_lf0 ?_)))
      rw [rc_lf_0]
      unfold wpY_expandedWord
      refine rc_y_un B hj (fun _ => br_f (nI_pos (by omega)) (And.intro hv ?_)) (fun z => absurd (Or.inl ho) z)
      rw [ej]
      exact br_t ho ⟨rfl, rc_mk_r hR hI⟩
    · by_cases et : t = rc_sm f j
      · rw [et] at hj ⊢
        have hs := B.2.1
        have hV := B.2.2.1
        have hl := rc_la_i (hs.2.1 j j1) ho
        have Y2 : ∀ (r : Int32) (u : SX), i_Rel k u (mI, mL, mS, it, ii, so, sa, sb, sc, lp, yo, ya, yb, yc, yl, yp) → r = rc_lf (yo j) (ya j) (yb j) (yc j) (rc_dsp f yp (yo j) (yb j) (yc j) j) → wpY_expandedWord (fun r' => r' = r ∧ i_Rel k u (mI, mL, mS, it, ii, so, sa, sb, sc, lp, yo, ya, yb, yc, yl, yp)) (mI, mL, mS, it, ii, so, sa, sb, sc, lp, yo, ya, yb, yc, yl, yp) (nI (2 * rc_sm f j)) := by
          intro r u hu er
          unfold wpY_expandedWord
          refine rc_y_un B hj (fun _ => br_f (nI_pos (by omega)) (And.intro hv ?_)) (fun z => absurd (Or.inr rfl) z)
          rw [ej]
          exact br_f ho (rc_y_la hs B.1 B.2.2.2.2.1 j1 ho ⟨er.symm, hu⟩)
        refine rc_x_dci B j1 ho (br_f rc_n10 (br_c (fun e => rc_x_lf (rc_lg_o hl) ?_) (fun e => rc_x_lf (rc_lg_o hl) ?_)))
        · exact Y2 _ _ (rc_mk_r hR hI) ((rc_lf_x hl).1 e)
        · exact Y2 _ _ (rc_mk_r hR hI) ((rc_lf_x hl).2 e)
      · have hno : ¬ (yo j = 0 ∨ t = rc_sm f j) := fun z => z.elim ho et
        refine rc_x_dc0 (fun _ hp => rc_x_su B hj (fun z => absurd z hno) (fun _ => hp)) (br_t rfl ?_)
        unfold wpY_expandedWord
        exact rc_y_un B hj (fun z => absurd z hno) (fun _ => br_t (by decide) ⟨rfl, rc_mk_r hR hI⟩)
theorem rc_q_halfword (hI : rc_Ri mL ii iB gr im ad lb yo ya yb yc yl yp) (K : i_Rel k (mI, mL, mS, it, rs, ii, iB, gr, uo, ua, ub, uc, so, sa, sb, sc, lp, ln, im, ad, lb) (mI, mL, mS, it, ii, so, sa, sb, sc, lp, yo, ya, yb, yc, yl, yp)) : wpX_halfword (fun r => wpY_halfword (fun r' => r' = r ∧ i_Rel k (mI, mL, mS, it, rs, ii, iB, gr, uo, ua, ub, uc, so, sa, sb, sc, lp, ln, im, ad, lb) (mI, mL, mS, it, ii, so, sa, sb, sc, lp, yo, ya, yb, yc, yl, yp)) (mI, mL, mS, it, ii, so, sa, sb, sc, lp, yo, ya, yb, yc, yl, yp) x) (mI, mL, mS, it, rs, ii, iB, gr, uo, ua, ub, uc, so, sa, sb, sc, lp, ln, im, ad, lb) x := by
  obtain ⟨m, f, B'⟩ := hI
  have B : rc_Bn m f mL ii iB gr im ad lb yo ya yb yc yl yp := B'
  obtain ⟨hii, hs, hV, hC, hyl, had, hiB, hgr, hlb⟩ := B'
  have hm := hs.1
  have hb := rc_vl_sm hs hV
  unfold wpX_halfword
  rcases rc_q_c B x with h | ⟨j, t, hj, rfl⟩
  · refine rc_x_hw hiB (fun z => absurd z h) (fun _ => br_t rfl ?_)
    refine br_c (fun e => br_c (fun _ => ⟨rfl, K⟩) (fun e2 => ?_)) (fun _ => ⟨rfl, K⟩)
    unfold wpY_imageBytes
    rw [hii]
    refine rc_y_ad rfl hm hyl (Nat.le_refl m) (br_f (fun e3 => h ⟨e, e2, Int32.not_le.mpr e3⟩) ⟨rfl, ?_⟩)
    rw [← hii]
    exact K
  · have j1 := hj.1
    obtain ⟨_, j2, j3⟩ := id hj
    have hjm := rc_sm_mono f (show j + 1 ≤ m from j1)
    have hst : rc_sm f (j + 1) = rc_sm f j + f j := rfl
    have ej : (nI j).toNatClampNeg = j := nI_clamp (by omega)
    have hv : vp_in (nI j) 64 := vp_in_nI (by omega) (by decide)
    have hw2 := rc_t_hw hb (show t < rc_sm f m by omega)
    refine rc_x_hw hiB (fun _ => br_f rc_n10 ?_) (fun z => absurd hw2 z)
    rw [rc_shr1 (by omega), nI_clamp (by omega)]
    refine And.intro (vp_in_nI (by omega) (by decide)) (br_t hw2.1 (br_f hw2.2.1 ?_))
    have Y3 : ∀ P : Int32 → Prop, P (nI (2 * rc_sm f m)) → wpY_imageBytes P (mI, mL, mS, it, ii, so, sa, sb, sc, lp, yo, ya, yb, yc, yl, yp) := by
      intro P hP
      unfold wpY_imageBytes
      subst hii
      exact rc_y_ad rfl hm hyl (Nat.le_refl m) hP
    refine Y3 _ (br_t (Int32.not_le.mp hw2.2.2) ?_)
    by_cases ho : yo j = 0
    · have ez : im t = 0 := by
        have := (hC j j1).1 ho (t - rc_sm f j) (by omega)
        rw [show rc_sm f j + (t - rc_sm f j) = t by omega] at this
        exact this
      refine rc_y_un B hj (fun _ => br_t (nI_pos' (by omega)) (And.intro hv ?_)) (fun z => absurd (Or.inl ho) z)
      rw [ej]
      exact br_t ho ⟨ez.symm, K⟩
    · have hl := rc_la_i (hs.2.1 j j1) ho
      by_cases et : t = rc_sm f j
      · refine rc_y_un B hj (fun _ => br_t (nI_pos' (by omega)) (And.intro hv ?_)) (fun z => absurd (Or.inr et) z)
        rw [ej]
        refine br_f ho (And.intro hv ?_)
        rcases (hC j j1).2 ho with ⟨k1, k2, k3⟩ | ⟨k1, k2, k3⟩
        · exact br_t (by rw [hyl j j1, k1]; rfl) (rc_y_sa hs hii hyl j1 ho ⟨by rw [et, k3], K⟩)
        · exact br_f (by rw [hyl j j1, k1]; decide) (rc_y_la hs hii hyl j1 ho ⟨by rw [et, k2, rc_wlo_and], K⟩)
      · have hno : ¬ (yo j = 0 ∨ t = rc_sm f j) := fun z => z.elim ho et
        refine rc_y_un B hj (fun z => absurd z hno) (fun _ => br_f (by decide) ?_)
        have hf2 : f j = 2 := by
          rcases ((hV j j1).2 ho).1 with e | e
          · omega
          · exact e
        have e2 : nI (2 * t) - 2 = nI (2 * rc_sm f j) := by
          rw [show (2 : Int32) = nI 2 from rfl, pk_sub (by omega)]
          exact congrArg nI (by omega)
        rw [e2]
        unfold wpY_expandedWord
        refine rc_y_un (j := j) B ⟨j1, Nat.le_refl _, by omega⟩ (fun _ => br_f (nI_pos (by omega)) (And.intro hv ?_)) (fun z => absurd (Or.inr rfl) z)
        rw [ej]
        refine br_f ho (rc_y_la hs hii hyl j1 ho ⟨?_, K⟩)
        rcases (hC j j1).2 ho with ⟨k1, k2, k3⟩ | ⟨k1, k2, k3⟩
        · omega
        · rw [show t = rc_sm f j + 1 by omega, k3]
          rfl
end
end
section
/-! operandKind, operandValue -/
theorem rc_fm_0 : ∀ o, o < 22 → rc_fm o 0 ≠ 5 := by decide +kernel
theorem rc_fm_1 : ∀ o, o < 22 → (rc_fm o 1 = 5 ↔ o = 17) := by decide +kernel
theorem rc_fm_2 : ∀ o, o < 22 → (rc_fm o 2 = 5 ↔ (o = 18 ∨ o = 19 ∨ o = 20)) := by decide +kernel
theorem rc_fm_g : ∀ k, k < 3 → rc_fm 0 k = 0 := by decide +kernel
section
variable {mI mL mS it ii : Int32} {so sa sb sc lp yo ya yb yc yl yp : Nat → Int32} {m : Nat} {f : Nat → Nat} {iB gr : Int32} {im ad lb : Nat → Int32} {x : Int32}
theorem rc_y_any {post : Int32 → Prop} (B : rc_Bn m f mL ii iB gr im ad lb yo ya yb yc yl yp) (h1 : post (-1)) (h2 : ∀ j, j < m → post (nI j)) : wpY_unit post (mI, mL, mS, it, ii, so, sa, sb, sc, lp, yo, ya, yb, yc, yl, yp) x := by
  by_cases h : rc_hwx (rc_sm f m) x
  · obtain ⟨t, k1, rfl⟩ := rc_hw_t (rc_vl_sm B.2.1 B.2.2.1) h
    obtain ⟨j, hj⟩ := rc_hd_e k1
    exact rc_y_un B hj (fun _ => h2 j hj.1) (fun _ => h1)
  · exact rc_y_un0 B h h1
theorem rc_y_75g {post : Int32 → Prop} {g : Nat} {v : Int32} (hg : g < 6) (hF : rc_Ft mL g v) (h5 : g = 5 → wpY_imageLabel post (mI, mL, mS, it, ii, so, sa, sb, sc, lp, yo, ya, yb, yc, yl, yp) v) (hn : g ≠ 5 → post v) : (nI (rc_ym g) = 0 → post 0) ∧ (¬ nI (rc_ym g) = 0 → wY_operandValue_75 post (nI (rc_ym g)) v mI mL mS it ii so sa sb sc lp yo ya yb yc yl yp) := by
  have hc : g = 0 ∨ g = 1 ∨ g = 2 ∨ g = 3 ∨ g = 4 ∨ g = 5 := by omega
  rcases hc with rfl | rfl | rfl | rfl | rfl | rfl
  · have hv : v = 0 := hF
    rw [hv] at hn
    exact br_t rfl (hn (by decide))
  · exact br_f (by decide) (br_f (by decide) (hn (by decide)))
  · exact br_f (by decide) (br_f (by decide) (hn (by decide)))
  · exact br_f (by decide) (br_f (by decide) (hn (by decide)))
  · exact br_f (by decide) (br_f (by decide) (hn (by decide)))
  · exact br_f (by decide) (br_t rfl (h5 rfl))
end
section
variable {mI mL mS it rs ii iB gr uo ua ub uc : Int32} {so sa sb sc lp ln im ad lb yo ya yb yc yl yp : Nat → Int32} {k n m : Nat} {f : Nat → Nat} {j t : Nat} {x y : Int32}
theorem rc_q_kind (hR : rc_Rs n mI mL mS it rs so sa sb sc lp) (hI : rc_Ri mL ii iB gr im ad lb yo ya yb yc yl yp) : wpX_operandKind (fun r u' => wpY_operandKind (fun r' => r' = r ∧ i_Rel k u' (mI, mL, mS, it, ii, so, sa, sb, sc, lp, yo, ya, yb, yc, yl, yp)) (mI, mL, mS, it, ii, so, sa, sb, sc, lp, yo, ya, yb, yc, yl, yp) x y) (mI, mL, mS, it, rs, ii, iB, gr, uo, ua, ub, uc, so, sa, sb, sc, lp, ln, im, ad, lb) x y := by
  obtain ⟨m, f, B'⟩ := id hI
  have B : rc_Bn m f mL ii iB gr im ad lb yo ya yb yc yl yp := B'
  have hm := B.2.1.1
  by_cases h1 : y < 0
  · refine br_t h1 ?_
    unfold wpY_operandKind
    exact rc_y_any B (br_t (by decide) ⟨rfl, rc_mk_r hR hI⟩) (fun j hj => br_f (nI_pos (by omega)) (br_t h1 ⟨rfl, rc_mk_r hR hI⟩))
  by_cases h2 : 2 < y
  · refine br_f h1 (br_t h2 ?_)
    unfold wpY_operandKind
    exact rc_y_any B (br_t (by decide) ⟨rfl, rc_mk_r hR hI⟩) (fun j hj => br_f (nI_pos (by omega)) (br_f h1 (br_f (Int32.not_le.mpr h2) ⟨rfl, rc_mk_r hR hI⟩)))
  have h2' := Int32.not_lt.mp h2
  obtain ⟨q, hq, rfl⟩ := nI_of h1
  have q3 : q < 3 := by rw [show (2 : Int32) = nI 2 from rfl, nI_leI hq (by decide)] at h2'; omega
  refine br_f h1 (br_f h2 ?_)
  rcases rc_q_c B x with h | ⟨j, t, hj, rfl⟩
  · refine rc_x_dc0 (fun _ hp => rc_x_su0 B h hp) (br_t rfl ?_)
    unfold wpY_operandKind
    exact rc_y_un0 B h (br_t (by decide) ⟨rfl, rc_mk_r hR hI⟩)
  · have j1 := hj.1
    have ej : (nI j).toNatClampNeg = j := nI_clamp (by omega)
    have hv : vp_in (nI j) 64 := vp_in_nI (by omega) (by decide)
    by_cases ho : yo j = 0
    · refine rc_x_dcg B hj ho (br_f rc_n10 (rc_x_fm (o := 0) (k := q) (by decide) q3 ?_))
      rw [rc_fm_g q q3]
      refine br_t rfl ?_
      unfold wpY_operandKind
      refine rc_y_un B hj (fun _ => br_f (nI_pos (by omega)) (br_f h1 (br_t h2' (And.intro hv ?_)))) (fun z => absurd (Or.inl ho) z)
      rw [ej, ho]
      refine rc_y_tp (o := 0) (k := q) (by decide) q3 ?_
      rw [rc_fm_g q q3]
      exact br_t (by decide) ⟨rfl, rc_mk_r hR hI⟩
    · by_cases et : t = rc_sm f j
      · rw [et] at hj ⊢
        have hl := rc_la_i (B.2.1.2.1 j j1) ho
        obtain ⟨o, ho22, eo⟩ := rc_lg_o hl
        refine rc_x_dci B j1 ho (br_f rc_n10 ?_)
        have Y2 : ∀ (r : Int32) (u : SX), i_Rel k u (mI, mL, mS, it, ii, so, sa, sb, sc, lp, yo, ya, yb, yc, yl, yp) → ((nI (rc_ym (rc_fm o q)) ≤ 3 → nI (rc_ym (rc_fm o q)) = r) ∧ (¬ nI (rc_ym (rc_fm o q)) ≤ 3 → 2 = r)) → wpY_operandKind (fun r' => r' = r ∧ i_Rel k u (mI, mL, mS, it, ii, so, sa, sb, sc, lp, yo, ya, yb, yc, yl, yp)) (mI, mL, mS, it, ii, so, sa, sb, sc, lp, yo, ya, yb, yc, yl, yp) (nI (2 * rc_sm f j)) (nI q) := by
          intro r u hu hr
          unfold wpY_operandKind
          refine rc_y_un B hj (fun _ => br_f (nI_pos (by omega)) (br_f h1 (br_t h2' (And.intro hv ?_)))) (fun z => absurd (Or.inr rfl) z)
          rw [ej, eo]
          exact rc_y_tp ho22 q3 (br_c (fun e => ⟨hr.1 e, hu⟩) (fun e => ⟨hr.2 e, hu⟩))
        rw [eo]
        refine rc_x_fm ho22 q3 ?_
        have hg := rc_fm_l o ho22 q q3
        generalize rc_fm o q = g at *
        have hc : g = 0 ∨ g = 1 ∨ g = 2 ∨ g = 3 ∨ g = 4 ∨ g = 5 := by omega
        rcases hc with rfl | rfl | rfl | rfl | rfl | rfl
        · exact br_t rfl (Y2 _ _ (rc_mk_r hR hI) (by decide))
        · exact br_f (by decide) (br_t rfl (Y2 _ _ (rc_mk_r hR hI) (by decide)))
        · exact br_f (by decide) (br_f (by decide) (br_f (by decide) (Y2 _ _ (rc_mk_r hR hI) (by decide))))
        · exact br_f (by decide) (br_f (by decide) (br_f (by decide) (Y2 _ _ (rc_mk_r hR hI) (by decide))))
        · exact br_f (by decide) (br_f (by decide) (br_f (by decide) (Y2 _ _ (rc_mk_r hR hI) (by decide))))
        · exact br_f (by decide) (br_f (by decide) (br_t rfl (Y2 _ _ (rc_mk_r hR hI) (by decide))))
      · have hno : ¬ (yo j = 0 ∨ t = rc_sm f j) := fun z => z.elim ho et
        refine rc_x_dc0 (fun _ hp => rc_x_su B hj (fun z => absurd z hno) (fun _ => hp)) (br_t rfl ?_)
        unfold wpY_operandKind
        exact rc_y_un B hj (fun z => absurd z hno) (fun _ => br_t (by decide) ⟨rfl, rc_mk_r hR hI⟩)
theorem rc_q_value (hR : rc_Rs n mI mL mS it rs so sa sb sc lp) (hI : rc_Ri mL ii iB gr im ad lb yo ya yb yc yl yp) : wpX_operandValue (fun r u' => wpY_operandValue (fun r' => r' = r ∧ i_Rel k u' (mI, mL, mS, it, ii, so, sa, sb, sc, lp, yo, ya, yb, yc, yl, yp)) (mI, mL, mS, it, ii, so, sa, sb, sc, lp, yo, ya, yb, yc, yl, yp) x y) (mI, mL, mS, it, rs, ii, iB, gr, uo, ua, ub, uc, so, sa, sb, sc, lp, ln, im, ad, lb) x y := by
  obtain ⟨m, f, B'⟩ := id hI
  have B : rc_Bn m f mL ii iB gr im ad lb yo ya yb yc yl yp := B'
  have hm := B.2.1.1
  by_cases h1 : y < 0
  · refine br_t h1 ?_
    unfold wpY_operandValue
    exact rc_y_any B (br_t (by decide) ⟨rfl, rc_mk_r hR hI⟩) (fun j hj => br_f (nI_pos (by omega)) (br_t h1 ⟨rfl, rc_mk_r hR hI⟩))
  by_cases h2 : 2 < y
  · refine br_f h1 (br_t h2 ?_)
    unfold wpY_operandValue
    exact rc_y_any B (br_t (by decide) ⟨rfl, rc_mk_r hR hI⟩) (fun j hj => br_f (nI_pos (by omega)) (br_f h1 (br_f (Int32.not_le.mpr h2) ⟨rfl, rc_mk_r hR hI⟩)))
  have h2' := Int32.not_lt.mp h2
  obtain ⟨q, hq, rfl⟩ := nI_of h1
  have q3 : q < 3 := by rw [show (2 : Int32) = nI 2 from rfl, nI_leI hq (by decide)] at h2'; omega
  have hqc : q = 0 ∨ q = 1 ∨ q = 2 := by omega
  refine br_f h1 (br_f h2 ?_)
  rcases rc_q_c B x with h | ⟨j, t, hj, rfl⟩
  · refine rc_x_dc0 (fun _ hp => rc_x_su0 B h hp) (br_t rfl ?_)
    unfold wpY_operandValue
    exact rc_y_un0 B h (br_t (by decide) ⟨rfl, rc_mk_r hR hI⟩)
  · have j1 := hj.1
    have ej : (nI j).toNatClampNeg = j := nI_clamp (by omega)
    have hv : vp_in (nI j) 64 := vp_in_nI (by omega) (by decide)
    by_cases ho : yo j = 0
    · refine rc_x_dcg B hj ho (br_f rc_n10 ?_)
      have Y0 : ∀ u : SX, i_Rel k u (mI, mL, mS, it, ii, so, sa, sb, sc, lp, yo, ya, yb, yc, yl, yp) → wpY_operandValue (fun r' => r' = 0 ∧ i_Rel k u (mI, mL, mS, it, ii, so, sa, sb, sc, lp, yo, ya, yb, yc, yl, yp)) (mI, mL, mS, it, ii, so, sa, sb, sc, lp, yo, ya, yb, yc, yl, yp) (nI (2 * t)) (nI q) := by
        intro u hu
        unfold wpY_operandValue
        refine rc_y_un B hj (fun _ => br_f (nI_pos (by omega)) (br_f h1 (br_t h2' (And.intro hv ?_)))) (fun z => absurd (Or.inl ho) z)
        rw [ej, ho]
        refine rc_y_tp (o := 0) (k := q) (by decide) q3 ?_
        rw [rc_fm_g q q3]
        exact br_t (by decide) ⟨rfl, hu⟩
      exact br_c (fun _ => Y0 _ (rc_mk_r hR hI)) (fun _ => br_c (fun _ => Y0 _ (rc_mk_r hR hI)) (fun _ => Y0 _ (rc_mk_r hR hI)))
    · by_cases et : t = rc_sm f j
      · rw [et] at hj ⊢
        obtain ⟨hii, hs, hV, hC, hyl, had, hiB, hgr, hlb⟩ := B'
        have hl := rc_la_i (hs.2.1 j j1) ho
        obtain ⟨o, o1, o22, eo, ha, hb, hc⟩ := id hl
        have hlabel : 0 ≤ rc_lab (yo j) (yb j) (yc j) → ∀ (P : Int32 → Prop), P (nI (2 * rc_sm f j) + rc_dsp f yp (yo j) (yb j) (yc j) j) → wpY_imageLabel P (mI, mL, mS, it, ii, so, sa, sb, sc, lp, yo, ya, yb, yc, yl, yp) (rc_lab (yo j) (yb j) (yc j)) := by
          intro hlb2 P hP
          obtain ⟨l, p, hl1, e1, e2, hp⟩ := hs.2.2.1 j j1 hlb2
          have hL := rc_lb_l hl hlb2
          have ed : rc_dsp f yp (yo j) (yb j) (yc j) j = nI (2 * rc_sm f p) - nI (2 * rc_sm f j) := by
            unfold rc_dsp
            rw [if_pos hlb2, rc_ps_e hl1 (by omega) e1 e2]
          rw [ed, Int32.add_comm, Int32.sub_add_cancel] at hP
          rw [e1] at hL ⊢
          exact rc_y_il hii hm hyl hl1 hL hp e2 hP
        have YV : ∀ (r : Int32) (u : SX), i_Rel k u (mI, mL, mS, it, ii, so, sa, sb, sc, lp, yo, ya, yb, yc, yl, yp) → ((nI (rc_ym (rc_fm o q)) = 0 → 0 = r) ∧ (¬ nI (rc_ym (rc_fm o q)) = 0 → ((q = 0 → wY_operandValue_75 (fun r' => r' = r ∧ i_Rel k u (mI, mL, mS, it, ii, so, sa, sb, sc, lp, yo, ya, yb, yc, yl, yp)) (nI (rc_ym (rc_fm o q))) (ya j) mI mL mS it ii so sa sb sc lp yo ya yb yc yl yp) ∧ (q = 1 → wY_operandValue_75 (fun r' => r' = r ∧ i_Rel k u (mI, mL, mS, it, ii, so, sa, sb, sc, lp, yo, ya, yb, yc, yl, yp)) (nI (rc_ym (rc_fm o q))) (yb j) mI mL mS it ii so sa sb sc lp yo ya yb yc yl yp) ∧ (q = 2 → wY_operandValue_75 (fun r' => r' = r ∧ i_Rel k u (mI, mL, mS, it, ii, so, sa, sb, sc, lp, yo, ya, yb, yc, yl, yp)) (nI (rc_ym (rc_fm o q))) (yc j) mI mL mS it ii so sa sb sc lp yo ya yb yc yl yp)))) → wpY_operandValue (fun r' => r' = r ∧ i_Rel k u (mI, mL, mS, it, ii, so, sa, sb, sc, lp, yo, ya, yb, yc, yl, yp)) (mI, mL, mS, it, ii, so, sa, sb, sc, lp, yo, ya, yb, yc, yl, yp) (nI (2 * rc_sm f j)) (nI q) := by
          intro r u hu hr
          unfold wpY_operandValue
          refine rc_y_un B hj (fun _ => br_f (nI_pos (by omega)) (br_f h1 (br_t h2' (And.intro hv ?_)))) (fun z => absurd (Or.inr rfl) z)
          rw [ej, eo]
          refine rc_y_tp o22 q3 (br_c (fun e => ⟨hr.1 e, hu⟩) (fun e => ?_))
          have hr2 := hr.2 e
          rcases hqc with e3 | e3 | e3
          · have k3 := hr2.1 e3
            subst e3
            exact br_t rfl (And.intro hv k3)
          · have k3 := hr2.2.1 e3
            subst e3
            exact br_f (by decide) (br_t rfl (And.intro hv k3))
          · have k3 := hr2.2.2 e3
            subst e3
            exact br_f (by decide) (br_f (by decide) (And.intro hv k3))
        refine rc_x_dci B j1 ho (br_f rc_n10 ?_)
        have h17 : yo j = 17 ↔ o = 17 := by rw [eo, show (17 : Int32) = nI 17 from rfl, nI_eq (by omega) (by omega)]
        have h18 : (yo j = 18 ∨ yo j = 19 ∨ yo j = 20) ↔ (o = 18 ∨ o = 19 ∨ o = 20) := by
          rw [eo, show (18 : Int32) = nI 18 from rfl, show (19 : Int32) = nI 19 from rfl, show (20 : Int32) = nI 20 from rfl, nI_eq (by omega) (by omega), nI_eq (by omega) (by omega), nI_eq (by omega) (by omega)]
        rcases hqc with e3 | e3 | e3
        · refine br_t (by rw [e3]; rfl) (YV _ _ (rc_mk_r hR hI) ?_)
          subst e3
          have kk := rc_y_75g (mI := mI) (mS := mS) (it := it) (ii := ii) (so := so) (sa := sa) (sb := sb) (sc := sc) (lp := lp) (yo := yo) (ya := ya) (yb := yb) (yc := yc) (yl := yl) (yp := yp) (post := fun r' => r' = ya j) (rc_fm_l o o22 0 (by decide)) ha (fun z => absurd z (rc_fm_0 o o22)) (fun _ => rfl)
          have kk2 : ∀ u : SX, i_Rel k u (mI, mL, mS, it, ii, so, sa, sb, sc, lp, yo, ya, yb, yc, yl, yp) → (¬ nI (rc_ym (rc_fm o 0)) = 0 → wY_operandValue_75 (fun r' => r' = ya j ∧ i_Rel k u (mI, mL, mS, it, ii, so, sa, sb, sc, lp, yo, ya, yb, yc, yl, yp)) (nI (rc_ym (rc_fm o 0))) (ya j) mI mL mS it ii so sa sb sc lp yo ya yb yc yl yp) := fun u hu => (rc_y_75g (post := fun r' => r' = ya j ∧ i_Rel k u (mI, mL, mS, it, ii, so, sa, sb, sc, lp, yo, ya, yb, yc, yl, yp)) (rc_fm_l o o22 0 (by decide)) ha (fun z => absurd z (rc_fm_0 o o22)) (fun _ => ⟨rfl, hu⟩)).2
          exact ⟨kk.1, fun e => ⟨fun _ => kk2 _ (rc_mk_r hR hI) e, fun z => absurd z (by decide), fun z => absurd z (by decide)⟩⟩
        · refine br_f (by rw [e3]; decide) (br_t (by rw [e3]; rfl) (YV _ _ (rc_mk_r hR hI) ?_))
          subst e3
          have hb5 : rc_fm o 1 = 5 → yb j = rc_lab (yo j) (yb j) (yc j) ∧ 0 ≤ rc_lab (yo j) (yb j) (yc j) ∧ rc_tB (yo j) (yb j) (nI (2 * rc_sm f j)) (rc_dsp f yp (yo j) (yb j) (yc j) j) = nI (2 * rc_sm f j) + rc_dsp f yp (yo j) (yb j) (yc j) j := by
            intro e5
            have e17 := h17.mpr ((rc_fm_1 o o22).mp e5)
            rw [e5] at hb
            have hbL : rc_Lb mL (yb j) := hb
            have el : rc_lab (yo j) (yb j) (yc j) = yb j := by unfold rc_lab; rw [if_pos e17]
            refine ⟨el.symm, by rw [el]; exact Int32.not_lt.mp hbL.1, ?_⟩
            unfold rc_tB
            rw [if_pos e17]
          have hbn : rc_fm o 1 ≠ 5 → rc_tB (yo j) (yb j) (nI (2 * rc_sm f j)) (rc_dsp f yp (yo j) (yb j) (yc j) j) = yb j := fun e5 => rc_tB_n fun z => e5 ((rc_fm_1 o o22).mpr (h17.mp z))
          have kk : ∀ P : Int32 → Prop, P (rc_tB (yo j) (yb j) (nI (2 * rc_sm f j)) (rc_dsp f yp (yo j) (yb j) (yc j) j)) → (nI (rc_ym (rc_fm o 1)) = 0 → P 0) ∧ (¬ nI (rc_ym (rc_fm o 1)) = 0 → wY_operandValue_75 P (nI (rc_ym (rc_fm o 1))) (yb j) mI mL mS it ii so sa sb sc lp yo ya yb yc yl yp) := by
            intro P hP
            refine rc_y_75g (rc_fm_l o o22 1 (by decide)) hb (fun e5 => ?_) (fun e5 => ?_)
            · obtain ⟨p1, p2, p3⟩ := hb5 e5
              rw [p3] at hP
              have := hlabel p2 P hP
              rw [← p1] at this
              exact this
            · rw [hbn e5] at hP
              exact hP
          refine ⟨(kk (fun r' => r' = _) rfl).1, fun e => ⟨fun z => absurd z (by decide), fun _ => ?_, fun z => absurd z (by decide)⟩⟩
          exact (kk (fun r' => r' = _ ∧ i_Rel k _ (mI, mL, mS, it, ii, so, sa, sb, sc, lp, yo, ya, yb, yc, yl, yp)) ⟨rfl, rc_mk_r hR hI⟩).2 e
        · refine br_f (by rw [e3]; decide) (br_f (by rw [e3]; decide) (YV _ _ (rc_mk_r hR hI) ?_))
          subst e3
          have hb5 : rc_fm o 2 = 5 → yc j = rc_lab (yo j) (yb j) (yc j) ∧ 0 ≤ rc_lab (yo j) (yb j) (yc j) ∧ rc_tC (yo j) (yc j) (nI (2 * rc_sm f j)) (rc_dsp f yp (yo j) (yb j) (yc j) j) = nI (2 * rc_sm f j) + rc_dsp f yp (yo j) (yb j) (yc j) j := by
            intro e5
            have e18 := h18.mpr ((rc_fm_2 o o22).mp e5)
            rw [e5] at hc
            have hcL : rc_Lb mL (yc j) := hc
            have el : rc_lab (yo j) (yb j) (yc j) = yc j := by
              rcases e18 with z | z | z <;> rw [z] <;> exact rc_lab_c (by decide) (by decide) (by decide)
            refine ⟨el.symm, by rw [el]; exact Int32.not_lt.mp hcL.1, ?_⟩
            exact rc_tC_y e18
          have hbn : rc_fm o 2 ≠ 5 → rc_tC (yo j) (yc j) (nI (2 * rc_sm f j)) (rc_dsp f yp (yo j) (yb j) (yc j) j) = yc j := fun e5 => rc_tC_n fun z => e5 ((rc_fm_2 o o22).mpr (h18.mp z))
          have kk : ∀ P : Int32 → Prop, P (rc_tC (yo j) (yc j) (nI (2 * rc_sm f j)) (rc_dsp f yp (yo j) (yb j) (yc j) j)) → (nI (rc_ym (rc_fm o 2)) = 0 → P 0) ∧ (¬ nI (rc_ym (rc_fm o 2)) = 0 → wY_operandValue_75 P (nI (rc_ym (rc_fm o 2))) (yc j) mI mL mS it ii so sa sb sc lp yo ya yb yc yl yp) := by
            intro P hP
            refine rc_y_75g (rc_fm_l o o22 2 (by decide)) hc (fun e5 => ?_) (fun e5 => ?_)
            · obtain ⟨p1, p2, p3⟩ := hb5 e5
              rw [p3] at hP
              have := hlabel p2 P hP
              rw [← p1] at this
              exact this
            · rw [hbn e5] at hP
              exact hP
          refine ⟨(kk (fun r' => r' = _) rfl).1, fun e => ⟨fun z => absurd z (by decide), fun z => absurd z (by decide), fun _ => ?_⟩⟩
          exact (kk (fun r' => r' = _ ∧ i_Rel k _ (mI, mL, mS, it, ii, so, sa, sb, sc, lp, yo, ya, yb, yc, yl, yp)) ⟨rfl, rc_mk_r hR hI⟩).2 e
      · have hno : ¬ (yo j = 0 ∨ t = rc_sm f j) := fun z => z.elim ho et
        refine rc_x_dc0 (fun _ hp => rc_x_su B hj (fun z => absurd z hno) (fun _ => hp)) (br_t rfl ?_)
        unfold wpY_operandValue
        exact rc_y_un B hj (fun z => absurd z hno) (fun _ => br_t (by decide) ⟨rfl, rc_mk_r hR hI⟩)
end
end
section
/-! what is owed -/
theorem i_vc_add {k : Nat} {u : SX} {v : SY} (I : i_Rel k u v) (hk : k + 5 ≤ 2563) (v1 : Int32) (v2 : Int32) (v3 : Int32) (v4 : Int32) : wpX_add (fun r u' => wpY_add (fun r' v' => r' = r ∧ i_Rel (k + 5) u' v') v v1 v2 v3 v4) u v1 v2 v3 v4 := by
  refine rc_zz_el (P := fun u v => wpX_add (fun r u' => wpY_add (fun r' v' => r' = r ∧ i_Rel (k + 5) u' v') v v1 v2 v3 v4) u v1 v2 v3 v4) ?_ I
  intro mI mL mS it rs ii iB gr uo ua ub uc so sa sb sc lp ln im ad lb yo ya yb yc yl yp n hR hI
  exact rc_m_add hR hI
theorem i_vc_gap {k : Nat} {u : SX} {v : SY} (I : i_Rel k u v) (hk : k + 5 ≤ 2563) (v1 : Int32) : wpX_gap (fun r u' => wpY_gap (fun r' v' => r' = r ∧ i_Rel (k + 5) u' v') v v1) u v1 := by
  refine rc_zz_el (P := fun u v => wpX_gap (fun r u' => wpY_gap (fun r' v' => r' = r ∧ i_Rel (k + 5) u' v') v v1) u v1) ?_ I
  intro mI mL mS it rs ii iB gr uo ua ub uc so sa sb sc lp ln im ad lb yo ya yb yc yl yp n hR hI
  exact rc_m_gap hR hI
theorem i_vc_bind {k : Nat} {u : SX} {v : SY} (I : i_Rel k u v) (hk : k + 5 ≤ 2563) (v1 : Int32) : wpX_bind (fun r u' => wpY_bind (fun r' v' => r' = r ∧ i_Rel (k + 5) u' v') v v1) u v1 := by
  refine rc_zz_el (P := fun u v => wpX_bind (fun r u' => wpY_bind (fun r' v' => r' = r ∧ i_Rel (k + 5) u' v') v v1) u v1) ?_ I
  intro mI mL mS it rs ii iB gr uo ua ub uc so sa sb sc lp ln im ad lb yo ya yb yc yl yp n hR hI
  exact rc_m_bind hR hI
theorem i_vc_removeLast {k : Nat} {u : SX} {v : SY} (I : i_Rel k u v) (hk : k + 5 ≤ 2563) : wpX_removeLast (fun r u' => wpY_removeLast (fun r' v' => r' = r ∧ i_Rel (k + 5) u' v') v) u := by
  refine rc_zz_el (P := fun u v => wpX_removeLast (fun r u' => wpY_removeLast (fun r' v' => r' = r ∧ i_Rel (k + 5) u' v') v) u) ?_ I
  intro mI mL mS it rs ii iB gr uo ua ub uc so sa sb sc lp ln im ad lb yo ya yb yc yl yp n hR hI
  exact rc_m_remove hR hI
theorem i_vc_clear {k : Nat} {u : SX} {v : SY} (I : i_Rel k u v) (hk : k + 5 ≤ 2563) : wpX_clear (fun u' => wpY_clear (fun v' => i_Rel (k + 5) u' v') v) u := by
  refine rc_zz_el (P := fun u v => wpX_clear (fun u' => wpY_clear (fun v' => i_Rel (k + 5) u' v') v) u) ?_ I
  intro mI mL mS it rs ii iB gr uo ua ub uc so sa sb sc lp ln im ad lb yo ya yb yc yl yp n hR hI
  exact rc_m_clear hR hI
theorem i_vc_retarget {k : Nat} {u : SX} {v : SY} (I : i_Rel k u v) (hk : k + 5 ≤ 2563) (v1 : Int32) (v2 : Int32) : wpX_retarget (fun r u' => wpY_retarget (fun r' v' => r' = r ∧ i_Rel (k + 5) u' v') v v1 v2) u v1 v2 := by
  refine rc_zz_el (P := fun u v => wpX_retarget (fun r u' => wpY_retarget (fun r' v' => r' = r ∧ i_Rel (k + 5) u' v') v v1 v2) u v1 v2) ?_ I
  intro mI mL mS it rs ii iB gr uo ua ub uc so sa sb sc lp ln im ad lb yo ya yb yc yl yp n hR hI
  exact rc_m_retarget hR hI
theorem i_vc_setGap {k : Nat} {u : SX} {v : SY} (I : i_Rel k u v) (hk : k + 5 ≤ 2563) (v1 : Int32) (v2 : Int32) : wpX_setGap (fun r u' => wpY_setGap (fun r' v' => r' = r ∧ i_Rel (k + 5) u' v') v v1 v2) u v1 v2 := by
  refine rc_zz_el (P := fun u v => wpX_setGap (fun r u' => wpY_setGap (fun r' v' => r' = r ∧ i_Rel (k + 5) u' v') v v1 v2) u v1 v2) ?_ I
  intro mI mL mS it rs ii iB gr uo ua ub uc so sa sb sc lp ln im ad lb yo ya yb yc yl yp n hR hI
  exact rc_m_setGap hR hI
theorem i_vc_assemble {k : Nat} {u : SX} {v : SY} (I : i_Rel k u v) (hk : k + 5 ≤ 2563) : wpX_assemble (fun r u' => wpY_assemble (fun r' v' => r' = r ∧ i_Rel (k + 5) u' v') v) u := by
  refine rc_zz_el (P := fun u v => wpX_assemble (fun r u' => wpY_assemble (fun r' v' => r' = r ∧ i_Rel (k + 5) u' v') v) u) ?_ I
  intro mI mL mS it rs ii iB gr uo ua ub uc so sa sb sc lp ln im ad lb yo ya yb yc yl yp n hR hI
  exact rc_m_assemble hR hI
theorem i_vc_itemCount {k : Nat} {u : SX} {v : SY} (I : i_Rel k u v) (hk : k + 5 ≤ 2563) : wpX_itemCount (fun r => wpY_itemCount (fun r' => r' = r ∧ i_Rel (k + 5) u v) v) u := by
  refine rc_zz_el (P := fun u v => wpX_itemCount (fun r => wpY_itemCount (fun r' => r' = r ∧ i_Rel (k + 5) u v) v) u) ?_ I
  intro mI mL mS it rs ii iB gr uo ua ub uc so sa sb sc lp ln im ad lb yo ya yb yc yl yp n hR hI
  exact ⟨rfl, rc_mk_r hR hI⟩
theorem i_vc_labelItem {k : Nat} {u : SX} {v : SY} (I : i_Rel k u v) (hk : k + 5 ≤ 2563) (v1 : Int32) : wpX_labelItem (fun r => wpY_labelItem (fun r' => r' = r ∧ i_Rel (k + 5) u v) v v1) u v1 := by
  refine rc_zz_el (P := fun u v => wpX_labelItem (fun r => wpY_labelItem (fun r' => r' = r ∧ i_Rel (k + 5) u v) v v1) u v1) ?_ I
  intro mI mL mS it rs ii iB gr uo ua ub uc so sa sb sc lp ln im ad lb yo ya yb yc yl yp n hR hI
  exact rc_m_labelItem hR (rc_mk_r hR hI)
theorem i_vc_sourceField {k : Nat} {u : SX} {v : SY} (I : i_Rel k u v) (hk : k + 5 ≤ 2563) (v1 : Int32) (v2 : Int32) : wpX_sourceField (fun r => wpY_sourceField (fun r' => r' = r ∧ i_Rel (k + 5) u v) v v1 v2) u v1 v2 := by
  refine rc_zz_el (P := fun u v => wpX_sourceField (fun r => wpY_sourceField (fun r' => r' = r ∧ i_Rel (k + 5) u v) v v1 v2) u v1 v2) ?_ I
  intro mI mL mS it rs ii iB gr uo ua ub uc so sa sb sc lp ln im ad lb yo ya yb yc yl yp n hR hI
  exact rc_m_sourceField hR (rc_mk_r hR hI)
theorem i_vc_imageBytes {k : Nat} {u : SX} {v : SY} (I : i_Rel k u v) (hk : k + 5 ≤ 2563) : wpX_imageBytes (fun r => wpY_imageBytes (fun r' => r' = r ∧ i_Rel (k + 5) u v) v) u := by
  refine rc_zz_el (P := fun u v => wpX_imageBytes (fun r => wpY_imageBytes (fun r' => r' = r ∧ i_Rel (k + 5) u v) v) u) ?_ I
  intro mI mL mS it rs ii iB gr uo ua ub uc so sa sb sc lp ln im ad lb yo ya yb yc yl yp n hR hI
  exact rc_m_imageBytes hI (rc_mk_r hR hI)
theorem i_vc_imageLabel {k : Nat} {u : SX} {v : SY} (I : i_Rel k u v) (hk : k + 5 ≤ 2563) (v1 : Int32) : wpX_imageLabel (fun r => wpY_imageLabel (fun r' => r' = r ∧ i_Rel (k + 5) u v) v v1) u v1 := by
  refine rc_zz_el (P := fun u v => wpX_imageLabel (fun r => wpY_imageLabel (fun r' => r' = r ∧ i_Rel (k + 5) u v) v v1) u v1) ?_ I
  intro mI mL mS it rs ii iB gr uo ua ub uc so sa sb sc lp ln im ad lb yo ya yb yc yl yp n hR hI
  exact rc_m_imageLabel hR hI (rc_mk_r hR hI)
theorem i_vc_addressOf {k : Nat} {u : SX} {v : SY} (I : i_Rel k u v) (hk : k + 5 ≤ 2563) (v1 : Int32) : wpX_addressOf (fun r => wpY_addressOf (fun r' => r' = r ∧ i_Rel (k + 5) u v) v v1) u v1 := by
  refine rc_zz_el (P := fun u v => wpX_addressOf (fun r => wpY_addressOf (fun r' => r' = r ∧ i_Rel (k + 5) u v) v v1) u v1) ?_ I
  intro mI mL mS it rs ii iB gr uo ua ub uc so sa sb sc lp ln im ad lb yo ya yb yc yl yp n hR hI
  exact rc_m_addressOf hI (rc_mk_r hR hI)
theorem i_vc_halfword {k : Nat} {u : SX} {v : SY} (I : i_Rel k u v) (hk : k + 5 ≤ 2563) (v1 : Int32) : wpX_halfword (fun r => wpY_halfword (fun r' => r' = r ∧ i_Rel (k + 5) u v) v v1) u v1 := by
  refine rc_zz_el (P := fun u v => wpX_halfword (fun r => wpY_halfword (fun r' => r' = r ∧ i_Rel (k + 5) u v) v v1) u v1) ?_ I
  intro mI mL mS it rs ii iB gr uo ua ub uc so sa sb sc lp ln im ad lb yo ya yb yc yl yp n hR hI
  exact rc_q_halfword hI (rc_mk_r hR hI)
theorem i_vc_lengthAt {k : Nat} {u : SX} {v : SY} (I : i_Rel k u v) (hk : k + 5 ≤ 2563) (v1 : Int32) : wpX_lengthAt (fun r => wpY_lengthAt (fun r' => r' = r ∧ i_Rel (k + 5) u v) v v1) u v1 := by
  refine rc_zz_el (P := fun u v => wpX_lengthAt (fun r => wpY_lengthAt (fun r' => r' = r ∧ i_Rel (k + 5) u v) v v1) u v1) ?_ I
  intro mI mL mS it rs ii iB gr uo ua ub uc so sa sb sc lp ln im ad lb yo ya yb yc yl yp n hR hI
  exact rc_q_lengthAt hI (rc_mk_r hR hI)
theorem i_vc_opAt {k : Nat} {u : SX} {v : SY} (I : i_Rel k u v) (hk : k + 5 ≤ 2563) (v1 : Int32) : wpX_opAt (fun r u' => wpY_opAt (fun r' => r' = r ∧ i_Rel (k + 5) u' v) v v1) u v1 := by
  refine rc_zz_el (P := fun u v => wpX_opAt (fun r u' => wpY_opAt (fun r' => r' = r ∧ i_Rel (k + 5) u' v) v v1) u v1) ?_ I
  intro mI mL mS it rs ii iB gr uo ua ub uc so sa sb sc lp ln im ad lb yo ya yb yc yl yp n hR hI
  exact rc_q_opAt hR hI
theorem i_vc_operandKind {k : Nat} {u : SX} {v : SY} (I : i_Rel k u v) (hk : k + 5 ≤ 2563) (v1 : Int32) (v2 : Int32) : wpX_operandKind (fun r u' => wpY_operandKind (fun r' => r' = r ∧ i_Rel (k + 5) u' v) v v1 v2) u v1 v2 := by
  refine rc_zz_el (P := fun u v => wpX_operandKind (fun r u' => wpY_operandKind (fun r' => r' = r ∧ i_Rel (k + 5) u' v) v v1 v2) u v1 v2) ?_ I
  intro mI mL mS it rs ii iB gr uo ua ub uc so sa sb sc lp ln im ad lb yo ya yb yc yl yp n hR hI
  exact rc_q_kind hR hI
theorem i_vc_operandValue {k : Nat} {u : SX} {v : SY} (I : i_Rel k u v) (hk : k + 5 ≤ 2563) (v1 : Int32) (v2 : Int32) : wpX_operandValue (fun r u' => wpY_operandValue (fun r' => r' = r ∧ i_Rel (k + 5) u' v) v v1 v2) u v1 v2 := by
  refine rc_zz_el (P := fun u v => wpX_operandValue (fun r u' => wpY_operandValue (fun r' => r' = r ∧ i_Rel (k + 5) u' v) v v1 v2) u v1 v2) ?_ I
  intro mI mL mS it rs ii iB gr uo ua ub uc so sa sb sc lp ln im ad lb yo ya yb yc yl yp n hR hI
  exact rc_q_value hR hI
theorem i_vc_expandedWord {k : Nat} {u : SX} {v : SY} (I : i_Rel k u v) (hk : k + 5 ≤ 2563) (v1 : Int32) : wpX_expandedWord (fun r u' => wpY_expandedWord (fun r' => r' = r ∧ i_Rel (k + 5) u' v) v v1) u v1 := by
  refine rc_zz_el (P := fun u v => wpX_expandedWord (fun r u' => wpY_expandedWord (fun r' => r' = r ∧ i_Rel (k + 5) u' v) v v1) u v1) ?_ I
  intro mI mL mS it rs ii iB gr uo ua ub uc so sa sb sc lp ln im ad lb yo ya yb yc yl yp n hR hI
  exact rc_q_expanded hR hI
theorem i_vc_grownCount {k : Nat} {u : SX} {v : SY} (I : i_Rel k u v) (hk : k + 5 ≤ 2563) : wpX_grownCount (fun r => wpY_grownCount (fun r' => r' = r ∧ i_Rel (k + 5) u v) v) u := by
  refine rc_zz_el (P := fun u v => wpX_grownCount (fun r => wpY_grownCount (fun r' => r' = r ∧ i_Rel (k + 5) u v) v) u) ?_ I
  intro mI mL mS it rs ii iB gr uo ua ub uc so sa sb sc lp ln im ad lb yo ya yb yc yl yp n hR hI
  exact rc_m_grown hI (rc_mk_r hR hI)
end
