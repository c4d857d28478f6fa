section
/-! pure rows to paste: stores, nI and lN arithmetic, masks, shifts, narrowing, branches by naturals (pk_le, pk_lt, pk_eq), loops (lp1 .. lp16: the measure of the state; rp1 ..: recursion), negatives. Take what you need -/
theorem pk_us {f : Nat → Int32} {k : Nat} {x : Int32} : upd f k x k = x := if_pos rfl
theorem pk_un {f : Nat → Int32} {k j : Nat} {x : Int32} (h : j ≠ k) : upd f k x j = f j := if_neg h
theorem pk_uLs {f : Nat → Int64} {k : Nat} {x : Int64} : vp_updL f k x k = x := if_pos rfl
theorem pk_uLn {f : Nat → Int64} {k j : Nat} {x : Int64} (h : j ≠ k) : vp_updL f k x j = f j := if_neg h
theorem pk_sub {a b : Nat} (h : b ≤ a) : nI a - nI b = nI (a - b) := by
  obtain ⟨c, rfl⟩ : ∃ c, a = c + b := ⟨a - b, by omega⟩
  rw [← nI_add, Int32.add_sub_cancel, Nat.add_sub_cancel]
theorem pk_m1 (n : Nat) : nI (n + 1) + (-1) = nI n := by
  rw [← nI_1, Int32.add_assoc, show (1 : Int32) + (-1) = 0 from rfl, Int32.add_zero]
theorem pk_mul (a b : Nat) : nI a * nI b = nI (a * b) := (Int32.ofNat_mul a b).symm
theorem pk_div {a d : Nat} (ha : a < 2 ^ 31) (h0 : 0 < d) (hd : d < 2 ^ 31) : nI a / nI d = nI (a / d) := by
  apply Int32.toInt_inj.mp
  rw [lg_idiv_nonneg (by rw [nI_toInt ha]; omega) (by rw [nI_toInt hd]; omega), nI_toInt ha, nI_toInt hd, nI_toInt (Nat.lt_of_le_of_lt (Nat.div_le_self a d) ha)]
  first | rfl | exact (Int.natCast_ediv _ _).symm
theorem pk_rem {a d : Nat} (ha : a < 2 ^ 31) (h0 : 0 < d) (hd : d < 2 ^ 31) : nI a - nI a / nI d * nI d = nI (a % d) := by
  rw [pk_div ha h0 hd, pk_mul, pk_sub (Nat.div_mul_le_self a d)]
  exact congrArg nI (by have := Nat.div_add_mod' a d; omega)
theorem pk_sub_toInt {a b : Nat} (ha : a < 2 ^ 30) (hb : b < 2 ^ 30) : (nI a - nI b).toInt = (a : Int) - b := by
  rw [Int32.toInt_sub, nI_toInt (by omega), nI_toInt (by omega)]
  exact Int.bmod_eq_of_le (by omega) (by omega)
theorem pk_sneg {a b : Nat} (hb : b < 2 ^ 30) (h : a < b) : nI a - nI b < 0 := by
  rw [Int32.lt_iff_toInt_lt, pk_sub_toInt (by omega) hb, show (0 : Int32).toInt = 0 from by decide]
  omega
theorem pk_ix (x : Int32) {n : Nat} (hn : n < 2 ^ 31) : x < 0 ∨ nI n ≤ x ∨ ∃ j : Nat, j < n ∧ x = nI j := by
  by_cases h : x < 0
  · exact Or.inl h
  · obtain ⟨j, hj, rfl⟩ := nI_of h
    by_cases h2 : j < n
    · exact Or.inr (Or.inr ⟨j, h2, rfl⟩)
    · exact Or.inr (Or.inl (nI_le (by omega) hj))
theorem pk_le {x y : Int32} {A B : Prop} (a b : Nat) (f : a ≤ b → A) (g : b < a → B) (hx : x = nI a := by rfl) (hy : y = nI b := by rfl) (ha : a < 2 ^ 31 := by omega) (hb : b < 2 ^ 31 := by omega) : (x ≤ y → A) ∧ (¬ x ≤ y → B) := by
  subst hx hy
  rw [nI_leI ha hb]
  exact ⟨f, fun z => g (by omega)⟩
theorem pk_lt {x y : Int32} {A B : Prop} (a b : Nat) (f : a < b → A) (g : b ≤ a → B) (hx : x = nI a := by rfl) (hy : y = nI b := by rfl) (ha : a < 2 ^ 31 := by omega) (hb : b < 2 ^ 31 := by omega) : (x < y → A) ∧ (¬ x < y → B) := by
  subst hx hy
  rw [nI_ltI ha hb]
  exact ⟨f, fun z => g (by omega)⟩
theorem pk_eq {x y : Int32} {A B : Prop} (a b : Nat) (f : a = b → A) (g : a ≠ b → B) (hx : x = nI a := by rfl) (hy : y = nI b := by rfl) (ha : a < 2 ^ 31 := by omega) (hb : b < 2 ^ 31 := by omega) : (x = y → A) ∧ (¬ x = y → B) := by
  subst hx hy
  rw [nI_eq ha hb]
  exact ⟨f, g⟩
theorem pk_in {x : Int32} (n N : Nat) (h : n < N) (hx : x = nI n := by rfl) (hN : N < 2 ^ 31 := by omega) : vp_in x N := by
  subst hx
  exact vp_in_nI h hN
theorem pk_cl {x : Int32} (n : Nat) (hx : x = nI n := by rfl) (h : n < 2 ^ 31 := by omega) : x.toNatClampNeg = n := by
  subst hx
  exact nI_clamp h
theorem pk_tn {n : Nat} (h : n < 2 ^ 32) : (nI n).toBitVec.toNat = n := Nat.mod_eq_of_lt h
theorem pk_and (x : Int32) {m : Int32} (k : Nat) (hm : m.toBitVec.toNat = 2 ^ k - 1) : x &&& m = nI (x.toBitVec.toNat % 2 ^ k) := by
  apply Int32.toBitVec_inj.mp
  apply BitVec.eq_of_toNat_eq
  rw [Int32.toBitVec_and, BitVec.toNat_and, hm, Nat.and_two_pow_sub_one_eq_mod]
  show _ = (BitVec.ofNat 32 _).toNat
  rw [BitVec.toNat_ofNat]
  exact (Nat.mod_eq_of_lt (Nat.lt_of_le_of_lt (Nat.mod_le _ _) x.toBitVec.isLt)).symm
theorem pk_andN {n : Nat} (h : n < 2 ^ 32) {m : Int32} (k : Nat) (hm : m.toBitVec.toNat = 2 ^ k - 1) : nI n &&& m = nI (n % 2 ^ k) := by
  rw [pk_and _ k hm, pk_tn h]
theorem pk_andE (x : Int32) {m : Int32} (k : Nat) (hm : m.toBitVec.toNat = 2 ^ k - 1) : ∃ j : Nat, j < 2 ^ k ∧ x &&& m = nI j := ⟨_, Nat.mod_lt _ (Nat.two_pow_pos k), pk_and x k hm⟩
theorem pk_andIn (x : Int32) {m : Int32} (k : Nat) (hm : m.toBitVec.toNat = 2 ^ k - 1) (hk : k ≤ 30) : vp_in (x &&& m) (2 ^ k) := by
  obtain ⟨j, hj, e⟩ := pk_andE x k hm
  rw [e]
  exact vp_in_nI hj (Nat.lt_of_le_of_lt (Nat.pow_le_pow_right (by decide) hk) (by decide))
theorem pk_shl (a s : Int32) (k : Nat) (hs : (s.toBitVec.smod 32).toNat = k) : (a <<< s).toBitVec.toNat = a.toBitVec.toNat * 2 ^ k % 2 ^ 32 := by
  show (a.toBitVec <<< (s.toBitVec.smod 32).toNat).toNat = _
  rw [hs, BitVec.toNat_shiftLeft, Nat.shiftLeft_eq]
theorem pk_shlN {n : Nat} (s : Int32) (k : Nat) (hs : (s.toBitVec.smod 32).toNat = k) (h : n * 2 ^ k < 2 ^ 32) : nI n <<< s = nI (n * 2 ^ k) := by
  apply Int32.toBitVec_inj.mp
  apply BitVec.eq_of_toNat_eq
  have hn : n < 2 ^ 32 := Nat.lt_of_le_of_lt (Nat.le_mul_of_pos_right n (Nat.two_pow_pos k)) h
  rw [pk_shl _ _ k hs, pk_tn hn, pk_tn h, Nat.mod_eq_of_lt h]
theorem pk_shr (a s : Int32) (k : Nat) (hs : (s.toBitVec.smod 32).toNat = k) : (a >>> s).toInt = a.toInt >>> k := by
  show (a.toBitVec.sshiftRight (s.toBitVec.smod 32).toNat).toInt = _
  rw [hs, BitVec.toInt_sshiftRight]
  rfl
theorem pk_shrN {n : Nat} (h : n < 2 ^ 31) (s : Int32) (k : Nat) (hs : (s.toBitVec.smod 32).toNat = k) : nI n >>> s = nI (n / 2 ^ k) := by
  apply Int32.toInt_inj.mp
  have h2 : n / 2 ^ k ≤ n := Nat.div_le_self _ _
  rw [pk_shr _ _ k hs, nI_toInt h, nI_toInt (by omega), Int.shiftRight_eq_div_pow]
  rfl
theorem pk_ushr (x s : Int32) (k : Nat) (hs : ((s.toUInt32 &&& Int32.toUInt32 31).toBitVec % 32).toNat = k) : (x.toUInt32 >>> (s.toUInt32 &&& Int32.toUInt32 31)).toInt32.toBitVec.toNat = x.toBitVec.toNat / 2 ^ k := by
  have e : (x.toUInt32 >>> (s.toUInt32 &&& Int32.toUInt32 31)).toInt32.toBitVec = x.toBitVec >>> k := by
    rw [← hs]
    exact UInt32.toBitVec_shiftRight _ _
  rw [e, BitVec.toNat_ushiftRight, Nat.shiftRight_eq_div_pow]
theorem pk_ushrN {n : Nat} (hn : n < 2 ^ 32) (s : Int32) (k : Nat) (hs : ((s.toUInt32 &&& Int32.toUInt32 31).toBitVec % 32).toNat = k) : ((nI n).toUInt32 >>> (s.toUInt32 &&& Int32.toUInt32 31)).toInt32 = nI (n / 2 ^ k) := by
  apply Int32.toBitVec_inj.mp
  apply BitVec.eq_of_toNat_eq
  rw [pk_ushr _ s k hs, pk_tn hn, pk_tn (Nat.lt_of_le_of_lt (Nat.div_le_self _ _) hn)]
theorem pk_nb (z : Int32) : narrow .byte (.int z.toInt8.toInt32) = .int z.toInt8.toInt32 := congrArg Value.int (by simp)
theorem pk_ns (z : Int32) : narrow .short (.int z.toInt16.toInt32) = .int z.toInt16.toInt32 := congrArg Value.int (by simp)
theorem pk_fb (r : Int32) : fits .byte (.int r.toInt8.toInt32) = true := by
  have ⟨a, b⟩ := lg_i2b_range r
  have h1 : (-128 : Int32).toInt = -128 := by decide
  have h2 : (127 : Int32).toInt = 127 := by decide
  simp only [fits, Bool.and_eq_true, decide_eq_true_eq, Int32.le_iff_toInt_le, h1, h2]
  omega
theorem pk_fs (r : Int32) : fits .short (.int r.toInt16.toInt32) = true := by
  have ⟨a, b⟩ := lg_i2s_range r
  have h1 : (-32768 : Int32).toInt = -32768 := by decide
  have h2 : (32767 : Int32).toInt = 32767 := by decide
  simp only [fits, Bool.and_eq_true, decide_eq_true_eq, Int32.le_iff_toInt_le, h1, h2]
  omega
theorem pk_charN {q : Nat} (hq : q < 65536) : narrow .char (.int (nI q)) = .int (nI q) ∧ fits .char (.int (nI q)) = true := by
  constructor
  · have e : (nI q).toUInt32.toUInt16.toUInt32.toInt32 = nI q := by
      apply Int32.toBitVec_inj.mp
      apply BitVec.eq_of_toNat_eq
      show (nI q).toUInt32.toUInt16.toUInt32.toNat = q % 2 ^ 32
      rw [UInt16.toNat_toUInt32, UInt32.toNat_toUInt16, show (nI q).toUInt32.toNat = q % 2 ^ 32 from rfl]
      omega
    exact congrArg Value.int e
  · have a : (0 : Int32) ≤ nI q := nI_pos' (by omega)
    have b : nI q ≤ 65535 := nI_le (b := 65535) (by omega) (by decide)
    show (decide ((0 : Int32) ≤ nI q) && decide (nI q ≤ 65535)) = true
    rw [decide_eq_true a, decide_eq_true b]
    rfl
theorem pk_char (x : Int32) : (x.toUInt32 % 65536).toInt32 = nI (x.toBitVec.toNat % 65536) := by
  apply Int32.toBitVec_inj.mp
  apply BitVec.eq_of_toNat_eq
  rw [pk_tn (by omega)]
  show (x.toUInt32 % 65536).toNat = _
  rw [UInt32.toNat_mod]
  rfl
theorem pk_nc (x : Int32) : narrow .char (.int (x.toUInt32 % 65536).toInt32) = .int (x.toUInt32 % 65536).toInt32 := by
  rw [pk_char]
  exact (pk_charN (Nat.mod_lt _ (by decide))).1
theorem pk_fc (x : Int32) : fits .char (.int (x.toUInt32 % 65536).toInt32) = true := by
  rw [pk_char]
  exact (pk_charN (Nat.mod_lt _ (by decide))).2
theorem pk_vb (z : Int32) : vp_nar .byte z.toInt8.toInt32 = z.toInt8.toInt32 := by rw [vp_nar_byte]; simp
theorem pk_vs (z : Int32) : vp_nar .short z.toInt16.toInt32 = z.toInt16.toInt32 := by rw [vp_nar_short]; simp
theorem pk_vc (z : Int32) : vp_nar .char (z.toUInt32 % 65536).toInt32 = (z.toUInt32 % 65536).toInt32 := Value.int.inj (pk_nc z)
/-! ===== Int32 by its bits: bt x i ===== -/
def bt (x : Int32) (i : Nat) : Bool := x.toBitVec.getLsbD i
theorem b_ext {x y : Int32} (h : ∀ i, i < 32 → bt x i = bt y i) : x = y := Int32.toBitVec_inj.mp (BitVec.eq_of_getLsbD_eq (fun i hi => h i hi))
theorem b_or (x y : Int32) (i : Nat) : bt (x ||| y) i = (bt x i || bt y i) := by unfold bt; rw [Int32.toBitVec_or, BitVec.getLsbD_or]
theorem b_and (x y : Int32) (i : Nat) : bt (x &&& y) i = (bt x i && bt y i) := by unfold bt; rw [Int32.toBitVec_and, BitVec.getLsbD_and]
theorem b_xor (x y : Int32) (i : Nat) : bt (x ^^^ y) i = (bt x i ^^ bt y i) := by unfold bt; rw [Int32.toBitVec_xor, BitVec.getLsbD_xor]
theorem b_big {x : Int32} {i : Nat} (h : 32 ≤ i) : bt x i = false := BitVec.getLsbD_of_ge _ _ h
theorem b_255 (i : Nat) : bt 255 i = decide (i < 8) := by
  rcases Nat.lt_or_ge i 32 with h | h
  · exact (by decide +kernel : ∀ i, i < 32 → bt 255 i = decide (i < 8)) i h
  · rw [b_big h, decide_eq_false (by omega)]
theorem b_65535 (i : Nat) : bt 65535 i = decide (i < 16) := by
  rcases Nat.lt_or_ge i 32 with h | h
  · exact (by decide +kernel : ∀ i, i < 32 → bt 65535 i = decide (i < 16)) i h
  · rw [b_big h, decide_eq_false (by omega)]
theorem b_m1 : ∀ i, i < 32 → bt (-1) i = true := by decide +kernel
theorem b_0 (i : Nat) : bt 0 i = false := BitVec.getLsbD_zero
theorem s_l : ∀ n, n < 32 → ((nI n &&& 31).toBitVec.smod 32).toNat = n := by decide +kernel
theorem s_u : ∀ n, n < 32 → (((nI n).toUInt32 &&& Int32.toUInt32 31).toBitVec % 32).toNat = n := by decide +kernel
theorem b_shl (n : Nat) (hn : n < 32) (x : Int32) {i : Nat} (hi : i < 32) : bt (x <<< (nI n &&& 31)) i = (decide (n ≤ i) && bt x (i - n)) := by
  unfold bt
  rw [Int32.toBitVec_shiftLeft]
  show (x.toBitVec <<< ((nI n &&& 31).toBitVec.smod 32).toNat).getLsbD i = _
  rw [s_l n hn, BitVec.getLsbD_shiftLeft]
  rcases Nat.lt_or_ge i n with h | h
  · simp [h, Nat.not_le.mpr h]
  · simp [hi, h, Nat.not_lt.mpr h]
theorem b_ushr (n : Nat) (hn : n < 32) (x : Int32) (i : Nat) : bt ((x.toUInt32 >>> ((nI n).toUInt32 &&& Int32.toUInt32 31)).toInt32) i = bt x (n + i) := by
  show (x.toUInt32 >>> ((nI n).toUInt32 &&& Int32.toUInt32 31)).toBitVec.getLsbD i = x.toUInt32.toBitVec.getLsbD (n + i)
  rw [UInt32.toBitVec_shiftRight]
  show (x.toUInt32.toBitVec >>> (((nI n).toUInt32 &&& Int32.toUInt32 31).toBitVec % 32).toNat).getLsbD i = _
  rw [s_u n hn, BitVec.getLsbD_ushiftRight]
theorem b_sshr (n : Nat) (hn : n < 32) (x : Int32) {i : Nat} (hi : i < 32) : bt (x >>> (nI n &&& 31)) i = if n + i < 32 then bt x (n + i) else bt x 31 := by
  unfold bt
  rw [Int32.toBitVec_shiftRight]
  show (x.toBitVec.sshiftRight ((nI n &&& 31).toBitVec.smod 32).toNat).getLsbD i = _
  rw [s_l n hn, BitVec.getLsbD_sshiftRight, BitVec.msb_eq_getLsbD_last]
  simp [hi]
theorem b_shl8 (x : Int32) {i : Nat} (hi : i < 32) : bt (x <<< ((8 : Int32) &&& 31)) i = (decide (8 ≤ i) && bt x (i - 8)) := b_shl 8 (by omega) x hi
theorem b_shl16 (x : Int32) {i : Nat} (hi : i < 32) : bt (x <<< ((16 : Int32) &&& 31)) i = (decide (16 ≤ i) && bt x (i - 16)) := b_shl 16 (by omega) x hi
theorem b_shl24 (x : Int32) {i : Nat} (hi : i < 32) : bt (x <<< ((24 : Int32) &&& 31)) i = (decide (24 ≤ i) && bt x (i - 24)) := b_shl 24 (by omega) x hi
theorem b_sshr8 (x : Int32) {i : Nat} (hi : i < 32) : bt (x >>> ((8 : Int32) &&& 31)) i = if 8 + i < 32 then bt x (8 + i) else bt x 31 := b_sshr 8 (by omega) x hi
end
section
/-! digits, bits, the sets held, the moves -/
def dl_w (t : Nat) : Nat := if t = 0 then 343 else if t = 1 then 49 else if t = 2 then 7 else 1
def dl_d (s t : Nat) : Nat := s / dl_w t % 7
theorem dl_4 {P : Nat → Prop} (h0 : P 0) (h1 : P 1) (h2 : P 2) (h3 : P 3) : ∀ t, t < 4 → P t := by
  intro t ht
  rcases (by omega : t = 0 ∨ t = 1 ∨ t = 2 ∨ t = 3) with h | h | h | h <;> subst h <;> assumption
theorem dl_wpos (t : Nat) : 0 < dl_w t := by
  unfold dl_w
  split
  · decide
  · split
    · decide
    · split <;> decide
theorem dl_wle (t : Nat) : dl_w t ≤ 343 := by
  unfold dl_w
  split
  · decide
  · split
    · decide
    · split <;> decide
theorem dl_d7 (s t : Nat) : dl_d s t < 7 := Nat.mod_lt _ (by decide)
theorem dl_d0 (s : Nat) : dl_d s 0 = s / 343 % 7 := rfl
theorem dl_d1 (s : Nat) : dl_d s 1 = s / 49 % 7 := rfl
theorem dl_d2 (s : Nat) : dl_d s 2 = s / 7 % 7 := rfl
theorem dl_d3 (s : Nat) : dl_d s 3 = s % 7 := by
  show s / 1 % 7 = s % 7
  rw [Nat.div_one]
theorem dl_dstep {s : Nat} (hs : s < 2401) : ∀ t, t < 4 → dl_d s t < 6 → s + dl_w t < 2401 ∧ ∀ u, u < 4 → dl_d (s + dl_w t) u = if u = t then dl_d s u + 1 else dl_d s u := by
  refine dl_4 ?_ ?_ ?_ ?_
  · intro h
    rw [dl_d0] at h
    refine ⟨by show s + 343 < 2401; omega, dl_4 ?_ ?_ ?_ ?_⟩
    · show (s + 343) / 343 % 7 = s / 343 % 7 + 1; omega
    · show (s + 343) / 49 % 7 = s / 49 % 7; omega
    · show (s + 343) / 7 % 7 = s / 7 % 7; omega
    · show (s + 343) / 1 % 7 = s / 1 % 7; omega
  · intro h
    rw [dl_d1] at h
    refine ⟨by show s + 49 < 2401; omega, dl_4 ?_ ?_ ?_ ?_⟩
    · show (s + 49) / 343 % 7 = s / 343 % 7; omega
    · show (s + 49) / 49 % 7 = s / 49 % 7 + 1; omega
    · show (s + 49) / 7 % 7 = s / 7 % 7; omega
    · show (s + 49) / 1 % 7 = s / 1 % 7; omega
  · intro h
    rw [dl_d2] at h
    refine ⟨by show s + 7 < 2401; omega, dl_4 ?_ ?_ ?_ ?_⟩
    · show (s + 7) / 343 % 7 = s / 343 % 7; omega
    · show (s + 7) / 49 % 7 = s / 49 % 7; omega
    · show (s + 7) / 7 % 7 = s / 7 % 7 + 1; omega
    · show (s + 7) / 1 % 7 = s / 1 % 7; omega
  · intro h
    rw [dl_d3] at h
    refine ⟨by show s + 1 < 2401; omega, dl_4 ?_ ?_ ?_ ?_⟩
    · show (s + 1) / 343 % 7 = s / 343 % 7; omega
    · show (s + 1) / 49 % 7 = s / 49 % 7; omega
    · show (s + 1) / 7 % 7 = s / 7 % 7; omega
    · show (s + 1) / 1 % 7 = s / 1 % 7 + 1; omega
/-- a Boolean as an int -/
def dl_i (b : Bool) : Int32 := if b = true then 1 else 0
/-! bits -/
theorem dl_and1 (x : Int32) : (x &&& 1 = 1 ↔ bt x 0 = true) ∧ (x &&& 1 = 0 ↔ bt x 0 = false) := by
  have e : bt x 0 = decide (x.toBitVec.toNat % 2 = 1) := Nat.testBit_zero _
  rw [pk_and x (m := 1) 1 (by decide), e]
  generalize x.toBitVec.toNat = m
  have h : m % 2 ^ 1 = m % 2 := rfl
  rw [h]
  rcases (by omega : m % 2 = 0 ∨ m % 2 = 1) with z | z <;> rw [z] <;> decide
theorem dl_bit {l : Nat} (hl : l < 32) (x : Int32) : (((x >>> (nI l &&& 31)) &&& 1) = 1 ↔ bt x l = true) ∧ (((x >>> (nI l &&& 31)) &&& 1) = 0 ↔ bt x l = false) := by
  have h := dl_and1 (x >>> (nI l &&& 31))
  rw [b_sshr l hl x (by decide : 0 < 32), if_pos (by omega : l + 0 < 32)] at h
  exact h
def dl_fr (x l : Int32) : Bool := decide (¬ ((x >>> (l &&& 31)) &&& 1) = 1)
theorem dl_fr_bt {l : Nat} (hl : l < 32) (x : Int32) : dl_fr x (nI l) = !bt x l := by
  have h := (dl_bit hl x).1
  unfold dl_fr
  cases hb : bt x l with
  | false => exact decide_eq_true (fun z => by have z2 := h.mp z; rw [hb] at z2; exact absurd z2 (by decide))
  | true => exact decide_eq_false (fun z => z (h.mpr hb))
theorem dl_lo {x : Int32} (h : ∀ j, 5 ≤ j → j < 32 → bt x j = false) : ∃ n, n < 32 ∧ x = nI n := by
  refine ⟨x.toBitVec.toNat % 2 ^ 5, Nat.mod_lt _ (by decide), ?_⟩
  rw [← pk_and x (m := 31) 5 (by decide)]
  apply b_ext
  intro i hi
  rw [b_and]
  by_cases z : i < 5
  · have e : bt 31 i = true := (by decide +kernel : ∀ i, i < 5 → bt 31 i = true) i z
    rw [e, Bool.and_true]
  · rw [h i (by omega) hi, Bool.false_and]
theorem dl_bt1 : ∀ m, m < 32 → 1 ≤ m → bt 1 m = false := by decide +kernel
/-- what thread t holds after so many actions (ya: the reference's table) -/
def dl_H (ya : Nat → Int32) (t : Nat) : Nat → Int32
  | 0 => 0
  | i + 1 => if 8 ≤ ya (6 * t + i) then dl_H ya t i &&& (((1 : Int32) <<< ((ya (6 * t + i) - 8) &&& 31)) ^^^ (-1)) else dl_H ya t i ||| ((1 : Int32) <<< (ya (6 * t + i) &&& 31))
theorem dl_H0 (ya : Nat → Int32) (t : Nat) : dl_H ya t 0 = 0 := rfl
theorem dl_Hs (ya : Nat → Int32) (t i : Nat) : dl_H ya t (i + 1) = if 8 ≤ ya (6 * t + i) then dl_H ya t i &&& (((1 : Int32) <<< ((ya (6 * t + i) - 8) &&& 31)) ^^^ (-1)) else dl_H ya t i ||| ((1 : Int32) <<< (ya (6 * t + i) &&& 31)) := rfl
theorem dl_Hc {ya yb : Nat → Int32} {t : Nat} : ∀ i, (∀ j, j < i → yb (6 * t + j) = ya (6 * t + j)) → dl_H yb t i = dl_H ya t i := by
  intro i
  induction i with
  | zero => exact fun _ => rfl
  | succ i ih =>
    intro h
    rw [dl_Hs, dl_Hs, h i (by omega), ih (fun j hj => h j (by omega))]
/-- the tables are good: at most six actions a thread, each a take (its lock) or a give (8 and its lock) -/
def dl_GD (ya : Nat → Int32) (cz : Nat → Nat) : Prop := ∀ t, t < 4 → cz t ≤ 6 ∧ ∀ i, i < cz t → ∃ l, l < 5 ∧ (ya (6 * t + i) = nI l ∨ ya (6 * t + i) = nI (8 + l))
theorem dl_n8 {l : Nat} (h : l < 5) : ¬ (8 : Int32) ≤ nI l := nI_ge (b := 8) (by omega) (by decide)
theorem dl_y8 {l : Nat} (h : l < 5) : (8 : Int32) ≤ nI (8 + l) := nI_le (a := 8) (by omega) (by omega)
theorem dl_Hlo {ya : Nat → Int32} {cz : Nat → Nat} (G : dl_GD ya cz) {t : Nat} (ht : t < 4) : ∀ i, i ≤ cz t → ∀ j, 5 ≤ j → j < 32 → bt (dl_H ya t i) j = false := by
  intro i
  induction i with
  | zero => exact fun _ j _ _ => b_0 j
  | succ i ih =>
    intro hi j h5 hj
    obtain ⟨l, hl, e | e⟩ := (G t ht).2 i (by omega)
    · rw [dl_Hs, e, if_neg (dl_n8 hl), b_or, ih (by omega) j h5 hj, b_shl l (by omega) 1 hj, dl_bt1 (j - l) (by omega) (by omega), Bool.and_false, Bool.or_false]
    · rw [dl_Hs, e, if_pos (dl_y8 hl), b_and, ih (by omega) j h5 hj, Bool.false_and]
theorem dl_Hb {ya : Nat → Int32} {cz : Nat → Nat} (G : dl_GD ya cz) {t : Nat} (ht : t < 4) {i : Nat} (hi : i ≤ cz t) : (dl_H ya t i).toInt8.toInt32 = dl_H ya t i := by
  obtain ⟨n, hn, e⟩ := dl_lo (dl_Hlo G ht i hi)
  rw [e]
  exact (by decide +kernel : ∀ n, n < 32 → (nI n).toInt8.toInt32 = nI n) n hn
/-! the moves -/
def dl_o (ya : Nat → Int32) (s t q : Nat) : Int32 := if q = t then 0 else dl_H ya q (dl_d s q)
def dl_or (ya : Nat → Int32) (s t : Nat) (x : Int32) (q : Nat) : Int32 := if q = t then x else x ||| dl_H ya q (dl_d s q)
def dl_ok (ya : Nat → Int32) (s t q : Nat) (a : Int32) : Bool := decide (8 ≤ a) || dl_fr (dl_o ya s t q) a
def dl_may (ya : Nat → Int32) (cz : Nat → Nat) (s t : Nat) : Bool := decide (dl_d s t < cz t) && (dl_ok ya s t 0 (ya (6 * t + dl_d s t)) && (dl_ok ya s t 1 (ya (6 * t + dl_d s t)) && (dl_ok ya s t 2 (ya (6 * t + dl_d s t)) && dl_ok ya s t 3 (ya (6 * t + dl_d s t)))))
theorem dl_or_bt (ya : Nat → Int32) (s t : Nat) (x : Int32) (q l : Nat) : bt (dl_or ya s t x q) l = (bt x l || bt (dl_o ya s t q) l) := by
  unfold dl_or dl_o
  split
  · rw [b_0, Bool.or_false]
  · rw [b_or]
theorem dl_ok_l (ya : Nat → Int32) (s t q : Nat) {l : Nat} (hl : l < 5) : dl_ok ya s t q (nI l) = !bt (dl_o ya s t q) l := by
  unfold dl_ok
  rw [decide_eq_false (dl_n8 hl), Bool.false_or, dl_fr_bt (by omega)]
theorem dl_or4 (ya : Nat → Int32) (s t : Nat) {l : Nat} (hl : l < 5) : ((dl_or ya s t (dl_or ya s t (dl_or ya s t (dl_or ya s t 0 0) 1) 2) 3 >>> (nI l &&& 31)) &&& 1) = 0 ↔ (dl_ok ya s t 0 (nI l) && (dl_ok ya s t 1 (nI l) && (dl_ok ya s t 2 (nI l) && dl_ok ya s t 3 (nI l)))) = true := by
  rw [(dl_bit (by omega) _).2, dl_or_bt, dl_or_bt, dl_or_bt, dl_or_bt, b_0, dl_ok_l _ _ _ _ hl, dl_ok_l _ _ _ _ hl, dl_ok_l _ _ _ _ hl, dl_ok_l _ _ _ _ hl]
  generalize bt (dl_o ya s t 0) l = c0
  generalize bt (dl_o ya s t 1) l = c1
  generalize bt (dl_o ya s t 2) l = c2
  generalize bt (dl_o ya s t 3) l = c3
  revert c0 c1 c2 c3
  decide
end
section
/-! going through the states: both sides make the same stores -/
def dl_ww (x y : Int32) : Int32 := (x + y) - (x + y) / 1000003 * 1000003
def dl_st (ya : Nat → Int32) (cz : Nat → Nat) (s t : Nat) (p : (Nat → Int32) × (Nat → Int32)) : (Nat → Int32) × (Nat → Int32) := if dl_may ya cz s t = true then (upd p.1 (s + dl_w t) 1, upd p.2 (s + dl_w t) (dl_ww (p.2 (s + dl_w t)) (p.2 s))) else p
def dl_s4 (ya : Nat → Int32) (cz : Nat → Nat) (s : Nat) (p : (Nat → Int32) × (Nat → Int32)) : (Nat → Int32) × (Nat → Int32) := dl_st ya cz s 3 (dl_st ya cz s 2 (dl_st ya cz s 1 (dl_st ya cz s 0 p)))
def dl_go (ya : Nat → Int32) (cz : Nat → Nat) (s : Nat) (p : (Nat → Int32) × (Nat → Int32)) : (Nat → Int32) × (Nat → Int32) := if p.1 s = 0 then p else dl_s4 ya cz s p
def dl_run (ya : Nat → Int32) (cz : Nat → Nat) (p : (Nat → Int32) × (Nat → Int32)) : Nat → (Nat → Int32) × (Nat → Int32)
  | 0 => p
  | s + 1 => dl_go ya cz s (dl_run ya cz p s)
theorem dl_run0 (ya : Nat → Int32) (cz : Nat → Nat) (p : (Nat → Int32) × (Nat → Int32)) : dl_run ya cz p 0 = p := rfl
theorem dl_runs (ya : Nat → Int32) (cz : Nat → Nat) (p : (Nat → Int32) × (Nat → Int32)) (s : Nat) : dl_run ya cz p (s + 1) = dl_go ya cz s (dl_run ya cz p s) := rfl
def dl_p0 : (Nat → Int32) × (Nat → Int32) := (fun j => if j = 0 then 1 else 0, fun j => if j = 0 then 1 else 0)
def dl_R (ya : Nat → Int32) (cz : Nat → Nat) (s : Nat) : Bool := decide (¬ (dl_run ya cz dl_p0 s).1 s = 0)
section
variable {ya : Nat → Int32} {cz : Nat → Nat}
theorem dl_st_le {s t j : Nat} (h : j ≤ s) (p : (Nat → Int32) × (Nat → Int32)) : (dl_st ya cz s t p).1 j = p.1 j ∧ (dl_st ya cz s t p).2 j = p.2 j := by
  have hw := dl_wpos t
  unfold dl_st
  split
  · exact ⟨pk_un (by omega), pk_un (by omega)⟩
  · exact ⟨rfl, rfl⟩
theorem dl_s4_le {s j : Nat} (h : j ≤ s) (p : (Nat → Int32) × (Nat → Int32)) : (dl_s4 ya cz s p).1 j = p.1 j ∧ (dl_s4 ya cz s p).2 j = p.2 j := by
  unfold dl_s4
  rw [(dl_st_le h _).1, (dl_st_le h _).1, (dl_st_le h _).1, (dl_st_le h _).1, (dl_st_le h _).2, (dl_st_le h _).2, (dl_st_le h _).2, (dl_st_le h _).2]
  exact ⟨rfl, rfl⟩
theorem dl_go_le {s j : Nat} (h : j ≤ s) (p : (Nat → Int32) × (Nat → Int32)) : (dl_go ya cz s p).1 j = p.1 j ∧ (dl_go ya cz s p).2 j = p.2 j := by
  unfold dl_go
  split
  · exact ⟨rfl, rfl⟩
  · exact dl_s4_le h p
theorem dl_run_le {n j : Nat} (h : j ≤ n) (p : (Nat → Int32) × (Nat → Int32)) : ∀ m, (dl_run ya cz p (n + m)).1 j = (dl_run ya cz p n).1 j := by
  intro m
  induction m with
  | zero => rfl
  | succ m ih =>
    show (dl_run ya cz p (n + m + 1)).1 j = _
    rw [dl_runs, (dl_go_le (by omega) _).1, ih]
theorem dl_run_fin {n j : Nat} (h : j ≤ n) (p : (Nat → Int32) × (Nat → Int32)) : (dl_run ya cz p n).1 j = (dl_run ya cz p j).1 j := by
  obtain ⟨m, rfl⟩ : ∃ m, n = j + m := ⟨n - j, by omega⟩
  exact dl_run_le (Nat.le_refl j) p m
def dl_AG (p q : (Nat → Int32) × (Nat → Int32)) : Prop := ∀ j, j < 2401 → p.1 j = q.1 j ∧ p.2 j = q.2 j
theorem dl_AG_st {s t : Nat} {p q : (Nat → Int32) × (Nat → Int32)} (hs : s < 2401) (h : dl_AG p q) : dl_AG (dl_st ya cz s t p) (dl_st ya cz s t q) := by
  unfold dl_st
  split
  · intro j hj
    by_cases e : j = s + dl_w t
    · subst e
      refine ⟨?_, ?_⟩
      · show upd p.1 (s + dl_w t) 1 (s + dl_w t) = upd q.1 (s + dl_w t) 1 (s + dl_w t)
        rw [pk_us, pk_us]
      · show upd p.2 (s + dl_w t) _ (s + dl_w t) = upd q.2 (s + dl_w t) _ (s + dl_w t)
        rw [pk_us, pk_us, (h _ hj).2, (h _ hs).2]
    · refine ⟨?_, ?_⟩
      · show upd p.1 (s + dl_w t) 1 j = upd q.1 (s + dl_w t) 1 j
        rw [pk_un e, pk_un e]
        exact (h j hj).1
      · show upd p.2 (s + dl_w t) _ j = upd q.2 (s + dl_w t) _ j
        rw [pk_un e, pk_un e]
        exact (h j hj).2
  · exact h
theorem dl_AG_go {s : Nat} {p q : (Nat → Int32) × (Nat → Int32)} (hs : s < 2401) (h : dl_AG p q) : dl_AG (dl_go ya cz s p) (dl_go ya cz s q) := by
  unfold dl_go
  rw [(h s hs).1]
  split
  · exact h
  · exact dl_AG_st hs (dl_AG_st hs (dl_AG_st hs (dl_AG_st hs h)))
theorem dl_AG_run {p q : (Nat → Int32) × (Nat → Int32)} (h : dl_AG p q) : ∀ n, n ≤ 2401 → dl_AG (dl_run ya cz p n) (dl_run ya cz q n) := by
  intro n
  induction n with
  | zero => exact fun _ => h
  | succ n ih => exact fun hn => dl_AG_go (by omega) (ih (by omega))
/-- what is reached is within, and no thread has done more than it has -/
def dl_DG (cz : Nat → Nat) (p : (Nat → Int32) × (Nat → Int32)) : Prop := ∀ j, ¬ p.1 j = 0 → j < 2401 ∧ ∀ t, t < 4 → dl_d j t ≤ cz t
theorem dl_may_d {s t : Nat} (h : dl_may ya cz s t = true) : dl_d s t < cz t := by
  unfold dl_may at h
  rw [Bool.and_eq_true] at h
  exact of_decide_eq_true h.1
theorem dl_DG_st (G : dl_GD ya cz) {s t : Nat} {p : (Nat → Int32) × (Nat → Int32)} (ht : t < 4) (hs : s < 2401) (hd : ∀ u, u < 4 → dl_d s u ≤ cz u) (h : dl_DG cz p) : dl_DG cz (dl_st ya cz s t p) := by
  unfold dl_st
  split
  · rename_i m
    have hm := dl_may_d m
    have h6 := (G t ht).1
    obtain ⟨k1, k2⟩ := dl_dstep hs t ht (by omega)
    intro j hj
    by_cases e : j = s + dl_w t
    · subst e
      refine ⟨k1, fun u hu => ?_⟩
      rw [k2 u hu]
      split
      · rename_i z
        subst z
        omega
      · exact hd u hu
    · have hj2 : ¬ upd p.1 (s + dl_w t) 1 j = 0 := hj
      rw [pk_un e] at hj2
      exact h j hj2
  · exact h
theorem dl_DG_run (G : dl_GD ya cz) {p : (Nat → Int32) × (Nat → Int32)} (h : dl_DG cz p) : ∀ n, dl_DG cz (dl_run ya cz p n) := by
  intro n
  induction n with
  | zero => exact h
  | succ n ih =>
    rw [dl_runs]
    unfold dl_go
    split
    · exact ih
    · rename_i z
      obtain ⟨hs, hd⟩ := ih n z
      exact dl_DG_st G (by decide) hs hd (dl_DG_st G (by decide) hs hd (dl_DG_st G (by decide) hs hd (dl_DG_st G (by decide) hs hd ih)))
theorem dl_DG_0 : dl_DG cz dl_p0 := by
  intro j hj
  have hj2 : ¬ (if j = 0 then (1 : Int32) else 0) = 0 := hj
  by_cases e : j = 0
  · subst e
    exact ⟨by decide, dl_4 (Nat.zero_le _) (Nat.zero_le _) (Nat.zero_le _) (Nat.zero_le _)⟩
  · rw [if_neg e] at hj2
    exact absurd rfl hj2
theorem dl_R_d (G : dl_GD ya cz) {s : Nat} (h : dl_R ya cz s = true) : s < 2401 ∧ ∀ t, t < 4 → dl_d s t ≤ cz t := dl_DG_run G dl_DG_0 s s (of_decide_eq_true h)
/-- a run from what agrees with the first picture: reached is R -/
theorem dl_R_run {p : (Nat → Int32) × (Nat → Int32)} (h : dl_AG p dl_p0) {s n : Nat} (hs : s < 2401) (hn : s ≤ n) (hn2 : n ≤ 2401) : dl_R ya cz s = decide (¬ (dl_run ya cz p n).1 s = 0) := by
  unfold dl_R
  rw [dl_run_fin hn p, (dl_AG_run (ya := ya) (cz := cz) h s (by omega) s hs).1]
end
end
section
/-! counts, lists by a counter, sums -/
def dl_n (P : Nat → Bool) : Nat → Nat
  | 0 => 0
  | n + 1 => dl_n P n + (if P n = true then 1 else 0)
theorem dl_n_t {P : Nat → Bool} {n : Nat} (h : P n = true) : dl_n P (n + 1) = dl_n P n + 1 := by
  show dl_n P n + (if P n = true then 1 else 0) = _
  rw [if_pos h]
theorem dl_n_f {P : Nat → Bool} {n : Nat} (h : P n = false) : dl_n P (n + 1) = dl_n P n := by
  show dl_n P n + (if P n = true then 1 else 0) = _
  rw [if_neg (by rw [h]; decide)]
  exact Nat.add_zero _
theorem dl_n_s (P : Nat → Bool) (n : Nat) : dl_n P n ≤ dl_n P (n + 1) ∧ dl_n P (n + 1) ≤ dl_n P n + 1 := by
  cases h : P n with
  | true => rw [dl_n_t h]; omega
  | false => rw [dl_n_f h]; omega
theorem dl_n_le (P : Nat → Bool) : ∀ n, dl_n P n ≤ n := by
  intro n
  induction n with
  | zero => exact Nat.le_refl _
  | succ n ih => have h := dl_n_s P n; omega
theorem dl_n_mono (P : Nat → Bool) (n : Nat) : ∀ m, dl_n P n ≤ dl_n P (n + m) := by
  intro m
  induction m with
  | zero => exact Nat.le_refl _
  | succ m ih => have h := dl_n_s P (n + m); have e : n + (m + 1) = n + m + 1 := rfl; rw [e]; omega
theorem dl_n_lt {P : Nat → Bool} {j n : Nat} (h : P j = true) (hj : j < n) : dl_n P j < dl_n P n := by
  obtain ⟨m, rfl⟩ : ∃ m, n = j + 1 + m := ⟨n - j - 1, by omega⟩
  have h2 := dl_n_mono P (j + 1) m
  rw [dl_n_t h] at h2
  omega
theorem dl_n_c {P Q : Nat → Bool} : ∀ n, (∀ j, j < n → P j = Q j) → dl_n P n = dl_n Q n := by
  intro n
  induction n with
  | zero => exact fun _ => rfl
  | succ n ih =>
    intro h
    show dl_n P n + (if P n = true then 1 else 0) = dl_n Q n + (if Q n = true then 1 else 0)
    rw [ih (fun j hj => h j (by omega)), h n (by omega)]
theorem dl_n_inv {P : Nat → Bool} {i : Nat} : ∀ n, i < dl_n P n → ∃ j, j < n ∧ P j = true ∧ dl_n P j = i := by
  intro n
  induction n with
  | zero => intro h; exact absurd h (Nat.not_lt_zero _)
  | succ n ih =>
    intro h
    by_cases z : i < dl_n P n
    · obtain ⟨j, hj, a, b⟩ := ih z
      exact ⟨j, by omega, a, b⟩
    · cases hP : P n with
      | true => rw [dl_n_t hP] at h; exact ⟨n, by omega, hP, by omega⟩
      | false => rw [dl_n_f hP] at h; exact absurd h z
/-- the array lists what has P, in order -/
def dl_L (P : Nat → Bool) (n : Nat) (a : Nat → Int32) : Prop := ∀ j, j < n → P j = true → a (dl_n P j) = nI j
theorem dl_L_0 {P : Nat → Bool} {a : Nat → Int32} : dl_L P 0 a := fun _ h => absurd h (Nat.not_lt_zero _)
theorem dl_L_t {P : Nat → Bool} {n : Nat} {a : Nat → Int32} (h : dl_L P n a) : dl_L P (n + 1) (upd a (dl_n P n) (nI n)) := by
  intro j hj hP
  by_cases e : j = n
  · subst e
    exact pk_us
  · have h2 := dl_n_lt hP (by omega : j < n)
    rw [pk_un (by omega)]
    exact h j (by omega) hP
theorem dl_L_f {P : Nat → Bool} {n : Nat} {a : Nat → Int32} (h : dl_L P n a) (hP : P n = false) : dl_L P (n + 1) a := by
  intro j hj hj2
  by_cases e : j = n
  · subst e
    rw [hP] at hj2
    exact absurd hj2 (by decide)
  · exact h j (by omega) hj2
def dl_ex (P : Nat → Bool) : Nat → Bool
  | 0 => false
  | n + 1 => dl_ex P n || P n
theorem dl_exs (P : Nat → Bool) (n : Nat) : dl_ex P (n + 1) = (dl_ex P n || P n) := rfl
theorem dl_ex_n (P : Nat → Bool) : ∀ n, dl_ex P n = decide (0 < dl_n P n) := by
  intro n
  induction n with
  | zero => rfl
  | succ n ih =>
    rw [dl_exs, ih]
    cases h : P n with
    | true => rw [dl_n_t h, Bool.or_true]; exact (decide_eq_true (by omega)).symm
    | false => rw [dl_n_f h, Bool.or_false]
theorem dl_ex_c {P Q : Nat → Bool} : ∀ n, (∀ j, j < n → P j = Q j) → dl_ex P n = dl_ex Q n := by
  intro n h
  rw [dl_ex_n, dl_ex_n, dl_n_c n h]
theorem dl_ex_f {P : Nat → Bool} : ∀ n, (∀ j, j < n → P j = false) → dl_ex P n = false := by
  intro n
  induction n with
  | zero => exact fun _ => rfl
  | succ n ih => intro h; rw [dl_exs, ih (fun j hj => h j (by omega)), h n (by omega)]; rfl
theorem dl_ex_t {P : Nat → Bool} {j : Nat} (hP : P j = true) : ∀ n, j < n → dl_ex P n = true := by
  intro n hj
  rw [dl_ex_n]
  have h := dl_n_lt hP hj
  exact decide_eq_true (by omega)
/-- through a list -/
theorem dl_n_via {P F B : Nat → Bool} : ∀ n, (∀ k, k < n → P k = true → F (dl_n P k) = B k) → dl_n F (dl_n P n) = dl_n (fun k => P k && B k) n := by
  intro n
  induction n with
  | zero => exact fun _ => rfl
  | succ n ih =>
    intro h
    have i := ih (fun k hk => h k (by omega))
    cases hP : P n with
    | true =>
      rw [dl_n_t hP]
      have e := h n (by omega) hP
      cases hB : B n with
      | true =>
        rw [hB] at e
        rw [dl_n_t e, dl_n_t (P := fun k => P k && B k) (by show (P n && B n) = true; rw [hP, hB]; rfl), i]
      | false =>
        rw [hB] at e
        rw [dl_n_f e, dl_n_f (P := fun k => P k && B k) (by show (P n && B n) = false; rw [hP, hB]; rfl), i]
    | false => rw [dl_n_f hP, dl_n_f (P := fun k => P k && B k) (by show (P n && B n) = false; rw [hP]; rfl), i]
theorem dl_ex_via {P F B : Nat → Bool} {n : Nat} (h : ∀ k, k < n → P k = true → F (dl_n P k) = B k) : dl_ex F (dl_n P n) = dl_ex (fun k => P k && B k) n := by
  rw [dl_ex_n, dl_ex_n, dl_n_via n h]
/-! sums -/
def dl_S (f : Nat → Nat) : Nat → Nat
  | 0 => 0
  | n + 1 => dl_S f n + f n
theorem dl_Ss (f : Nat → Nat) (n : Nat) : dl_S f (n + 1) = dl_S f n + f n := rfl
theorem dl_n_S (P : Nat → Bool) : ∀ n, dl_n P n = dl_S (fun i => if P i = true then 1 else 0) n := by
  intro n
  induction n with
  | zero => rfl
  | succ n ih => show dl_n P n + _ = dl_S _ n + _; rw [ih]
theorem dl_S_c {f g : Nat → Nat} : ∀ n, (∀ i, i < n → f i = g i) → dl_S f n = dl_S g n := by
  intro n
  induction n with
  | zero => exact fun _ => rfl
  | succ n ih => intro h; rw [dl_Ss, dl_Ss, ih (fun i hi => h i (by omega)), h n (by omega)]
theorem dl_S_0 : ∀ n, dl_S (fun _ => 0) n = 0 := by
  intro n
  induction n with
  | zero => rfl
  | succ n ih => rw [dl_Ss, ih]
theorem dl_S_add (f : Nat → Nat) (a : Nat) : ∀ b, dl_S f (a + b) = dl_S f a + dl_S (fun j => f (a + j)) b := by
  intro b
  induction b with
  | zero => rfl
  | succ b ih =>
    show dl_S f (a + b) + f (a + b) = _
    rw [ih, dl_Ss]
    omega
theorem dl_S_mul (f : Nat → Nat) (b : Nat) : ∀ a, dl_S f (a * b) = dl_S (fun i => dl_S (fun j => f (i * b + j)) b) a := by
  intro a
  induction a with
  | zero => rw [Nat.zero_mul]; rfl
  | succ a ih => rw [Nat.succ_mul, dl_S_add, ih, dl_Ss]
theorem dl_S_pl (f g : Nat → Nat) : ∀ n, dl_S (fun i => f i + g i) n = dl_S f n + dl_S g n := by
  intro n
  induction n with
  | zero => rfl
  | succ n ih => rw [dl_Ss, ih, dl_Ss, dl_Ss]; omega
theorem dl_S_swap (f : Nat → Nat → Nat) (b : Nat) : ∀ a, dl_S (fun i => dl_S (fun j => f i j) b) a = dl_S (fun j => dl_S (fun i => f i j) a) b := by
  intro a
  induction a with
  | zero => exact (dl_S_0 b).symm
  | succ a ih =>
    rw [dl_Ss, ih]
    exact (dl_S_pl (fun j => dl_S (fun i => f i j) a) (fun j => f a j) b).symm
def dl_cv (a : Nat) : Nat := if a = 7 then 6 else a
theorem dl_R8 (F : Nat → Nat) : dl_S (fun m => if m = 6 then 0 else F (dl_cv m)) 8 = dl_S F 7 := rfl
/-- 8 to the fourth without 6, 7 for 6, and the digits turned round: 7 to the fourth -/
theorem dl_bij (q : Nat → Nat → Nat → Nat → Nat) :
    dl_S (fun i => dl_S (fun j => dl_S (fun l => dl_S (fun m => if m = 6 then 0 else if l = 6 then 0 else if j = 6 then 0 else if i = 6 then 0 else q (dl_cv m) (dl_cv l) (dl_cv j) (dl_cv i)) 8) 8) 8) 8
      = dl_S (fun m => dl_S (fun l => dl_S (fun j => dl_S (fun i => q m l j i) 7) 7) 7) 7 := by
  have A1 : ∀ l j i, dl_S (fun m => if m = 6 then 0 else if l = 6 then 0 else if j = 6 then 0 else if i = 6 then 0 else q (dl_cv m) (dl_cv l) (dl_cv j) (dl_cv i)) 8 = dl_S (fun m => if l = 6 then 0 else if j = 6 then 0 else if i = 6 then 0 else q m (dl_cv l) (dl_cv j) (dl_cv i)) 7 :=
    fun l j i => dl_R8 (fun m => if l = 6 then 0 else if j = 6 then 0 else if i = 6 then 0 else q m (dl_cv l) (dl_cv j) (dl_cv i))
  have A2 : ∀ j i, dl_S (fun l => dl_S (fun m => if m = 6 then 0 else if l = 6 then 0 else if j = 6 then 0 else if i = 6 then 0 else q (dl_cv m) (dl_cv l) (dl_cv j) (dl_cv i)) 8) 8 = dl_S (fun m => dl_S (fun l => if j = 6 then 0 else if i = 6 then 0 else q m l (dl_cv j) (dl_cv i)) 7) 7 := by
    intro j i
    rw [dl_S_c 8 (fun l _ => A1 l j i), dl_S_swap (fun l m => if l = 6 then 0 else if j = 6 then 0 else if i = 6 then 0 else q m (dl_cv l) (dl_cv j) (dl_cv i)) 7 8]
    exact dl_S_c 7 (fun m _ => dl_R8 (fun l => if j = 6 then 0 else if i = 6 then 0 else q m l (dl_cv j) (dl_cv i)))
  have A3 : ∀ i, dl_S (fun j => dl_S (fun l => dl_S (fun m => if m = 6 then 0 else if l = 6 then 0 else if j = 6 then 0 else if i = 6 then 0 else q (dl_cv m) (dl_cv l) (dl_cv j) (dl_cv i)) 8) 8) 8 = dl_S (fun m => dl_S (fun l => dl_S (fun j => if i = 6 then 0 else q m l j (dl_cv i)) 7) 7) 7 := by
    intro i
    rw [dl_S_c 8 (fun j _ => A2 j i), dl_S_swap (fun j m => dl_S (fun l => if j = 6 then 0 else if i = 6 then 0 else q m l (dl_cv j) (dl_cv i)) 7) 7 8]
    refine dl_S_c 7 (fun m _ => ?_)
    rw [dl_S_swap (fun j l => if j = 6 then 0 else if i = 6 then 0 else q m l (dl_cv j) (dl_cv i)) 7 8]
    exact dl_S_c 7 (fun l _ => dl_R8 (fun j => if i = 6 then 0 else q m l j (dl_cv i)))
  rw [dl_S_c 8 (fun i _ => A3 i), dl_S_swap (fun i m => dl_S (fun l => dl_S (fun j => if i = 6 then 0 else q m l j (dl_cv i)) 7) 7) 7 8]
  refine dl_S_c 7 (fun m _ => ?_)
  rw [dl_S_swap (fun i l => dl_S (fun j => if i = 6 then 0 else q m l j (dl_cv i)) 7) 7 8]
  refine dl_S_c 7 (fun l _ => ?_)
  rw [dl_S_swap (fun i j => if i = 6 then 0 else q m l j (dl_cv i)) 7 8]
  exact dl_S_c 7 (fun j _ => dl_R8 (fun i => q m l j i))
def dl_e (k t : Nat) : Nat := k / 8 ^ t % 8
theorem dl_e0 (k : Nat) : dl_e k 0 = k % 8 := by
  show k / 1 % 8 = k % 8
  rw [Nat.div_one]
theorem dl_e1 (k : Nat) : dl_e k 1 = k / 8 % 8 := rfl
theorem dl_e2 (k : Nat) : dl_e k 2 = k / 64 % 8 := rfl
theorem dl_e3 (k : Nat) : dl_e k 3 = k / 512 % 8 := rfl
theorem dl_e8 (k t : Nat) : dl_e k t < 8 := Nat.mod_lt _ (by decide)
theorem dl_S8 (f : Nat → Nat → Nat → Nat → Nat) : dl_S (fun k => f (dl_e k 0) (dl_e k 1) (dl_e k 2) (dl_e k 3)) 4096 = dl_S (fun i => dl_S (fun j => dl_S (fun l => dl_S (fun m => f m l j i) 8) 8) 8) 8 := by
  rw [show (4096 : Nat) = 8 * 512 from rfl, dl_S_mul]
  refine dl_S_c 8 (fun i hi => ?_)
  rw [show (512 : Nat) = 8 * 64 from rfl, dl_S_mul]
  refine dl_S_c 8 (fun j hj => ?_)
  rw [show (64 : Nat) = 8 * 8 from rfl, dl_S_mul]
  refine dl_S_c 8 (fun l hl => dl_S_c 8 (fun m hm => ?_))
  rw [dl_e0, dl_e1, dl_e2, dl_e3]
  have a0 : (i * (8 * (8 * 8)) + (j * (8 * 8) + (l * 8 + m))) % 8 = m := by omega
  have a1 : (i * (8 * (8 * 8)) + (j * (8 * 8) + (l * 8 + m))) / 8 % 8 = l := by omega
  have a2 : (i * (8 * (8 * 8)) + (j * (8 * 8) + (l * 8 + m))) / 64 % 8 = j := by omega
  have a3 : (i * (8 * (8 * 8)) + (j * (8 * 8) + (l * 8 + m))) / 512 % 8 = i := by omega
  rw [a0, a1, a2, a3]
theorem dl_S7 (f : Nat → Nat → Nat → Nat → Nat) : dl_S (fun s => f (dl_d s 0) (dl_d s 1) (dl_d s 2) (dl_d s 3)) 2401 = dl_S (fun i => dl_S (fun j => dl_S (fun l => dl_S (fun m => f i j l m) 7) 7) 7) 7 := by
  rw [show (2401 : Nat) = 7 * 343 from rfl, dl_S_mul]
  refine dl_S_c 7 (fun i hi => ?_)
  rw [show (343 : Nat) = 7 * 49 from rfl, dl_S_mul]
  refine dl_S_c 7 (fun j hj => ?_)
  rw [show (49 : Nat) = 7 * 7 from rfl, dl_S_mul]
  refine dl_S_c 7 (fun l hl => dl_S_c 7 (fun m hm => ?_))
  rw [dl_d0, dl_d1, dl_d2, dl_d3]
  have a0 : (i * (7 * (7 * 7)) + (j * (7 * 7) + (l * 7 + m))) % 7 = m := by omega
  have a1 : (i * (7 * (7 * 7)) + (j * (7 * 7) + (l * 7 + m))) / 7 % 7 = l := by omega
  have a2 : (i * (7 * (7 * 7)) + (j * (7 * 7) + (l * 7 + m))) / 49 % 7 = j := by omega
  have a3 : (i * (7 * (7 * 7)) + (j * (7 * 7) + (l * 7 + m))) / 343 % 7 = i := by omega
  rw [a0, a1, a2, a3]
end
section
/-! rings, pure: o: which threads are in, h: what each holds, l: the lock that each asks for, r: whether each is a request -/
def dl_pf (a b c d : Nat) (t : Nat) : Nat := if t = 0 then a else if t = 1 then b else if t = 2 then c else d
def dl_bf (a b c d : Bool) (t : Nat) : Bool := if t = 0 then a else if t = 1 then b else if t = 2 then c else d
def dl_al (o : Nat → Bool) (h : Nat → Int32) : Nat → Int32
  | 0 => 0
  | t + 1 => if o t = true then dl_al o h t ||| h t else dl_al o h t
def dl_ap (o : Nat → Bool) (h : Nat → Int32) (t : Nat) : Bool := if o t = true then decide (dl_al o h t &&& h t = 0) else true
def dl_ho (o : Nat → Bool) (h : Nat → Int32) (x : Int32) : Nat → Nat
  | 0 => 4
  | t + 1 => if (o t && !dl_fr (h t) x) = true then t else dl_ho o h x t
def dl_nx (o : Nat → Bool) (h l : Nat → Int32) : Nat → Nat := dl_pf (dl_ho o h (l 0) 4) (dl_ho o h (l 1) 4) (dl_ho o h (l 2) 4) (dl_ho o h (l 3) 4)
def dl_fi (o : Nat → Bool) : Nat := if o 0 = true then 0 else if o 1 = true then 1 else if o 2 = true then 2 else 3
def dl_la (o : Nat → Bool) : Nat → Nat
  | 0 => 4
  | t + 1 => if o t = true then t else dl_la o t
def dl_xg (nx : Nat → Nat) (st m : Nat) : Nat → Nat → Nat → Bool
  | 0, _, _ => false
  | f + 1, a, i => if m ≤ i then false else if nx a = 4 then false else if nx a = st then decide (i + 1 = m) else dl_xg nx st m f (nx a) (i + 1)
def dl_yg (nx : Nat → Nat) (fi : Nat) : Nat → Nat → Nat → Nat
  | 0, _, _ => 0
  | f + 1, a, n => if 4 < n then 0 else if nx a = 4 then 0 else if nx a = fi then n else dl_yg nx fi f (nx a) (n + 1)
def dl_cok (o : Nat → Bool) (a : Nat) : Bool := decide (a = 4) || (decide (a < 4) && o a)
def dl_cy (a b c d : Nat) (o0 o1 o2 o3 : Bool) : Bool :=
  !(dl_cok (dl_bf o0 o1 o2 o3) a && dl_cok (dl_bf o0 o1 o2 o3) b && dl_cok (dl_bf o0 o1 o2 o3) c && dl_cok (dl_bf o0 o1 o2 o3) d && decide (1 < dl_n (dl_bf o0 o1 o2 o3) 4)) ||
  (dl_xg (dl_pf a b c d) (dl_fi (dl_bf o0 o1 o2 o3)) (dl_n (dl_bf o0 o1 o2 o3) 4) 5 (dl_fi (dl_bf o0 o1 o2 o3)) 0 == decide (dl_yg (dl_pf a b c d) (dl_la (dl_bf o0 o1 o2 o3) 4) 5 (dl_la (dl_bf o0 o1 o2 o3) 4) 1 = dl_n (dl_bf o0 o1 o2 o3) 4))
theorem dl_cyc : ∀ a, a < 5 → ∀ b, b < 5 → ∀ c, c < 5 → ∀ d, d < 5 → ∀ o0 o1 o2 o3 : Bool, dl_cy a b c d o0 o1 o2 o3 = true := by decide +kernel
/-- from the lowest or from the highest: all round is all round -/
theorem dl_cyr {o : Nat → Bool} {nx : Nat → Nat} {a b c d : Nat} (e : nx = dl_pf a b c d) (ha : dl_cok o a = true) (hb : dl_cok o b = true) (hc : dl_cok o c = true) (hd : dl_cok o d = true) (hm : 1 < dl_n o 4) :
    dl_xg nx (dl_fi o) (dl_n o 4) 5 (dl_fi o) 0 = decide (dl_yg nx (dl_la o 4) 5 (dl_la o 4) 1 = dl_n o 4) := by
  have z : ∀ x, dl_cok o x = true → x < 5 ∧ dl_cok (dl_bf (o 0) (o 1) (o 2) (o 3)) x = true := by
    intro x hx
    have hx2 := hx
    unfold dl_cok at hx
    rw [Bool.or_eq_true, Bool.and_eq_true] at hx
    rcases hx with h | ⟨h, h2⟩
    · have h3 : x = 4 := of_decide_eq_true h
      subst h3
      exact ⟨by decide, rfl⟩
    · have h3 : x < 4 := of_decide_eq_true h
      refine ⟨by omega, ?_⟩
      have e2 : dl_bf (o 0) (o 1) (o 2) (o 3) x = o x := dl_4 (P := fun x => dl_bf (o 0) (o 1) (o 2) (o 3) x = o x) rfl rfl rfl rfl x h3
      unfold dl_cok at hx2 ⊢
      rw [e2]
      exact hx2
  have k := dl_cyc a (z a ha).1 b (z b hb).1 c (z c hc).1 d (z d hd).1 (o 0) (o 1) (o 2) (o 3)
  unfold dl_cy at k
  rw [(z a ha).2, (z b hb).2, (z c hc).2, (z d hd).2] at k
  have hm2 : 1 < dl_n (dl_bf (o 0) (o 1) (o 2) (o 3)) 4 := hm
  rw [decide_eq_true hm2] at k
  have k2 := eq_of_beq k
  subst e
  exact k2
theorem dl_ho_ok (o : Nat → Bool) (h : Nat → Int32) (x : Int32) : ∀ t, t ≤ 4 → dl_cok o (dl_ho o h x t) = true := by
  intro t
  induction t with
  | zero => exact fun _ => rfl
  | succ t ih =>
    intro ht
    show dl_cok o (if (o t && !dl_fr (h t) x) = true then t else dl_ho o h x t) = true
    split
    · rename_i z
      rw [Bool.and_eq_true] at z
      unfold dl_cok
      rw [z.1, decide_eq_true (by omega : t < 4), Bool.true_and, Bool.or_true]
    · exact ih (by omega)
def dl_rg (o : Nat → Bool) (h l : Nat → Int32) (r : Nat → Bool) : Bool :=
  ((r 0 && r 1 && r 2 && r 3) && (dl_ap o h 0 && dl_ap o h 1 && dl_ap o h 2 && dl_ap o h 3)) && (decide (1 < dl_n o 4) && decide (dl_yg (dl_nx o h l) (dl_la o 4) 5 (dl_la o 4) 1 = dl_n o 4))
/-- the component's way to the same -/
theorem dl_rg_x (o : Nat → Bool) (h l : Nat → Int32) (r : Nat → Bool) : dl_rg o h l r = (((r 0 && r 1 && r 2 && r 3) && (dl_ap o h 0 && dl_ap o h 1 && dl_ap o h 2 && dl_ap o h 3)) && (decide (1 < dl_n o 4) && dl_xg (dl_nx o h l) (dl_fi o) (dl_n o 4) 5 (dl_fi o) 0)) := by
  unfold dl_rg
  by_cases hm : 1 < dl_n o 4
  · rw [dl_cyr (o := o) (nx := dl_nx o h l) rfl (dl_ho_ok o h _ 4 (by decide)) (dl_ho_ok o h _ 4 (by decide)) (dl_ho_ok o h _ 4 (by decide)) (dl_ho_ok o h _ 4 (by decide)) hm]
  · rw [decide_eq_false hm, Bool.false_and, Bool.false_and]
theorem dl_rg_c {o o' : Nat → Bool} {h h' l l' : Nat → Int32} {r r' : Nat → Bool} (eo : ∀ t, t < 4 → o t = o' t) (eh : ∀ t, t < 4 → h t = h' t) (el : ∀ t, t < 4 → l t = l' t) (er : ∀ t, t < 4 → r t = r' t) : dl_rg o h l r = dl_rg o' h' l' r' := by
  have eal : ∀ t, t ≤ 4 → dl_al o h t = dl_al o' h' t := by
    intro t
    induction t with
    | zero => exact fun _ => rfl
    | succ t ih =>
      intro ht
      show (if o t = true then dl_al o h t ||| h t else dl_al o h t) = (if o' t = true then dl_al o' h' t ||| h' t else dl_al o' h' t)
      rw [eo t (by omega), eh t (by omega), ih (by omega)]
  have eap : ∀ t, t < 4 → dl_ap o h t = dl_ap o' h' t := by
    intro t ht
    unfold dl_ap
    rw [eo t ht, eh t ht, eal t (by omega)]
  have en : dl_n o 4 = dl_n o' 4 := dl_n_c 4 eo
  have eho : ∀ x t, t ≤ 4 → dl_ho o h x t = dl_ho o' h' x t := by
    intro x t
    induction t with
    | zero => exact fun _ => rfl
    | succ t ih =>
      intro ht
      show (if (o t && !dl_fr (h t) x) = true then t else dl_ho o h x t) = (if (o' t && !dl_fr (h' t) x) = true then t else dl_ho o' h' x t)
      rw [eo t (by omega), eh t (by omega), ih (by omega)]
  have ela : ∀ t, t ≤ 4 → dl_la o t = dl_la o' t := by
    intro t
    induction t with
    | zero => exact fun _ => rfl
    | succ t ih =>
      intro ht
      show (if o t = true then t else dl_la o t) = (if o' t = true then t else dl_la o' t)
      rw [eo t (by omega), ih (by omega)]
  have enx : dl_nx o h l = dl_nx o' h' l' := by
    unfold dl_nx
    rw [el 0 (by decide), el 1 (by decide), el 2 (by decide), el 3 (by decide), eho _ 4 (by decide), eho _ 4 (by decide), eho _ 4 (by decide), eho _ 4 (by decide)]
  unfold dl_rg
  rw [er 0 (by decide), er 1 (by decide), er 2 (by decide), er 3 (by decide), eap 0 (by decide), eap 1 (by decide), eap 2 (by decide), eap 3 (by decide), en, enx, ela 4 (by decide)]
/-! by places: 6 and more for a thread that isn't in -/
def dl_rq (ya : Nat → Int32) (cz : Nat → Nat) (t i : Nat) : Bool := decide (i < cz t) && (decide (¬ 8 ≤ ya (6 * t + i)) && decide (¬ dl_H ya t i = 0))
def dl_po (p : Nat → Nat) (t : Nat) : Bool := decide (p t < 6)
def dl_ph (ya : Nat → Int32) (p : Nat → Nat) (t : Nat) : Int32 := if p t < 6 then dl_H ya t (p t) else 0
def dl_pl (ya : Nat → Int32) (p : Nat → Nat) (t : Nat) : Int32 := if p t < 6 then ya (6 * t + p t) else 0
def dl_pr (ya : Nat → Int32) (cz : Nat → Nat) (p : Nat → Nat) (t : Nat) : Bool := if p t < 6 then dl_rq ya cz t (p t) else true
def dl_ring (ya : Nat → Int32) (cz : Nat → Nat) (p : Nat → Nat) : Bool := dl_rg (dl_po p) (dl_ph ya p) (dl_pl ya p) (dl_pr ya cz p)
theorem dl_ring_c {ya : Nat → Int32} {cz : Nat → Nat} {p q : Nat → Nat} (h : ∀ t, t < 4 → (p t = q t ∨ (6 ≤ p t ∧ 6 ≤ q t))) : dl_ring ya cz p = dl_ring ya cz q := by
  unfold dl_ring
  refine dl_rg_c ?_ ?_ ?_ ?_
  · intro t ht
    unfold dl_po
    rcases h t ht with e | ⟨a, b⟩
    · rw [e]
    · rw [decide_eq_false (by omega), decide_eq_false (by omega)]
  · intro t ht
    unfold dl_ph
    rcases h t ht with e | ⟨a, b⟩
    · rw [e]
    · rw [if_neg (by omega), if_neg (by omega)]
  · intro t ht
    unfold dl_pl
    rcases h t ht with e | ⟨a, b⟩
    · rw [e]
    · rw [if_neg (by omega), if_neg (by omega)]
  · intro t ht
    unfold dl_pr
    rcases h t ht with e | ⟨a, b⟩
    · rw [e]
    · rw [if_neg (by omega), if_neg (by omega)]
/-- a state meets a ring -/
def dl_m1 (p : Nat → Nat) (s t : Nat) : Bool := decide (6 ≤ p t) || decide (p t = dl_d s t)
def dl_M (p : Nat → Nat) (s : Nat) : Bool := dl_m1 p s 0 && (dl_m1 p s 1 && (dl_m1 p s 2 && dl_m1 p s 3))
theorem dl_M_c {p q : Nat → Nat} {s : Nat} (h : ∀ t, t < 4 → (p t = q t ∨ (6 ≤ p t ∧ 6 ≤ q t))) : dl_M p s = dl_M q s := by
  have k : ∀ t, t < 4 → dl_m1 p s t = dl_m1 q s t := by
    intro t ht
    unfold dl_m1
    rcases h t ht with e | ⟨a, b⟩
    · rw [e]
    · rw [decide_eq_true a, decide_eq_true b, Bool.true_or, Bool.true_or]
  unfold dl_M
  rw [k 0 (by decide), k 1 (by decide), k 2 (by decide), k 3 (by decide)]
def dl_xr (ya : Nat → Int32) (cz : Nat → Nat) (k : Nat) : Bool := (decide (¬ dl_e k 0 = 6) && (decide (¬ dl_e k 1 = 6) && (decide (¬ dl_e k 2 = 6) && decide (¬ dl_e k 3 = 6)))) && dl_ring ya cz (dl_e k)
def dl_yr (ya : Nat → Int32) (cz : Nat → Nat) (s : Nat) : Bool := dl_ring ya cz (dl_d s)
theorem dl_cvq (a : Nat) : a = dl_cv a ∨ (6 ≤ a ∧ 6 ≤ dl_cv a) := by
  unfold dl_cv
  split
  · exact Or.inr ⟨by omega, by omega⟩
  · exact Or.inl rfl
def dl_q7 (ya : Nat → Int32) (cz : Nat → Nat) (Z : (Nat → Nat) → Bool) (a b c d : Nat) : Nat := if (dl_ring ya cz (dl_pf a b c d) && Z (dl_pf a b c d)) = true then 1 else 0
def dl_q8 (ya : Nat → Int32) (cz : Nat → Nat) (Z : (Nat → Nat) → Bool) (m l j i : Nat) : Nat := if m = 6 then 0 else if l = 6 then 0 else if j = 6 then 0 else if i = 6 then 0 else dl_q7 ya cz Z (dl_cv m) (dl_cv l) (dl_cv j) (dl_cv i)
/-- as many rings on both sides, of any kind that looks at places as rings do -/
theorem dl_two (ya : Nat → Int32) (cz : Nat → Nat) (Z : (Nat → Nat) → Bool) (hZ : ∀ p q : Nat → Nat, (∀ t, t < 4 → (p t = q t ∨ (6 ≤ p t ∧ 6 ≤ q t))) → Z p = Z q) :
    dl_n (fun k => dl_xr ya cz k && Z (dl_e k)) 4096 = dl_n (fun s => dl_yr ya cz s && Z (dl_d s)) 2401 := by
  rw [dl_n_S, dl_n_S]
  have e1 : ∀ k, (if (dl_xr ya cz k && Z (dl_e k)) = true then 1 else 0) = dl_q8 ya cz Z (dl_e k 0) (dl_e k 1) (dl_e k 2) (dl_e k 3) := by
    intro k
    have c : ∀ t, t < 4 → (dl_e k t = dl_pf (dl_cv (dl_e k 0)) (dl_cv (dl_e k 1)) (dl_cv (dl_e k 2)) (dl_cv (dl_e k 3)) t ∨ (6 ≤ dl_e k t ∧ 6 ≤ dl_pf (dl_cv (dl_e k 0)) (dl_cv (dl_e k 1)) (dl_cv (dl_e k 2)) (dl_cv (dl_e k 3)) t)) :=
      dl_4 (dl_cvq _) (dl_cvq _) (dl_cvq _) (dl_cvq _)
    unfold dl_xr dl_q8 dl_q7
    rw [hZ _ _ c, dl_ring_c c]
    by_cases z0 : dl_e k 0 = 6
    · rw [if_pos z0, decide_eq_false (fun y => y z0)]; rfl
    · rw [if_neg z0, decide_eq_true z0]
      by_cases z1 : dl_e k 1 = 6
      · rw [if_pos z1, decide_eq_false (fun y => y z1)]; rfl
      · rw [if_neg z1, decide_eq_true z1]
        by_cases z2 : dl_e k 2 = 6
        · rw [if_pos z2, decide_eq_false (fun y => y z2)]; rfl
        · rw [if_neg z2, decide_eq_true z2]
          by_cases z3 : dl_e k 3 = 6
          · rw [if_pos z3, decide_eq_false (fun y => y z3)]; rfl
          · rw [if_neg z3, decide_eq_true z3]; rfl
  have e2 : ∀ s, (if (dl_yr ya cz s && Z (dl_d s)) = true then 1 else 0) = dl_q7 ya cz Z (dl_d s 0) (dl_d s 1) (dl_d s 2) (dl_d s 3) := by
    intro s
    have c : ∀ t, t < 4 → (dl_d s t = dl_pf (dl_d s 0) (dl_d s 1) (dl_d s 2) (dl_d s 3) t ∨ (6 ≤ dl_d s t ∧ 6 ≤ dl_pf (dl_d s 0) (dl_d s 1) (dl_d s 2) (dl_d s 3) t)) :=
      dl_4 (Or.inl rfl) (Or.inl rfl) (Or.inl rfl) (Or.inl rfl)
    unfold dl_yr dl_q7
    rw [hZ _ _ c, dl_ring_c c]
  rw [dl_S_c 4096 (fun k _ => e1 k), dl_S_c 2401 (fun s _ => e2 s), dl_S8 (dl_q8 ya cz Z), dl_S7 (dl_q7 ya cz Z)]
  exact dl_bij (dl_q7 ya cz Z)
end
section
/-! the component: states -/
def dl_xc (a : Int32) : Int32 := if 8 ≤ a then (-1) - (a - 8) else a
theorem dl_xcg : ∀ l, l < 5 → dl_xc (nI (8 + l)) < 0 := by decide +kernel
theorem dl_xct {l : Nat} (h : l < 5) : dl_xc (nI l) = nI l := if_neg (dl_n8 h)
def dl_XR (ya : Nat → Int32) (cz : Nat → Nat) (ct xa xh : Nat → Int32) : Prop := ∀ t, t < 4 → ct t = nI (cz t) ∧ (∀ i, i < cz t → xa (6 * t + i) = dl_xc (ya (6 * t + i))) ∧ (∀ i, i ≤ cz t → xh (7 * t + i) = dl_H ya t i)
theorem dl_i7 (t i : Nat) : (7 : Int32) * nI t + nI i = nI (7 * t + i) := by
  rw [show (7 : Int32) = nI 7 from rfl, pk_mul, nI_add]
theorem dl_i6 (t i : Nat) : (6 : Int32) * nI t + nI i = nI (6 * t + i) := by
  rw [show (6 : Int32) = nI 6 from rfl, pk_mul, nI_add]
theorem dl_vs {s : Nat} (h : s < 32768) : vp_nar .short (nI s).toInt16.toInt32 = nI s := by
  rw [pk_vs]
  exact lg_i2s_small (by rw [nI_toInt (by omega)]; omega) (by rw [nI_toInt (by omega)]; omega)
theorem dl_vb {x : Int32} (h : x.toInt8.toInt32 = x) : vp_nar .byte x.toInt8.toInt32 = x := by
  rw [pk_vb]
  exact h
theorem dl_vbN {s : Nat} (h : s < 128) : vp_nar .byte (nI s).toInt8.toInt32 = nI s := by
  rw [pk_vb]
  exact lg_i2b_small (by rw [nI_toInt (by omega)]; omega) (by rw [nI_toInt (by omega)]; omega)
def dl_last (cz : Nat → Nat) : Nat := 0 + cz 0 * dl_w 0 + cz 1 * dl_w 1 + cz 2 * dl_w 2 + cz 3 * dl_w 3
theorem dl_last_lt {ya : Nat → Int32} {cz : Nat → Nat} (G : dl_GD ya cz) : dl_last cz < 2401 := by
  have h0 := (G 0 (by decide)).1
  have h1 := (G 1 (by decide)).1
  have h2 := (G 2 (by decide)).1
  have h3 := (G 3 (by decide)).1
  show 0 + cz 0 * 343 + cz 1 * 49 + cz 2 * 7 + cz 3 * 1 < 2401
  omega
def dl_any (ya : Nat → Int32) (cz : Nat → Nat) (s : Nat) : Bool := (((false || dl_may ya cz s 0) || dl_may ya cz s 1) || dl_may ya cz s 2) || dl_may ya cz s 3
def dl_k (ya : Nat → Int32) (cz : Nat → Nat) (s : Nat) : Bool := dl_R ya cz s && !(dl_any ya cz s || decide (s = dl_last cz))
section
variable {ya : Nat → Int32} {cz : Nat → Nat} {k0 cm sm rm ms mn : Int32} {ct xa xh co wa ss rg mt pl : Nat → Int32}
theorem dl_xw {post : Int32 → Prop} {t : Nat} (ht : t < 4) (K : post (nI (dl_w t))) : wpX_weightOf post (k0, cm, sm, rm, ms, mn, ct, xa, xh, co, wa, ss, rg, mt, pl) (nI t) := by
  refine dl_4 (P := fun t => post (nI (dl_w t)) → wpX_weightOf post (k0, cm, sm, rm, ms, mn, ct, xa, xh, co, wa, ss, rg, mt, pl) (nI t)) ?_ ?_ ?_ ?_ t ht K
  · exact fun K => br_t rfl K
  · exact fun K => br_f (by decide) (br_t rfl K)
  · exact fun K => br_f (by decide) (br_f (by decide) (br_t rfl K))
  · exact fun K => br_f (by decide) (br_f (by decide) (br_f (by decide) K))
theorem dl_xd {post : Int32 → Prop} {s t : Nat} (hs : s < 2401) (ht : t < 4) (K : post (nI (dl_d s t))) : wpX_doneIn post (k0, cm, sm, rm, ms, mn, ct, xa, xh, co, wa, ss, rg, mt, pl) (nI s) (nI t) := by
  have hw := dl_wpos t
  have hw2 := dl_wle t
  have e : (nI s / nI (dl_w t)) - (nI s / nI (dl_w t)) / 7 * 7 = nI (dl_d s t) := by
    rw [pk_div (by omega) hw (by omega)]
    exact pk_rem (d := 7) (Nat.lt_of_le_of_lt (Nat.div_le_self _ _) (by omega)) (by decide) (by decide)
  unfold wpX_doneIn
  dsimp only
  refine dl_xw ht ?_
  refine ⟨nI_ne0 hw (by omega), by decide, ?_⟩
  rw [e]
  exact K
theorem dl_xha {post : Int32 → Prop} {t i : Nat} (h : 7 * t + i < 28) (K : post (xh (7 * t + i))) : wpX_heldAfter post (k0, cm, sm, rm, ms, mn, ct, xa, xh, co, wa, ss, rg, mt, pl) (nI t) (nI i) := by
  unfold wpX_heldAfter
  dsimp only
  rw [dl_i7, nI_clamp (by omega)]
  exact ⟨vp_in_nI h (by decide), K⟩
theorem dl_xho1 {post : Int32 → Prop} {n s t q : Nat} {x : Int32} (X : dl_XR ya cz ct xa xh) (hs : s < 2401) (ht : t < 4) (hq : q < 4) (hd : dl_d s q ≤ cz q)
    (K : wX_heldByOthers_5 post (nI s) (nI t) k0 cm sm rm ms mn ct xa xh co wa ss rg mt pl n (dl_or ya s t x q) (nI (q + 1))) : wX_heldByOthers_5 post (nI s) (nI t) k0 cm sm rm ms mn ct xa xh co wa ss rg mt pl (n + 1) x (nI q) := by
  have h7 := dl_d7 s q
  refine br_f (nI_ge (b := 4) hq (by decide)) ?_
  unfold dl_or at K
  by_cases e : q = t
  · rw [if_pos e] at K
    exact br_t (congrArg nI e) (nm_r (nI_1 q) K)
  · rw [if_neg e] at K
    refine br_f (fun z => e ((nI_eq (by omega) (by omega)).mp z)) ?_
    refine dl_xd hs hq ?_
    refine dl_xha (by omega) ?_
    rw [(X q hq).2.2 _ hd]
    exact nm_e (nm_r (nI_1 q) K)
theorem dl_xho {post : Int32 → Prop} {s t : Nat} (X : dl_XR ya cz ct xa xh) (hs : s < 2401) (ht : t < 4) (hd : ∀ u, u < 4 → dl_d s u ≤ cz u)
    (K : post (dl_or ya s t (dl_or ya s t (dl_or ya s t (dl_or ya s t 0 0) 1) 2) 3)) : wpX_heldByOthers post (k0, cm, sm, rm, ms, mn, ct, xa, xh, co, wa, ss, rg, mt, pl) (nI s) (nI t) := by
  unfold wpX_heldByOthers
  dsimp only
  refine ⟨5, ?_⟩
  refine dl_xho1 (q := 0) X hs ht (by decide) (hd 0 (by decide)) ?_
  refine dl_xho1 (q := 1) X hs ht (by decide) (hd 1 (by decide)) ?_
  refine dl_xho1 (q := 2) X hs ht (by decide) (hd 2 (by decide)) ?_
  refine dl_xho1 (q := 3) X hs ht (by decide) (hd 3 (by decide)) ?_
  exact br_t (nI_le (a := 4) (b := 4) (Nat.le_refl _) (by decide)) K
theorem dl_xmay {post : Int32 → Prop} {s t : Nat} (G : dl_GD ya cz) (X : dl_XR ya cz ct xa xh) (hs : s < 2401) (ht : t < 4) (hd : ∀ u, u < 4 → dl_d s u ≤ cz u)
    (K : post (dl_i (dl_may ya cz s t))) : wpX_mayGoOn post (k0, cm, sm, rm, ms, mn, ct, xa, xh, co, wa, ss, rg, mt, pl) (nI s) (nI t) := by
  have h7 := dl_d7 s t
  have h6 := (G t ht).1
  unfold wpX_mayGoOn
  dsimp only
  refine dl_xd hs ht ?_
  refine ⟨vp_in_nI ht (by decide), ?_⟩
  rw [nI_clamp (n := t) (by omega), (X t ht).1, dl_i6, nI_clamp (n := 6 * t + dl_d s t) (by omega)]
  unfold dl_may at K
  by_cases c : dl_d s t < cz t
  · rw [decide_eq_true c, Bool.true_and] at K
    refine br_t (nI_lt c (by omega)) ⟨vp_in_nI (by omega) (by decide), ?_⟩
    obtain ⟨l, hl, e | e⟩ := (G t ht).2 _ c
    · rw [e] at K
      refine nm_r (e' := nI l) (((X t ht).2.1 _ c).trans (by rw [e]; exact dl_xct hl)) ?_
      refine dl_xho X hs ht hd ?_
      refine br_f (nI_pos (by omega)) ?_
      refine br_c (fun z => ?_) (fun z => ?_)
      · rw [(dl_or4 ya s t hl).mp z] at K
        exact K
      · rw [Bool.eq_false_iff.mpr (fun y => z ((dl_or4 ya s t hl).mpr y))] at K
        exact K
    · rw [e] at K
      refine nm_r (e' := dl_xc (nI (8 + l))) (((X t ht).2.1 _ c).trans (by rw [e])) ?_
      refine dl_xho X hs ht hd ?_
      refine br_t (dl_xcg l hl) ?_
      unfold dl_ok at K
      rw [decide_eq_true (dl_y8 hl), Bool.true_or, Bool.true_or, Bool.true_or, Bool.true_or] at K
      exact K
  · rw [decide_eq_false c, Bool.false_and] at K
    exact br_f (nI_nlt (by omega) (by omega)) K
theorem dl_xl1 {post : Int32 → Prop} {n q a : Nat} (X : dl_XR ya cz ct xa xh) (hq : q < 4)
    (K : wX_lastState_4 post k0 cm sm rm ms mn ct xa xh co wa ss rg mt pl n (nI (a + cz q * dl_w q)) (nI (q + 1))) : wX_lastState_4 post k0 cm sm rm ms mn ct xa xh co wa ss rg mt pl (n + 1) (nI a) (nI q) := by
  refine br_f (nI_ge (b := 4) hq (by decide)) ⟨vp_in_nI hq (by decide), ?_⟩
  refine dl_xw hq ?_
  rw [nI_clamp (by omega), (X q hq).1]
  exact nm_r (e' := nI (a + cz q * dl_w q)) (by rw [pk_mul, nI_add]) (nm_r (nI_1 q) K)
theorem dl_xlast {post : Int32 → Prop} (X : dl_XR ya cz ct xa xh) (K : post (nI (dl_last cz))) : wpX_lastState post (k0, cm, sm, rm, ms, mn, ct, xa, xh, co, wa, ss, rg, mt, pl) := by
  unfold wpX_lastState
  dsimp only
  refine ⟨5, ?_⟩
  refine dl_xl1 (q := 0) (a := 0) X (by decide) ?_
  refine dl_xl1 (q := 1) X (by decide) ?_
  refine dl_xl1 (q := 2) X (by decide) ?_
  refine dl_xl1 (q := 3) X (by decide) ?_
  exact br_t (nI_le (a := 4) (b := 4) (Nat.le_refl _) (by decide)) K
theorem dl_xgo1 {post : SX → Prop} {n s t : Nat} {x : Bool} {p : (Nat → Int32) × (Nat → Int32)} (G : dl_GD ya cz) (X : dl_XR ya cz ct xa xh) (hs : s < 2401) (ht : t < 4) (hd : ∀ u, u < 4 → dl_d s u ≤ cz u)
    (K : wX_goOnFrom_4 post (nI s) k0 cm sm rm ms mn n (dl_i (x || dl_may ya cz s t)) (nI (t + 1)) ct xa xh ((dl_st ya cz s t p).1) ((dl_st ya cz s t p).2) ss rg mt pl) : wX_goOnFrom_4 post (nI s) k0 cm sm rm ms mn (n + 1) (dl_i x) (nI t) ct xa xh p.1 p.2 ss rg mt pl := by
  refine br_f (nI_ge (b := 4) ht (by decide)) ?_
  refine dl_xmay G X hs ht hd ?_
  cases m : dl_may ya cz s t with
  | false =>
    have e : dl_st ya cz s t p = p := by
      unfold dl_st
      rw [if_neg (by rw [m]; decide)]
    rw [m, e, Bool.or_false] at K
    exact br_t rfl (nm_r (nI_1 t) K)
  | true =>
    have e : dl_st ya cz s t p = (upd p.1 (s + dl_w t) 1, upd p.2 (s + dl_w t) (dl_ww (p.2 (s + dl_w t)) (p.2 s))) := by
      unfold dl_st
      rw [if_pos m]
    rw [m, e, Bool.or_true] at K
    have k1 : s + dl_w t < 2401 := (dl_dstep hs t ht (by have a := dl_may_d m; have b := (G t ht).1; omega)).1
    refine br_f (by decide) ?_
    refine dl_xw ht ?_
    refine nm_r (e' := nI (s + dl_w t)) (nI_add _ _) ?_
    rw [nI_clamp (n := s + dl_w t) (by omega), nI_clamp (n := s) (by omega)]
    refine ⟨vp_in_nI k1 (by decide), nm_r (e' := upd p.1 (s + dl_w t) 1) rfl ?_⟩
    refine ⟨vp_in_nI k1 (by decide), vp_in_nI hs (by decide), by decide, vp_in_nI k1 (by decide), ?_⟩
    exact nm_e (nm_r (nI_1 t) K)
theorem dl_xgoE {post : SX → Prop} {n s a b : Nat} {x : Bool} (X : dl_XR ya cz ct xa xh) (G : dl_GD ya cz) (hs : s < 2401) (hb : b < 2401)
    (K1 : (x || decide (s = dl_last cz)) = true → post (k0, nI (a + 1), nI b, rm, ms, mn, ct, xa, xh, co, wa, ss, rg, mt, pl))
    (K2 : (x || decide (s = dl_last cz)) = false → post (k0, nI (a + 1), nI (b + 1), rm, ms, mn, ct, xa, xh, co, wa, upd ss b (nI s), rg, mt, pl)) : wX_goOnFrom_4 post (nI s) k0 (nI a) (nI b) rm ms mn (n + 1) (dl_i x) (nI 4) ct xa xh co wa ss rg mt pl := by
  have hl := dl_last_lt G
  refine br_t (nI_le (a := 4) (b := 4) (Nat.le_refl _) (by decide)) ?_
  refine nm_r (nI_1 a) ?_
  refine dl_xlast X ?_
  cases x with
  | true => exact br_f (by decide) (K1 rfl)
  | false =>
    refine br_t rfl ?_
    by_cases e : s = dl_last cz
    · exact br_t (congrArg nI e) (K1 (by rw [decide_eq_true e]; rfl))
    · refine br_f (fun z => e ((nI_eq (by omega) (by omega)).mp z)) ⟨vp_in_nI hb (by decide), ?_⟩
      rw [nI_clamp (by omega)]
      exact nm_r (e' := upd ss b (nI s)) (by rw [dl_vs (by omega)]) (nm_r (nI_1 b) (K2 (by rw [decide_eq_false e]; rfl)))
theorem dl_xgo {post : SX → Prop} {s a b : Nat} {p : (Nat → Int32) × (Nat → Int32)} (G : dl_GD ya cz) (X : dl_XR ya cz ct xa xh) (hs : s < 2401) (hd : ∀ u, u < 4 → dl_d s u ≤ cz u) (hb : b < 2401)
    (K1 : (dl_any ya cz s || decide (s = dl_last cz)) = true → post (k0, nI (a + 1), nI b, rm, ms, mn, ct, xa, xh, (dl_s4 ya cz s p).1, (dl_s4 ya cz s p).2, ss, rg, mt, pl))
    (K2 : (dl_any ya cz s || decide (s = dl_last cz)) = false → post (k0, nI (a + 1), nI (b + 1), rm, ms, mn, ct, xa, xh, (dl_s4 ya cz s p).1, (dl_s4 ya cz s p).2, upd ss b (nI s), rg, mt, pl)) : wpX_goOnFrom post (k0, nI a, nI b, rm, ms, mn, ct, xa, xh, p.1, p.2, ss, rg, mt, pl) (nI s) := by
  unfold wpX_goOnFrom
  dsimp only
  refine ⟨5, ?_⟩
  refine dl_xgo1 (t := 0) (x := false) G X hs (by decide) hd ?_
  refine dl_xgo1 (t := 1) G X hs (by decide) hd ?_
  refine dl_xgo1 (t := 2) G X hs (by decide) hd ?_
  refine dl_xgo1 (t := 3) G X hs (by decide) hd ?_
  exact dl_xgoE X G hs hb K1 K2
theorem dl_xfs55 {post : SX → Prop} {p : (Nat → Int32) × (Nat → Int32)} (G : dl_GD ya cz) (X : dl_XR ya cz ct xa xh) (h0 : dl_AG p dl_p0)
    (K : ∀ z : Nat → Int32, dl_L (dl_k ya cz) 2401 z → post (k0, nI (dl_n (dl_R ya cz) 2401), nI (dl_n (dl_k ya cz) 2401), rm, ms, mn, ct, xa, xh, (dl_run ya cz p 2401).1, (dl_run ya cz p 2401).2, z, rg, mt, pl)) :
    ∀ d s, s + d = 2401 → ∀ z : Nat → Int32, dl_L (dl_k ya cz) s z → wX_findStates_55 post (d + 1) (nI s) k0 (nI (dl_n (dl_R ya cz) s)) (nI (dl_n (dl_k ya cz) s)) rm ms mn ct xa xh ((dl_run ya cz p s).1) ((dl_run ya cz p s).2) z rg mt pl := by
  intro d
  induction d with
  | zero =>
    intro s hs z L
    obtain rfl : s = 2401 := by omega
    exact br_t (nI_le (a := 2401) (b := 2401) (Nat.le_refl _) (by decide)) (K z L)
  | succ d ih =>
    intro s hs z L
    refine br_f (nI_ge (b := 2401) (by omega) (by decide)) ⟨vp_in_nI (by omega) (by decide), ?_⟩
    rw [nI_clamp (by omega)]
    have hR := dl_R_run (ya := ya) (cz := cz) h0 (s := s) (n := s) (by omega) (Nat.le_refl _) (by omega)
    by_cases c : (dl_run ya cz p s).1 s = 0
    · have r : dl_R ya cz s = false := by rw [hR]; exact decide_eq_false (fun y => y c)
      have k : dl_k ya cz s = false := by unfold dl_k; rw [r]; rfl
      have i := ih (s + 1) (by omega) z (dl_L_f L k)
      rw [dl_n_f r, dl_n_f k, dl_runs, dl_go, if_pos c] at i
      exact br_t c (nm_r (nI_1 s) i)
    · have r : dl_R ya cz s = true := by rw [hR]; exact decide_eq_true c
      refine br_f c ?_
      refine dl_xgo G X (by omega) (dl_R_d G r).2 (Nat.lt_of_le_of_lt (dl_n_le _ s) (by omega)) ?_ ?_
      · intro y
        have k : dl_k ya cz s = false := by unfold dl_k; rw [y, Bool.not_true, Bool.and_false]
        have i := ih (s + 1) (by omega) z (dl_L_f L k)
        rw [dl_n_t r, dl_n_f k, dl_runs, dl_go, if_neg c] at i
        exact nm_r (nI_1 s) i
      · intro y
        have k : dl_k ya cz s = true := by unfold dl_k; rw [y, r]; rfl
        have i := ih (s + 1) (by omega) _ (dl_L_t L)
        rw [dl_n_t r, dl_n_t k, dl_runs, dl_go, if_neg c] at i
        exact nm_r (nI_1 s) i
theorem dl_xfs2 {post : SX → Prop} (K : ∀ c w : Nat → Int32, (∀ j, j < 2401 → c j = 0 ∧ w j = 0) → ∃ n55, wX_findStates_55 post n55 0 k0 0 0 rm ms mn ct xa xh (upd c 0 1) (upd w 0 1) ss rg mt pl) :
    ∀ d i, i + d = 2401 → ∀ c w : Nat → Int32, (∀ j, j < i → c j = 0 ∧ w j = 0) → wX_findStates_2 post k0 cm sm rm ms mn (d + 1) (nI i) ct xa xh c w ss rg mt pl := by
  intro d
  induction d with
  | zero =>
    intro i hi c w h
    obtain rfl : i = 2401 := by omega
    exact br_t (nI_le (a := 2401) (b := 2401) (Nat.le_refl _) (by decide)) (nm_r (e' := upd c 0 1) rfl (nm_e (K c w h)))
  | succ d ih =>
    intro i hi c w h
    refine br_f (nI_ge (b := 2401) (by omega) (by decide)) ⟨vp_in_nI (by omega) (by decide), ?_⟩
    rw [nI_clamp (by omega)]
    refine nm_r (e' := upd c i 0) rfl ⟨vp_in_nI (by omega) (by decide), ?_⟩
    refine nm_e (nm_r (nI_1 i) ?_)
    refine ih (i + 1) (by omega) _ _ ?_
    intro j hj
    by_cases e : j = i
    · subst e
      exact ⟨pk_us, pk_us⟩
    · rw [pk_un e, pk_un e]
      exact h j (by omega)
theorem dl_AG_i {c w : Nat → Int32} (h : ∀ j, j < 2401 → c j = 0 ∧ w j = 0) : dl_AG (upd c 0 1, upd w 0 1) dl_p0 := by
  intro j hj
  by_cases e : j = 0
  · subst e
    exact ⟨rfl, rfl⟩
  · show upd c 0 1 j = (if j = 0 then 1 else 0) ∧ upd w 0 1 j = (if j = 0 then 1 else 0)
    rw [pk_un e, pk_un e, if_neg e]
    exact h j hj
end
end
section
section
variable {ya : Nat → Int32} {cz : Nat → Nat} {k0 cm sm rm ms mn : Int32} {ct xa xh co wa ss rg mt pl : Nat → Int32}
/-- what the search leaves of states -/
def dl_FS (ya : Nat → Int32) (cz : Nat → Nat) (n : Nat) (c w : Nat → Int32) : Prop := ∀ j, j < 2401 → c j = (dl_run ya cz dl_p0 n).1 j ∧ w j = (dl_run ya cz dl_p0 n).2 j
theorem dl_FS_i {c w : Nat → Int32} (h : ∀ j, j < 2401 → c j = 0 ∧ w j = 0) (n : Nat) (hn : n ≤ 2401) : dl_FS ya cz n (dl_run ya cz (upd c 0 1, upd w 0 1) n).1 (dl_run ya cz (upd c 0 1, upd w 0 1) n).2 := dl_AG_run (dl_AG_i h) n hn
theorem dl_xfs {post : SX → Prop} (G : dl_GD ya cz) (X : dl_XR ya cz ct xa xh)
    (K : ∀ c w z : Nat → Int32, dl_FS ya cz 2401 c w → dl_L (dl_k ya cz) 2401 z → post (k0, nI (dl_n (dl_R ya cz) 2401), nI (dl_n (dl_k ya cz) 2401), rm, ms, mn, ct, xa, xh, c, w, z, rg, mt, pl)) : wpX_findStates post (k0, cm, sm, rm, ms, mn, ct, xa, xh, co, wa, ss, rg, mt, pl) := by
  unfold wpX_findStates
  dsimp only
  refine ⟨2402, ?_⟩
  refine dl_xfs2 ?_ 2401 0 rfl co wa (fun j hj => absurd hj (Nat.not_lt_zero _))
  intro c w h
  refine ⟨2402, ?_⟩
  refine dl_xfs55 (p := (upd c 0 1, upd w 0 1)) G X (dl_AG_i h) ?_ 2401 0 rfl ss dl_L_0
  intro z L
  exact K _ _ z (dl_FS_i h 2401 (Nat.le_refl _)) L
end
end
section
/-! the component: rings -/
def dl_en (n : Nat) : Int32 := if n = 4 then -1 else nI n
def dl_PL (ya : Nat → Int32) (cz : Nat → Nat) (pl : Nat → Int32) (q : Nat → Nat) : Prop := ∀ t, t < 4 → pl t = nI (q t) ∧ (q t = 7 ∨ dl_rq ya cz t (q t) = true)
theorem dl_rq_u {ya : Nat → Int32} {cz : Nat → Nat} {t i : Nat} (h : dl_rq ya cz t i = true) : i < cz t ∧ ¬ 8 ≤ ya (6 * t + i) ∧ ¬ dl_H ya t i = 0 := by
  unfold dl_rq at h
  rw [Bool.and_eq_true, Bool.and_eq_true] at h
  exact ⟨of_decide_eq_true h.1, of_decide_eq_true h.2.1, of_decide_eq_true h.2.2⟩
theorem dl_pf0 (a b c d : Nat) : dl_pf a b c d 0 = a := rfl
theorem dl_pf1 (a b c d : Nat) : dl_pf a b c d 1 = b := rfl
theorem dl_pf2 (a b c d : Nat) : dl_pf a b c d 2 = c := rfl
theorem dl_pf3 (a b c d : Nat) : dl_pf a b c d 3 = d := rfl
theorem dl_nx_at (o : Nat → Bool) (h l : Nat → Int32) {a : Nat} (ha : a < 4) : dl_nx o h l a = dl_ho o h (l a) 4 := by
  unfold dl_nx
  exact dl_4 (P := fun a => dl_pf (dl_ho o h (l 0) 4) (dl_ho o h (l 1) 4) (dl_ho o h (l 2) 4) (dl_ho o h (l 3) 4) a = dl_ho o h (l a) 4) (dl_pf0 _ _ _ _) (dl_pf1 _ _ _ _) (dl_pf2 _ _ _ _) (dl_pf3 _ _ _ _) a ha
theorem dl_cok_u {o : Nat → Bool} {b : Nat} (h : dl_cok o b = true) (h4 : ¬ b = 4) : b < 4 ∧ o b = true := by
  unfold dl_cok at h
  rw [decide_eq_false h4, Bool.false_or, Bool.and_eq_true] at h
  exact ⟨of_decide_eq_true h.1, h.2⟩
section
variable {ya : Nat → Int32} {cz : Nat → Nat} {k0 cm sm rm ms mn : Int32} {ct xa xh co wa ss rg mt pl : Nat → Int32}
theorem dl_xrq {post : Int32 → Prop} {t i : Nat} (G : dl_GD ya cz) (X : dl_XR ya cz ct xa xh) (ht : t < 4) (hi : i < 7) (K : post (dl_i (dl_rq ya cz t i))) : wpX_isRequest post (k0, cm, sm, rm, ms, mn, ct, xa, xh, co, wa, ss, rg, mt, pl) (nI t) (nI i) := by
  have h6 := (G t ht).1
  unfold wpX_isRequest
  dsimp only
  rw [nI_clamp (n := t) (by omega), (X t ht).1, dl_i6, nI_clamp (n := 6 * t + i) (by omega)]
  refine ⟨vp_in_nI ht (by decide), ?_⟩
  unfold dl_rq at K
  by_cases c : i < cz t
  · rw [decide_eq_true c, Bool.true_and] at K
    refine br_f (nI_ge c (by omega)) ⟨vp_in_nI (by omega) (by decide), ?_⟩
    rw [(X t ht).2.1 i c]
    obtain ⟨l, hl, e | e⟩ := (G t ht).2 i c
    · rw [e, dl_xct hl]
      rw [e, decide_eq_true (dl_n8 hl), Bool.true_and] at K
      refine br_f (nI_pos (by omega)) ?_
      refine dl_xha (by omega) ?_
      rw [(X t ht).2.2 i (by omega)]
      by_cases z : dl_H ya t i = 0
      · rw [decide_eq_false (fun y => y z)] at K
        exact br_t z K
      · rw [decide_eq_true z] at K
        exact br_f z K
    · rw [e]
      rw [e, decide_eq_false (fun y => y (dl_y8 hl)), Bool.false_and] at K
      exact br_t (dl_xcg l hl) K
  · rw [decide_eq_false c, Bool.false_and] at K
    exact br_t (nI_le (by omega) (by omega)) K
theorem dl_xhf1 {post : Int32 → Prop} {n t : Nat} {x : Int32} {q : Nat → Nat} (G : dl_GD ya cz) (X : dl_XR ya cz ct xa xh) (P : dl_PL ya cz pl q) (ht : t < 4)
    (K : wX_holderOf_4 post x k0 cm sm rm ms mn ct xa xh co wa ss rg mt pl n (dl_en (dl_ho (dl_po q) (dl_ph ya q) x (t + 1))) (nI (t + 1))) : wX_holderOf_4 post x k0 cm sm rm ms mn ct xa xh co wa ss rg mt pl (n + 1) (dl_en (dl_ho (dl_po q) (dl_ph ya q) x t)) (nI t) := by
  have h6 := (G t ht).1
  obtain ⟨ep, h⟩ := P t ht
  refine br_f (nI_ge (b := 4) ht (by decide)) ⟨vp_in_nI ht (by decide), ?_⟩
  rw [nI_clamp (by omega), ep]
  have eh : dl_ho (dl_po q) (dl_ph ya q) x (t + 1) = if (dl_po q t && !dl_fr (dl_ph ya q t) x) = true then t else dl_ho (dl_po q) (dl_ph ya q) x t := rfl
  rw [eh] at K
  rcases h with h | h
  · have o : dl_po q t = false := by unfold dl_po; exact decide_eq_false (by omega)
    rw [o, Bool.false_and, if_neg (by decide)] at K
    rw [h]
    refine br_t (nI_le (a := 7) (b := 7) (Nat.le_refl _) (by decide)) ?_
    unfold wX_holderOf_43 wX_holderOf_44
    exact br_t rfl (nm_r (nI_1 t) K)
  · obtain ⟨hc, h8, hH⟩ := dl_rq_u h
    have o : dl_po q t = true := by unfold dl_po; exact decide_eq_true (by omega)
    have ep2 : dl_ph ya q t = dl_H ya t (q t) := if_pos (by omega)
    rw [o, Bool.true_and, ep2] at K
    refine br_f (nI_ge (b := 7) (by omega) (by decide)) ⟨vp_in_nI ht (by decide), ?_⟩
    refine dl_xha (by omega) ?_
    rw [(X t ht).2.2 _ (by omega)]
    unfold dl_fr at K
    by_cases z : ((dl_H ya t (q t) >>> (x &&& 31)) &&& 1) = 1
    · rw [decide_eq_false (fun y => y z), Bool.not_false, if_pos rfl] at K
      refine br_t z ?_
      have e : dl_en t = nI t := if_neg (by omega)
      rw [e] at K
      unfold wX_holderOf_44
      exact br_f (by decide) (nm_r (nI_1 t) K)
    · rw [decide_eq_true z, Bool.not_true, if_neg (by decide)] at K
      refine br_f z ?_
      unfold wX_holderOf_43 wX_holderOf_44
      exact br_t rfl (nm_r (nI_1 t) K)
theorem dl_xhf {post : Int32 → Prop} {x : Int32} {q : Nat → Nat} (G : dl_GD ya cz) (X : dl_XR ya cz ct xa xh) (P : dl_PL ya cz pl q)
    (K : post (dl_en (dl_ho (dl_po q) (dl_ph ya q) x 4))) : wpX_holderOf post (k0, cm, sm, rm, ms, mn, ct, xa, xh, co, wa, ss, rg, mt, pl) x := by
  unfold wpX_holderOf
  dsimp only
  refine ⟨5, ?_⟩
  refine dl_xhf1 (t := 0) G X P (by decide) ?_
  refine dl_xhf1 (t := 1) G X P (by decide) ?_
  refine dl_xhf1 (t := 2) G X P (by decide) ?_
  refine dl_xhf1 (t := 3) G X P (by decide) ?_
  exact br_t (nI_le (a := 4) (b := 4) (Nat.le_refl _) (by decide)) K
theorem dl_xg29 {post : Int32 → Prop} {st m : Nat} {q : Nat → Nat} (G : dl_GD ya cz) (X : dl_XR ya cz ct xa xh) (P : dl_PL ya cz pl q) (hst : st < 4) (hm : 1 ≤ m) (hm4 : m ≤ 4) :
    ∀ f a i, a < 4 → dl_po q a = true → i ≤ m → m < i + f → post (dl_i (dl_xg (dl_nx (dl_po q) (dl_ph ya q) (dl_pl ya q)) st m f a i)) → wX_goesRound_29 post (nI m) (nI st) k0 cm sm rm ms mn ct xa xh co wa ss rg mt pl f (nI a) (nI i) := by
  have em : nI m - 1 = nI (m - 1) := by
    obtain ⟨k, rfl⟩ : ∃ k, m = k + 1 := ⟨m - 1, by omega⟩
    exact nI_pred k
  intro f
  induction f with
  | zero => intro a i _ _ h1 h2; omega
  | succ f ih =>
    intro a i ha oa h1 h2 K
    have ex : dl_xg (dl_nx (dl_po q) (dl_ph ya q) (dl_pl ya q)) st m (f + 1) a i = if m ≤ i then false else if dl_nx (dl_po q) (dl_ph ya q) (dl_pl ya q) a = 4 then false else if dl_nx (dl_po q) (dl_ph ya q) (dl_pl ya q) a = st then decide (i + 1 = m) else dl_xg (dl_nx (dl_po q) (dl_ph ya q) (dl_pl ya q)) st m f (dl_nx (dl_po q) (dl_ph ya q) (dl_pl ya q) a) (i + 1) := rfl
    rw [ex] at K
    by_cases c : m ≤ i
    · rw [if_pos c] at K
      exact br_t (nI_le c (by omega)) K
    · rw [if_neg c] at K
      obtain ⟨ep, h⟩ := P a ha
      have qa : q a < 6 := of_decide_eq_true oa
      have h2 : dl_rq ya cz a (q a) = true := by
        rcases h with h | h
        · omega
        · exact h
      obtain ⟨hc, h8, hH⟩ := dl_rq_u h2
      refine br_f (nI_ge (by omega) (by omega)) ⟨vp_in_nI ha (by decide), ?_⟩
      rw [nI_clamp (n := a) (by omega), ep, dl_i6, nI_clamp (n := 6 * a + q a) (by omega)]
      refine ⟨vp_in_nI (by omega) (by decide), ?_⟩
      have el : xa (6 * a + q a) = dl_pl ya q a := by
        rw [(X a ha).2.1 _ hc]
        unfold dl_pl dl_xc
        rw [if_neg h8, if_pos qa]
      rw [el]
      refine dl_xhf G X P ?_
      have ok := dl_ho_ok (dl_po q) (dl_ph ya q) (dl_pl ya q a) 4 (Nat.le_refl _)
      rw [dl_nx_at _ _ _ ha] at K
      generalize dl_ho (dl_po q) (dl_ph ya q) (dl_pl ya q a) 4 = b at K ok ⊢
      by_cases c4 : b = 4
      · subst c4
        rw [if_pos rfl] at K
        refine br_t (by decide) ?_
        unfold wX_goesRound_65
        refine br_f (fun z => ?_) K
        exact nI_pos (n := st) (by omega) (by rw [← z]; decide)
      · rw [if_neg c4] at K
        have eb : dl_en b = nI b := if_neg c4
        obtain ⟨hb, ob⟩ := dl_cok_u ok c4
        rw [eb]
        refine br_f (nI_pos (by omega)) ?_
        by_cases cs : b = st
        · rw [if_pos cs] at K
          refine br_t (congrArg nI cs) ?_
          unfold wX_goesRound_65
          refine br_t (congrArg nI cs) ?_
          rw [em]
          by_cases cm : i + 1 = m
          · rw [decide_eq_true cm] at K
            exact br_t (congrArg nI (by omega)) K
          · rw [decide_eq_false cm] at K
            exact br_f (fun z => cm (by have z2 := (nI_eq (by omega) (by omega)).mp z; omega)) K
        · rw [if_neg cs] at K
          refine br_f (fun z => cs ((nI_eq (by omega) (by omega)).mp z)) ?_
          refine nm_r (nI_1 i) ?_
          exact ih b (i + 1) hb ob (by omega) (by omega) K
theorem dl_xg2 {post : Int32 → Prop} {n t m : Nat} {q : Nat → Nat} (P : dl_PL ya cz pl q) (G : dl_GD ya cz) (ht : t < 3)
    (h1 : dl_po q t = true → ∃ n29, wX_goesRound_29 post (nI m) (nI t) k0 cm sm rm ms mn ct xa xh co wa ss rg mt pl n29 (nI t) 0) (h0 : dl_po q t = false → wX_goesRound_2 post (nI m) k0 cm sm rm ms mn ct xa xh co wa ss rg mt pl n (nI (t + 1))) : wX_goesRound_2 post (nI m) k0 cm sm rm ms mn ct xa xh co wa ss rg mt pl (n + 1) (nI t) := by
  have h6 := (G t (by omega)).1
  obtain ⟨ep, h⟩ := P t (by omega)
  refine br_f (nI_ge (b := 3) ht (by decide)) ⟨vp_in_nI (by omega) (by decide), ?_⟩
  rw [nI_clamp (by omega), ep]
  rcases h with h | h
  · rw [h]
    exact br_t rfl (nm_r (nI_1 t) (h0 (by unfold dl_po; exact decide_eq_false (by omega))))
  · obtain ⟨hc, -, -⟩ := dl_rq_u h
    exact br_f (fun z => by have z2 := (nI_eq (b := 7) (by omega) (by decide)).mp z; omega) (h1 (by unfold dl_po; exact decide_eq_true (by omega)))
theorem dl_xgr {post : Int32 → Prop} {q : Nat → Nat} (G : dl_GD ya cz) (X : dl_XR ya cz ct xa xh) (P : dl_PL ya cz pl q) (hm : 1 < dl_n (dl_po q) 4)
    (K : post (dl_i (dl_xg (dl_nx (dl_po q) (dl_ph ya q) (dl_pl ya q)) (dl_fi (dl_po q)) (dl_n (dl_po q) 4) 5 (dl_fi (dl_po q)) 0))) : wpX_goesRound post (k0, cm, sm, rm, ms, mn, ct, xa, xh, co, wa, ss, rg, mt, pl) (nI (dl_n (dl_po q) 4)) := by
  have h4 := dl_n_le (dl_po q) 4
  have J : ∀ t, t < 4 → dl_fi (dl_po q) = t → dl_po q t = true → ∃ n29, wX_goesRound_29 post (nI (dl_n (dl_po q) 4)) (nI t) k0 cm sm rm ms mn ct xa xh co wa ss rg mt pl n29 (nI t) 0 := by
    intro t ht e o
    rw [e] at K
    exact ⟨5, dl_xg29 G X P ht (by omega) (by omega) 5 t 0 ht o (by omega) (by omega) K⟩
  unfold wpX_goesRound
  dsimp only
  refine ⟨4, ?_⟩
  refine dl_xg2 (t := 0) P G (by decide) (fun o => J 0 (by decide) (by unfold dl_fi; rw [if_pos o]) o) (fun o0 => ?_)
  refine dl_xg2 (t := 1) P G (by decide) (fun o => J 1 (by decide) (by unfold dl_fi; rw [if_neg (by rw [o0]; decide), if_pos o]) o) (fun o1 => ?_)
  refine dl_xg2 (t := 2) P G (by decide) (fun o => J 2 (by decide) (by unfold dl_fi; rw [if_neg (by rw [o0]; decide), if_neg (by rw [o1]; decide), if_pos o]) o) (fun o2 => ?_)
  refine br_t (nI_le (a := 3) (b := 3) (Nat.le_refl _) (by decide)) (J 3 (by decide) (by unfold dl_fi; rw [if_neg (by rw [o0]; decide), if_neg (by rw [o1]; decide), if_neg (by rw [o2]; decide)]) ?_)
  cases o3 : dl_po q 3 with
  | true => rfl
  | false =>
    have e3 : dl_n (dl_po q) 4 = dl_n (dl_po q) 3 := dl_n_f (n := 3) o3
    have e2 : dl_n (dl_po q) 3 = dl_n (dl_po q) 2 := dl_n_f (n := 2) o2
    have e1 : dl_n (dl_po q) 2 = dl_n (dl_po q) 1 := dl_n_f (n := 1) o1
    have l1 := dl_n_le (dl_po q) 1
    omega
theorem dl_xr1 {post : Int32 → Prop} {n t : Nat} {x : Bool} {q : Nat → Nat} (G : dl_GD ya cz) (X : dl_XR ya cz ct xa xh) (P : dl_PL ya cz pl q) (ht : t < 4)
    (K : wX_isRing_9 post k0 cm sm rm ms mn ct xa xh co wa ss rg mt pl n (dl_al (dl_po q) (dl_ph ya q) (t + 1)) (nI (dl_n (dl_po q) (t + 1))) (dl_i (x && dl_ap (dl_po q) (dl_ph ya q) t)) (nI (t + 1))) : wX_isRing_9 post k0 cm sm rm ms mn ct xa xh co wa ss rg mt pl (n + 1) (dl_al (dl_po q) (dl_ph ya q) t) (nI (dl_n (dl_po q) t)) (dl_i x) (nI t) := by
  have h6 := (G t ht).1
  obtain ⟨ep, h⟩ := P t ht
  refine br_f (nI_ge (b := 4) ht (by decide)) ⟨vp_in_nI ht (by decide), ?_⟩
  rw [nI_clamp (by omega), ep]
  have ea : dl_al (dl_po q) (dl_ph ya q) (t + 1) = if dl_po q t = true then dl_al (dl_po q) (dl_ph ya q) t ||| dl_ph ya q t else dl_al (dl_po q) (dl_ph ya q) t := rfl
  rw [ea] at K
  unfold dl_ap at K
  rcases h with h | h
  · have o : dl_po q t = false := by unfold dl_po; exact decide_eq_false (by omega)
    rw [dl_n_f o, if_neg (by rw [o]; decide), if_neg (by rw [o]; decide), Bool.and_true] at K
    rw [h]
    exact br_t (nI_le (a := 7) (b := 7) (Nat.le_refl _) (by decide)) (nm_r (nI_1 t) K)
  · obtain ⟨hc, h8, hH⟩ := dl_rq_u h
    have o : dl_po q t = true := by unfold dl_po; exact decide_eq_true (by omega)
    have ep2 : dl_ph ya q t = dl_H ya t (q t) := if_pos (by omega)
    rw [dl_n_t o, if_pos o, if_pos o, ep2] at K
    refine br_f (nI_ge (b := 7) (by omega) (by decide)) ⟨vp_in_nI ht (by decide), ?_⟩
    refine dl_xha (by omega) ?_
    rw [(X t ht).2.2 _ (by omega)]
    unfold wX_isRing_57 wX_isRing_58
    cases x with
    | false => exact br_t rfl (nm_e (nm_r (nI_1 _) (nm_r (nI_1 t) K)))
    | true =>
      refine br_f (by decide) ?_
      by_cases z : dl_al (dl_po q) (dl_ph ya q) t &&& dl_H ya t (q t) = 0
      · rw [decide_eq_true z] at K
        exact br_t z (nm_e (nm_r (nI_1 _) (nm_r (nI_1 t) K)))
      · rw [decide_eq_false z] at K
        exact br_f z (nm_e (nm_r (nI_1 _) (nm_r (nI_1 t) K)))
theorem dl_xring {post : Int32 → Prop} {q : Nat → Nat} (G : dl_GD ya cz) (X : dl_XR ya cz ct xa xh) (P : dl_PL ya cz pl q) (K : post (dl_i (dl_ring ya cz q))) : wpX_isRing post (k0, cm, sm, rm, ms, mn, ct, xa, xh, co, wa, ss, rg, mt, pl) := by
  have r : ∀ t, t < 4 → dl_pr ya cz q t = true := by
    intro t ht
    unfold dl_pr
    rcases (P t ht).2 with h | h
    · rw [if_neg (by omega)]
    · rw [h]
      split <;> rfl
  unfold dl_ring at K
  rw [dl_rg_x, r 0 (by decide), r 1 (by decide), r 2 (by decide), r 3 (by decide)] at K
  unfold wpX_isRing
  dsimp only
  refine ⟨5, ?_⟩
  refine dl_xr1 (t := 0) (x := true) G X P (by decide) ?_
  refine dl_xr1 (t := 1) G X P (by decide) ?_
  refine dl_xr1 (t := 2) G X P (by decide) ?_
  refine dl_xr1 (t := 3) G X P (by decide) ?_
  refine br_t (nI_le (a := 4) (b := 4) (Nat.le_refl _) (by decide)) ?_
  have ez : (true && true && true && true && (dl_ap (dl_po q) (dl_ph ya q) 0 && dl_ap (dl_po q) (dl_ph ya q) 1 && dl_ap (dl_po q) (dl_ph ya q) 2 && dl_ap (dl_po q) (dl_ph ya q) 3)) = (true && dl_ap (dl_po q) (dl_ph ya q) 0 && dl_ap (dl_po q) (dl_ph ya q) 1 && dl_ap (dl_po q) (dl_ph ya q) 2 && dl_ap (dl_po q) (dl_ph ya q) 3) := rfl
  rw [ez] at K
  generalize (true && dl_ap (dl_po q) (dl_ph ya q) 0 && dl_ap (dl_po q) (dl_ph ya q) 1 && dl_ap (dl_po q) (dl_ph ya q) 2 && dl_ap (dl_po q) (dl_ph ya q) 3) = x at K ⊢
  cases x with
  | false => exact br_t rfl K
  | true =>
    rw [Bool.true_and] at K
    refine br_f (by decide) ?_
    by_cases c : 1 < dl_n (dl_po q) 4
    · rw [decide_eq_true c, Bool.true_and] at K
      refine br_f (nI_ge (a := 1) (b := dl_n (dl_po q) 4) c (by have h4 := dl_n_le (dl_po q) 4; omega)) ?_
      refine dl_xgr G X P c ?_
      generalize dl_xg (dl_nx (dl_po q) (dl_ph ya q) (dl_pl ya q)) (dl_fi (dl_po q)) (dl_n (dl_po q) 4) 5 (dl_fi (dl_po q)) 0 = y at K ⊢
      cases y with
      | false => exact br_t rfl K
      | true => exact br_f (by decide) K
    · rw [decide_eq_false c, Bool.false_and] at K
      exact br_t (nI_le (a := dl_n (dl_po q) 4) (b := 1) (by omega) (by decide)) K
theorem dl_xe {k t : Nat} (hk : k < 4096) (ht : t < 4) : (nI k >>> (((3 : Int32) * nI t) &&& 31)) &&& 7 = nI (dl_e k t) := by
  have hs := (by decide +kernel : ∀ t, t < 4 → ((((3 : Int32) * nI t) &&& 31).toBitVec.smod 32).toNat = 3 * t) t ht
  have e : 2 ^ (3 * t) = 8 ^ t := dl_4 (P := fun t => 2 ^ (3 * t) = 8 ^ t) rfl rfl rfl rfl t ht
  have hl : k / 2 ^ (3 * t) ≤ k := Nat.div_le_self _ _
  rw [pk_shrN (by omega) _ (3 * t) hs, pk_andN (by omega) (m := 7) 3 (by decide), e]
  rfl
theorem dl_xfr1 {post : SX → Prop} {J : Int32 → Int32 → (Nat → Int32) → (Nat → Int32) → (Nat → Int32) → (Nat → Int32) → (Nat → Int32) → (Nat → Int32) → (Nat → Int32) → (Nat → Int32) → (Nat → Int32) → Prop} {n k t : Nat} {x : Bool} (G : dl_GD ya cz) (X : dl_XR ya cz ct xa xh) (hk : k < 4096) (ht : t < 4)
    (K : wX_findRings_18 post J (nI k) k0 cm sm rm ms mn n (dl_i (x && (decide (dl_e k t = 7) || dl_rq ya cz t (dl_e k t)))) (nI (t + 1)) ct xa xh co wa ss rg mt (upd pl t (nI (dl_e k t)))) : wX_findRings_18 post J (nI k) k0 cm sm rm ms mn (n + 1) (dl_i x) (nI t) ct xa xh co wa ss rg mt pl := by
  have h8 := dl_e8 k t
  refine br_f (nI_ge (b := 4) ht (by decide)) ?_
  refine nm_r (e' := nI (dl_e k t)) (dl_xe hk ht) ?_
  refine ⟨vp_in_nI ht (by decide), ?_⟩
  rw [nI_clamp (n := t) (by omega)]
  refine nm_r (e' := upd pl t (nI (dl_e k t))) (by rw [dl_vbN (by omega)]) ?_
  cases x with
  | false => exact br_t rfl (nm_r (nI_1 t) K)
  | true =>
    refine br_f (by decide) ?_
    rw [Bool.true_and] at K
    by_cases z : dl_e k t = 7
    · rw [decide_eq_true z, Bool.true_or] at K
      exact br_t (congrArg nI z) (nm_r (nI_1 t) K)
    · rw [decide_eq_false z, Bool.false_or] at K
      refine br_f (fun y => z ((nI_eq (b := 7) (by omega) (by decide)).mp y)) ?_
      refine dl_xrq G X ht (by omega) ?_
      cases c : dl_rq ya cz t (dl_e k t) with
      | false =>
        rw [c] at K
        exact br_t rfl (nm_r (nI_1 t) K)
      | true =>
        rw [c] at K
        exact br_f (by decide) (nm_r (nI_1 t) K)
theorem dl_xfr18 {post : SX → Prop} {J : Int32 → Int32 → (Nat → Int32) → (Nat → Int32) → (Nat → Int32) → (Nat → Int32) → (Nat → Int32) → (Nat → Int32) → (Nat → Int32) → (Nat → Int32) → (Nat → Int32) → Prop} {k b : Nat} (G : dl_GD ya cz) (X : dl_XR ya cz ct xa xh) (hk : k < 4096) (hb : b < 4096)
    (K0 : dl_xr ya cz k = false → ∀ z : Nat → Int32, J (nI (k + 1)) (nI b) ct xa xh co wa ss rg mt z)
    (K1 : dl_xr ya cz k = true → ∀ z : Nat → Int32, J (nI (k + 1)) (nI (b + 1)) ct xa xh co wa ss (upd rg b (nI k)) (upd mt b 0) z) : ∃ n18, wX_findRings_18 post J (nI k) k0 cm sm (nI b) ms mn n18 1 0 ct xa xh co wa ss rg mt pl := by
  refine ⟨5, ?_⟩
  refine dl_xfr1 (t := 0) (x := true) G X hk (by decide) ?_
  refine dl_xfr1 (t := 1) G X hk (by decide) ?_
  refine dl_xfr1 (t := 2) G X hk (by decide) ?_
  refine dl_xfr1 (t := 3) G X hk (by decide) ?_
  refine br_t (nI_le (a := 4) (b := 4) (Nat.le_refl _) (by decide)) ?_
  have g1 : ∀ t, t < 4 → (decide (dl_e k t = 7) || dl_rq ya cz t (dl_e k t)) = true → (dl_e k t = 7 ∨ dl_rq ya cz t (dl_e k t) = true) ∧ ¬ dl_e k t = 6 := by
    intro t ht h
    rw [Bool.or_eq_true] at h
    rcases h with h | h
    · have h2 := of_decide_eq_true h
      exact ⟨Or.inl h2, by omega⟩
    · have h2 := (dl_rq_u h).1
      have h6 := (G t ht).1
      exact ⟨Or.inr h, by omega⟩
  have g2 : ∀ t, t < 4 → dl_pr ya cz (dl_e k) t = true → ¬ dl_e k t = 6 → (decide (dl_e k t = 7) || dl_rq ya cz t (dl_e k t)) = true := by
    intro t ht h h6
    have h8 := dl_e8 k t
    unfold dl_pr at h
    by_cases z : dl_e k t < 6
    · rw [if_pos z] at h
      rw [h, Bool.or_true]
    · rw [decide_eq_true (by omega), Bool.true_or]
  cases x : ((((true && (decide (dl_e k 0 = 7) || dl_rq ya cz 0 (dl_e k 0))) && (decide (dl_e k 1 = 7) || dl_rq ya cz 1 (dl_e k 1))) && (decide (dl_e k 2 = 7) || dl_rq ya cz 2 (dl_e k 2))) && (decide (dl_e k 3 = 7) || dl_rq ya cz 3 (dl_e k 3))) with
  | false =>
    have f : dl_xr ya cz k = false := by
      cases y : dl_xr ya cz k with
      | false => rfl
      | true =>
        unfold dl_xr dl_ring dl_rg at y
        simp only [Bool.and_eq_true] at y
        obtain ⟨⟨a0, a1, a2, a3⟩, ⟨⟨⟨⟨r0, r1⟩, r2⟩, r3⟩, -⟩, -⟩ := y
        rw [g2 0 (by decide) r0 (of_decide_eq_true a0), g2 1 (by decide) r1 (of_decide_eq_true a1), g2 2 (by decide) r2 (of_decide_eq_true a2), g2 3 (by decide) r3 (of_decide_eq_true a3)] at x
        exact absurd x (by decide)
    refine br_t rfl ?_
    unfold wX_findRings_90 wX_findRings_91
    exact br_t rfl (nm_r (nI_1 k) (K0 f _))
  | true =>
    simp only [Bool.and_eq_true] at x
    obtain ⟨⟨⟨⟨-, x0⟩, x1⟩, x2⟩, x3⟩ := x
    have y0 := g1 0 (by decide) x0
    have y1 := g1 1 (by decide) x1
    have y2 := g1 2 (by decide) x2
    have y3 := g1 3 (by decide) x3
    have f : dl_xr ya cz k = dl_ring ya cz (dl_e k) := by
      unfold dl_xr
      rw [decide_eq_true y0.2, decide_eq_true y1.2, decide_eq_true y2.2, decide_eq_true y3.2]
      rfl
    have P : dl_PL ya cz (upd (upd (upd (upd pl 0 (nI (dl_e k 0))) 1 (nI (dl_e k 1))) 2 (nI (dl_e k 2))) 3 (nI (dl_e k 3))) (dl_e k) := dl_4 ⟨rfl, y0.1⟩ ⟨rfl, y1.1⟩ ⟨rfl, y2.1⟩ ⟨rfl, y3.1⟩
    refine br_f (by decide) ?_
    refine dl_xring G X P ?_
    unfold wX_findRings_90 wX_findRings_91
    rw [← f]
    cases y : dl_xr ya cz k with
    | false => exact br_t rfl (br_t rfl (nm_r (nI_1 k) (K0 y _)))
    | true =>
      refine br_f (by decide) (br_f (by decide) ⟨vp_in_nI hb (by decide), ?_⟩)
      rw [nI_clamp (by omega)]
      refine nm_r (e' := upd rg b (nI k)) (by rw [dl_vs (by omega)]) ⟨vp_in_nI hb (by decide), ?_⟩
      exact nm_r (e' := upd mt b 0) rfl (nm_r (nI_1 b) (nm_r (nI_1 k) (K1 y _)))
theorem dl_xfr7 {post : SX → Prop} (G : dl_GD ya cz) (X : dl_XR ya cz ct xa xh)
    (K : ∀ r m z : Nat → Int32, dl_L (dl_xr ya cz) 4096 r → (∀ i, i < dl_n (dl_xr ya cz) 4096 → m i = 0) → post (k0, cm, sm, nI (dl_n (dl_xr ya cz) 4096), ms, mn, ct, xa, xh, co, wa, ss, r, m, z)) :
    ∀ d k, k + d = 4096 → ∀ r m z : Nat → Int32, dl_L (dl_xr ya cz) k r → (∀ i, i < dl_n (dl_xr ya cz) k → m i = 0) → wX_findRings_7 post k0 cm sm ms mn (d + 1) (nI k) (nI (dl_n (dl_xr ya cz) k)) ct xa xh co wa ss r m z := by
  intro d
  induction d with
  | zero =>
    intro k hk r m z L M
    obtain rfl : k = 4096 := by omega
    exact br_t (nI_le (a := 4096) (b := 4096) (Nat.le_refl _) (by decide)) (K r m z L M)
  | succ d ih =>
    intro k hk r m z L M
    refine br_f (nI_ge (b := 4096) (by omega) (by decide)) ?_
    have hb := dl_n_le (dl_xr ya cz) k
    refine dl_xfr18 G X (by omega) (by omega) ?_ ?_
    · intro f z2
      have i := ih (k + 1) (by omega) r m z2 (dl_L_f L f) (by rw [dl_n_f f]; exact M)
      rw [dl_n_f f] at i
      exact i
    · intro f z2
      have i := ih (k + 1) (by omega) _ (upd m (dl_n (dl_xr ya cz) k) 0) z2 (dl_L_t L) (by
        rw [dl_n_t f]
        intro i hi
        by_cases e : i = dl_n (dl_xr ya cz) k
        · subst e
          exact pk_us
        · rw [pk_un e]
          exact M i (by omega))
      rw [dl_n_t f] at i
      exact i
theorem dl_xfr {post : SX → Prop} (G : dl_GD ya cz) (X : dl_XR ya cz ct xa xh)
    (K : ∀ r m z : Nat → Int32, dl_L (dl_xr ya cz) 4096 r → (∀ i, i < dl_n (dl_xr ya cz) 4096 → m i = 0) → post (k0, cm, sm, nI (dl_n (dl_xr ya cz) 4096), ms, mn, ct, xa, xh, co, wa, ss, r, m, z)) : wpX_findRings post (k0, cm, sm, rm, ms, mn, ct, xa, xh, co, wa, ss, rg, mt, pl) := by
  unfold wpX_findRings
  dsimp only
  exact ⟨4097, dl_xfr7 G X K 4096 0 rfl rg mt pl dl_L_0 (fun i hi => absurd hi (Nat.not_lt_zero _))⟩
end
end
section
/-! the component: rings that are met; all that it finds -/
theorem dl_nar (b : Bool) : narrow .boolean (.int (dl_i b)) = .int (dl_i b) := by cases b <;> rfl
def dl_sum (s : Nat) : Nat := 0 + dl_d s 0 + dl_d s 1 + dl_d s 2 + dl_d s 3
theorem dl_sum_le (s : Nat) : dl_sum s ≤ 24 := by
  have h0 := dl_d7 s 0
  have h1 := dl_d7 s 1
  have h2 := dl_d7 s 2
  have h3 := dl_d7 s 3
  unfold dl_sum
  omega
def dl_so (V : Nat → Bool) : Nat → Nat
  | 0 => 99
  | s + 1 => if (V s && decide (dl_sum s < dl_so V s)) = true then dl_sum s else dl_so V s
theorem dl_sos (V : Nat → Bool) (s : Nat) : dl_so V (s + 1) = if (V s && decide (dl_sum s < dl_so V s)) = true then dl_sum s else dl_so V s := rfl
theorem dl_so_le (V : Nat → Bool) : ∀ s, dl_so V s ≤ 99 := by
  intro s
  induction s with
  | zero => exact Nat.le_refl _
  | succ s ih =>
    rw [dl_sos]
    have h := dl_sum_le s
    split <;> omega
theorem dl_so_f {V : Nat → Bool} {s : Nat} (h : V s = false) : dl_so V (s + 1) = dl_so V s := by
  rw [dl_sos, h, Bool.false_and, if_neg (by decide)]
theorem dl_so_t {V : Nat → Bool} {s : Nat} (h : V s = true) : dl_so V (s + 1) = if dl_sum s < dl_so V s then dl_sum s else dl_so V s := by
  rw [dl_sos, h, Bool.true_and]
  by_cases c : dl_sum s < dl_so V s
  · rw [decide_eq_true c, if_pos rfl, if_pos c]
  · rw [decide_eq_false c, if_neg (by decide), if_neg c]
def dl_sx (n : Nat) : Int32 := if n = 99 then -4 else nI n
def dl_F (rg : Nat → Int32) (s i : Nat) : Bool := dl_M (dl_e (rg i).toNatClampNeg) s
def dl_B (ya : Nat → Int32) (cz : Nat → Nat) (p : Nat → Nat) : Bool := dl_ex (fun s => dl_R ya cz s && dl_M p s) 2401
def dl_V (ya : Nat → Int32) (cz : Nat → Nat) (s : Nat) : Bool := dl_R ya cz s && dl_ex (fun k => dl_xr ya cz k && dl_M (dl_e k) s) 4096
/-- a list of rings in the component's numbers -/
def dl_RL (rg : Nat → Int32) (b : Nat) : Prop := ∀ r, r < b → ∃ k, k < 4096 ∧ rg r = nI k ∧ ∀ t, t < 4 → ¬ dl_e k t = 6
section
variable {ya : Nat → Int32} {cz : Nat → Nat} {k0 cm sm rm ms mn : Int32} {ct xa xh co wa ss rg mt pl : Nat → Int32}
theorem dl_xme1 {post : Int32 → Prop} {n s r k t : Nat} {x : Bool} (hs : s < 2401) (hr : r < 4096) (ek : rg r = nI k) (hk : k < 4096) (ht : t < 4) (h6 : ¬ dl_e k t = 6)
    (K : wX_meets_5 post (nI s) (nI r) k0 cm sm rm ms mn ct xa xh co wa ss rg mt pl n (dl_i (x && dl_m1 (dl_e k) s t)) (nI (t + 1))) : wX_meets_5 post (nI s) (nI r) k0 cm sm rm ms mn ct xa xh co wa ss rg mt pl (n + 1) (dl_i x) (nI t) := by
  have h8 := dl_e8 k t
  have h7 := dl_d7 s t
  refine br_f (nI_ge (b := 4) ht (by decide)) ⟨vp_in_nI hr (by decide), ?_⟩
  rw [nI_clamp (n := r) (by omega), ek]
  refine nm_r (e' := nI (dl_e k t)) (dl_xe hk ht) ?_
  unfold dl_m1 at K
  cases x with
  | false => exact br_t rfl (nm_r (nI_1 t) K)
  | true =>
    rw [Bool.true_and] at K
    refine br_f (by decide) ?_
    by_cases z : dl_e k t = 7
    · rw [decide_eq_true (by omega : 6 ≤ dl_e k t), Bool.true_or] at K
      exact br_t (congrArg nI z) (nm_r (nI_1 t) K)
    · rw [decide_eq_false (by omega : ¬ 6 ≤ dl_e k t), Bool.false_or] at K
      refine br_f (fun y => z ((nI_eq (b := 7) (by omega) (by decide)).mp y)) ?_
      refine dl_xd hs ht ?_
      by_cases c : dl_e k t = dl_d s t
      · rw [decide_eq_true c] at K
        exact br_t (congrArg nI c) (nm_r (nI_1 t) K)
      · rw [decide_eq_false c] at K
        exact br_f (fun y => c ((nI_eq (by omega) (by omega)).mp y)) (nm_r (nI_1 t) K)
theorem dl_M_l (p : Nat → Nat) (s : Nat) : dl_M p s = ((((true && dl_m1 p s 0) && dl_m1 p s 1) && dl_m1 p s 2) && dl_m1 p s 3) := by
  unfold dl_M
  cases dl_m1 p s 0 <;> cases dl_m1 p s 1 <;> cases dl_m1 p s 2 <;> rfl
theorem dl_xme {post : Int32 → Prop} {s r k : Nat} (hs : s < 2401) (hr : r < 4096) (ek : rg r = nI k) (hk : k < 4096) (h6 : ∀ t, t < 4 → ¬ dl_e k t = 6)
    (K : post (dl_i (dl_M (dl_e k) s))) : wpX_meets post (k0, cm, sm, rm, ms, mn, ct, xa, xh, co, wa, ss, rg, mt, pl) (nI s) (nI r) := by
  rw [dl_M_l] at K
  unfold wpX_meets
  dsimp only
  refine ⟨5, ?_⟩
  refine dl_xme1 (t := 0) (x := true) hs hr ek hk (by decide) (h6 0 (by decide)) ?_
  refine dl_xme1 (t := 1) hs hr ek hk (by decide) (h6 1 (by decide)) ?_
  refine dl_xme1 (t := 2) hs hr ek hk (by decide) (h6 2 (by decide)) ?_
  refine dl_xme1 (t := 3) hs hr ek hk (by decide) (h6 3 (by decide)) ?_
  exact br_t (nI_le (a := 4) (b := 4) (Nat.le_refl _) (by decide)) ⟨dl_nar _, K⟩
theorem dl_xs1 {post : Int32 → Prop} {n s t a : Nat} (hs : s < 2401) (ht : t < 4) (K : wX_sumOf_4 post (nI s) k0 cm sm rm ms mn ct xa xh co wa ss rg mt pl n (nI (a + dl_d s t)) (nI (t + 1))) : wX_sumOf_4 post (nI s) k0 cm sm rm ms mn ct xa xh co wa ss rg mt pl (n + 1) (nI a) (nI t) := by
  refine br_f (nI_ge (b := 4) ht (by decide)) ?_
  refine dl_xd hs ht ?_
  exact nm_r (nI_add _ _) (nm_r (nI_1 t) K)
theorem dl_xsum {post : Int32 → Prop} {s : Nat} (hs : s < 2401) (K : post (nI (dl_sum s))) : wpX_sumOf post (k0, cm, sm, rm, ms, mn, ct, xa, xh, co, wa, ss, rg, mt, pl) (nI s) := by
  unfold wpX_sumOf
  dsimp only
  refine ⟨5, ?_⟩
  refine dl_xs1 (t := 0) (a := 0) hs (by decide) ?_
  refine dl_xs1 (t := 1) hs (by decide) ?_
  refine dl_xs1 (t := 2) hs (by decide) ?_
  refine dl_xs1 (t := 3) hs (by decide) ?_
  exact br_t (nI_le (a := 4) (b := 4) (Nat.le_refl _) (by decide)) K
theorem dl_xmr44 {post : Int32 → SX → Prop} {J : Int32 → Int32 → (Nat → Int32) → (Nat → Int32) → (Nat → Int32) → (Nat → Int32) → (Nat → Int32) → (Nat → Int32) → (Nat → Int32) → (Nat → Int32) → (Nat → Int32) → Prop} {s r : Nat} {x y z : Bool} (hr : r < 4096)
    (K : J (dl_i (x || y)) (nI (r + 1)) ct xa xh co wa ss rg (upd mt r (dl_i z)) pl) : wX_meetRings_44 post J (nI s) (dl_i x) (nI r) (dl_i y) (dl_i z) (nI r) k0 cm sm rm ms mn ct xa xh co wa ss rg mt pl := by
  unfold wX_meetRings_44
  refine ⟨vp_in_nI hr (by decide), ?_⟩
  rw [nI_clamp (by omega)]
  refine nm_r (e' := upd mt r (dl_i z)) (by cases z <;> rfl) ?_
  cases x with
  | false =>
    refine br_t rfl ?_
    cases y with
    | false => exact br_t rfl (nm_r (nI_1 r) K)
    | true => exact br_f (by decide) (nm_r (nI_1 r) K)
  | true => exact br_f (by decide) (nm_r (nI_1 r) K)
theorem dl_xmr4 {post : Int32 → SX → Prop} {s b : Nat} {m0 : Nat → Int32} (hs : s < 2401) (hb : b ≤ 4096) (hr : dl_RL rg b)
    (K : ∀ m : Nat → Int32, (∀ i, i < b → (¬ m i = 0 ↔ (¬ m0 i = 0 ∨ dl_F rg s i = true))) → post (dl_i (dl_ex (dl_F rg s) b)) (k0, cm, sm, nI b, ms, mn, ct, xa, xh, co, wa, ss, rg, m, pl)) :
    ∀ d r, r + d = b → ∀ m : Nat → Int32, (∀ i, i < r → (¬ m i = 0 ↔ (¬ m0 i = 0 ∨ dl_F rg s i = true))) → (∀ i, r ≤ i → m i = m0 i) → wX_meetRings_4 post (nI s) k0 cm sm (nI b) ms mn (d + 1) (dl_i (dl_ex (dl_F rg s) r)) (nI r) ct xa xh co wa ss rg m pl := by
  intro d
  induction d with
  | zero =>
    intro r h m h1 h2
    obtain rfl : r = b := by omega
    exact br_t (nI_le (Nat.le_refl _) (by omega)) ⟨dl_nar _, K m h1⟩
  | succ d ih =>
    intro r h m h1 h2
    obtain ⟨k, hk, ek, h6⟩ := hr r (by omega)
    have ef : dl_M (dl_e k) s = dl_F rg s r := by
      unfold dl_F
      rw [ek, nI_clamp (by omega)]
    have step : ∀ z : Bool, (z = true ↔ (¬ m r = 0 ∨ dl_F rg s r = true)) → wX_meetRings_44 post (wX_meetRings_4 post (nI s) k0 cm sm (nI b) ms mn (d + 1)) (nI s) (dl_i (dl_ex (dl_F rg s) r)) (nI r) (dl_i (dl_F rg s r)) (dl_i z) (nI r) k0 cm sm (nI b) ms mn ct xa xh co wa ss rg m pl := by
      intro z hz
      refine dl_xmr44 (by omega) ?_
      refine ih (r + 1) (by omega) (upd m r (dl_i z)) ?_ ?_
      · intro i hi
        by_cases e : i = r
        · subst e
          rw [pk_us, ← h2 i (Nat.le_refl _), ← hz]
          cases z <;> decide
        · rw [pk_un e]
          exact h1 i (by omega)
      · intro i hi
        rw [pk_un (by omega)]
        exact h2 i (by omega)
    refine br_f (nI_ge (by omega) (by omega)) ?_
    refine dl_xme hs (by omega) ek hk h6 ?_
    rw [ef]
    refine ⟨vp_in_nI (by omega) (by decide), ?_⟩
    rw [nI_clamp (by omega)]
    unfold wX_meetRings_39
    by_cases c : m r = 0
    · refine br_t c ?_
      cases f : dl_F rg s r with
      | false =>
        have q := step false (by rw [f]; exact ⟨fun y => absurd y (by decide), fun y => by rcases y with y | y; exact absurd c y; exact absurd y (by decide)⟩)
        rw [f] at q
        exact br_t rfl q
      | true =>
        have q := step true (by rw [f]; exact ⟨fun _ => Or.inr rfl, fun _ => rfl⟩)
        rw [f] at q
        exact br_f (by decide) q
    · exact br_f c (step true ⟨fun _ => Or.inl c, fun _ => rfl⟩)
theorem dl_xmr {post : Int32 → SX → Prop} {s b : Nat} (hs : s < 2401) (hb : b ≤ 4096) (hr : dl_RL rg b)
    (K : ∀ m : Nat → Int32, (∀ i, i < b → (¬ m i = 0 ↔ (¬ mt i = 0 ∨ dl_F rg s i = true))) → post (dl_i (dl_ex (dl_F rg s) b)) (k0, cm, sm, nI b, ms, mn, ct, xa, xh, co, wa, ss, rg, m, pl)) : wpX_meetRings post (k0, cm, sm, nI b, ms, mn, ct, xa, xh, co, wa, ss, rg, mt, pl) (nI s) := by
  unfold wpX_meetRings
  dsimp only
  exact ⟨b + 1, dl_xmr4 hs hb hr K b 0 (Nat.zero_add b) mt (fun i hi => absurd hi (Nat.not_lt_zero _)) (fun _ _ => rfl)⟩
theorem dl_xfm42 {post : SX → Prop} {J : Int32 → Int32 → Int32 → Int32 → Int32 → Int32 → Int32 → (Nat → Int32) → (Nat → Int32) → (Nat → Int32) → (Nat → Int32) → (Nat → Int32) → (Nat → Int32) → (Nat → Int32) → (Nat → Int32) → (Nat → Int32) → Prop} {s a c : Nat} (hs : s < 2401) (hc : c ≤ 99)
    (K : J (nI (s + 1)) k0 cm sm rm (nI (a + 1)) (dl_sx (if dl_sum s < c then dl_sum s else c)) ct xa xh co wa ss rg mt pl) : wX_findMet_42 post J (nI s) 1 k0 cm sm rm (nI a) (dl_sx c) ct xa xh co wa ss rg mt pl := by
  have h24 := dl_sum_le s
  unfold wX_findMet_42
  refine br_f (by decide) ?_
  refine dl_xsum hs ?_
  refine nm_r (nI_1 a) ?_
  have es : dl_sx (dl_sum s) = nI (dl_sum s) := if_neg (by omega)
  by_cases z : c = 99
  · subst z
    rw [if_pos (by omega), es] at K
    exact br_t (by decide) (nm_r (nI_1 s) K)
  · have ec : dl_sx c = nI c := if_neg z
    rw [ec]
    refine br_f (nI_pos (by omega)) ?_
    by_cases y : dl_sum s < c
    · rw [if_pos y, es] at K
      exact br_f (nI_ge y (by omega)) (nm_r (nI_1 s) K)
    · rw [if_neg y, ec] at K
      exact br_t (nI_le (by omega) (by omega)) (nm_r (nI_1 s) K)
theorem dl_xfm13 {post : SX → Prop} {b : Nat} {V : Nat → Bool} (hco : ∀ j, j < 2401 → dl_R ya cz j = decide (¬ co j = 0)) (hV : ∀ s, V s = (dl_R ya cz s && dl_ex (dl_F rg s) b)) (hb : b ≤ 4096) (hr : dl_RL rg b)
    (K : ∀ m : Nat → Int32, (∀ i, i < b → (¬ m i = 0 ↔ dl_ex (fun s => dl_R ya cz s && dl_F rg s i) 2401 = true)) → post (k0, cm, sm, nI b, nI (dl_n V 2401), dl_sx (dl_so V 2401), ct, xa, xh, co, wa, ss, rg, m, pl)) :
    ∀ d s, s + d = 2401 → ∀ m : Nat → Int32, (∀ i, i < b → (¬ m i = 0 ↔ dl_ex (fun s => dl_R ya cz s && dl_F rg s i) s = true)) → wX_findMet_13 post (d + 1) (nI s) k0 cm sm (nI b) (nI (dl_n V s)) (dl_sx (dl_so V s)) ct xa xh co wa ss rg m pl := by
  intro d
  induction d with
  | zero =>
    intro s hs m M
    obtain rfl : s = 2401 := by omega
    exact br_t (nI_le (a := 2401) (b := 2401) (Nat.le_refl _) (by decide)) (K m M)
  | succ d ih =>
    intro s hs m M
    refine br_f (nI_ge (b := 2401) (by omega) (by decide)) ⟨vp_in_nI (by omega) (by decide), ?_⟩
    rw [nI_clamp (by omega)]
    have hR := hco s (by omega)
    have hv := hV s
    by_cases c : co s = 0
    · have r : dl_R ya cz s = false := by rw [hR]; exact decide_eq_false (fun y => y c)
      rw [r, Bool.false_and] at hv
      have i := ih (s + 1) (by omega) m (by
        intro i hi
        rw [dl_exs, r, Bool.false_and, Bool.or_false]
        exact M i hi)
      rw [dl_n_f hv, dl_so_f hv] at i
      refine br_t c ?_
      unfold wX_findMet_41 wX_findMet_42
      exact br_t rfl (nm_r (nI_1 s) i)
    · have r : dl_R ya cz s = true := by rw [hR]; exact decide_eq_true c
      rw [r, Bool.true_and] at hv
      refine br_f c ?_
      refine dl_xmr (by omega) hb hr ?_
      intro m2 M2
      have M3 : ∀ i, i < b → (¬ m2 i = 0 ↔ dl_ex (fun s => dl_R ya cz s && dl_F rg s i) (s + 1) = true) := by
        intro i hi
        rw [dl_exs, r, Bool.true_and, Bool.or_eq_true, ← M i hi]
        exact M2 i hi
      have i := ih (s + 1) (by omega) m2 M3
      dsimp only
      cases v : dl_ex (dl_F rg s) b with
      | false =>
        rw [v] at hv
        rw [dl_n_f hv, dl_so_f hv] at i
        refine br_t rfl ?_
        unfold wX_findMet_41 wX_findMet_42
        exact br_t rfl (nm_r (nI_1 s) i)
      | true =>
        rw [v] at hv
        rw [dl_n_t hv, dl_so_t hv] at i
        refine br_f (by decide) ?_
        exact dl_xfm42 (by omega) (dl_so_le V s) i
theorem dl_xfm {post : SX → Prop} {b : Nat} {V : Nat → Bool} (hco : ∀ j, j < 2401 → dl_R ya cz j = decide (¬ co j = 0)) (hV : ∀ s, V s = (dl_R ya cz s && dl_ex (dl_F rg s) b)) (hb : b ≤ 4096) (hr : dl_RL rg b) (h0 : ∀ i, i < b → mt i = 0)
    (K : ∀ m : Nat → Int32, (∀ i, i < b → (¬ m i = 0 ↔ dl_ex (fun s => dl_R ya cz s && dl_F rg s i) 2401 = true)) → post (k0, cm, sm, nI b, nI (dl_n V 2401), dl_sx (dl_so V 2401), ct, xa, xh, co, wa, ss, rg, m, pl)) : wpX_findMet post (k0, cm, sm, nI b, ms, mn, ct, xa, xh, co, wa, ss, rg, mt, pl) := by
  unfold wpX_findMet
  dsimp only
  refine ⟨2402, ?_⟩
  refine dl_xfm13 hco hV hb hr K 2401 0 rfl mt ?_
  intro i hi
  rw [h0 i hi]
  exact ⟨fun y => absurd rfl y, fun y => absurd (show (false : Bool) = true from y) (by decide)⟩
/-- what is known -/
def dl_KN (ya : Nat → Int32) (cz : Nat → Nat) (cm sm rm ms mn : Int32) (co wa ss mt : Nat → Int32) : Prop :=
  cm = nI (dl_n (dl_R ya cz) 2401) ∧ sm = nI (dl_n (dl_k ya cz) 2401) ∧ dl_FS ya cz 2401 co wa ∧ dl_L (dl_k ya cz) 2401 ss ∧ rm = nI (dl_n (dl_xr ya cz) 4096) ∧
  (∀ k, k < 4096 → dl_xr ya cz k = true → (¬ mt (dl_n (dl_xr ya cz) k) = 0 ↔ dl_B ya cz (dl_e k) = true)) ∧ ms = nI (dl_n (dl_V ya cz) 2401) ∧ mn = dl_sx (dl_so (dl_V ya cz) 2401)
theorem dl_xr_6 {k : Nat} (h : dl_xr ya cz k = true) : ∀ t, t < 4 → ¬ dl_e k t = 6 := by
  unfold dl_xr at h
  simp only [Bool.and_eq_true] at h
  obtain ⟨⟨a0, a1, a2, a3⟩, -⟩ := h
  exact dl_4 (of_decide_eq_true a0) (of_decide_eq_true a1) (of_decide_eq_true a2) (of_decide_eq_true a3)
theorem dl_RL_L (L : dl_L (dl_xr ya cz) 4096 rg) : dl_RL rg (dl_n (dl_xr ya cz) 4096) := by
  intro r hr
  obtain ⟨k, hk, h1, h2⟩ := dl_n_inv 4096 hr
  refine ⟨k, hk, ?_, dl_xr_6 h1⟩
  rw [← h2]
  exact L k hk h1
theorem dl_F_L (L : dl_L (dl_xr ya cz) 4096 rg) {k s : Nat} (hk : k < 4096) (h : dl_xr ya cz k = true) : dl_F rg s (dl_n (dl_xr ya cz) k) = dl_M (dl_e k) s := by
  unfold dl_F
  rw [L k hk h, nI_clamp (by omega)]
theorem dl_xfind {post : SX → Prop} (G : dl_GD ya cz) (X : dl_XR ya cz ct xa xh) (N : ¬ k0 = 0 → dl_KN ya cz cm sm rm ms mn co wa ss mt)
    (K : ∀ (k0 cm sm rm ms mn : Int32) (co wa ss rg mt pl : Nat → Int32), ¬ k0 = 0 → dl_KN ya cz cm sm rm ms mn co wa ss mt → post (k0, cm, sm, rm, ms, mn, ct, xa, xh, co, wa, ss, rg, mt, pl)) : wpX_find post (k0, cm, sm, rm, ms, mn, ct, xa, xh, co, wa, ss, rg, mt, pl) := by
  unfold wpX_find
  dsimp only
  refine br_c (fun _ => ?_) (fun z => K _ _ _ _ _ _ _ _ _ _ _ _ z (N z))
  refine dl_xfs G X ?_
  intro c w z hF hL
  dsimp only
  refine dl_xfr G X ?_
  intro r m p hr hm
  dsimp only
  have hco : ∀ j, j < 2401 → dl_R ya cz j = decide (¬ c j = 0) := by
    intro j hj
    rw [(hF j hj).1]
    exact dl_R_run (fun _ _ => ⟨rfl, rfl⟩) hj (by omega) (Nat.le_refl _)
  refine dl_xfm (V := dl_V ya cz) hco ?_ (dl_n_le _ _) (dl_RL_L hr) hm ?_
  · intro s
    unfold dl_V
    rw [dl_ex_via (P := dl_xr ya cz) (F := dl_F r s) (B := fun k => dl_M (dl_e k) s) (fun k hk h => dl_F_L hr hk h)]
  · intro m2 M
    dsimp only
    refine K _ _ _ _ _ _ _ _ _ _ _ _ (by decide) ⟨rfl, rfl, hF, hL, rfl, ?_, rfl, rfl⟩
    intro k hk h
    rw [M _ (dl_n_lt h hk)]
    unfold dl_B
    rw [dl_ex_c (P := fun s => dl_R ya cz s && dl_F r s (dl_n (dl_xr ya cz) k)) (Q := fun s => dl_R ya cz s && dl_M (dl_e k) s) 2401 (fun s _ => by show (dl_R ya cz s && dl_F r s (dl_n (dl_xr ya cz) k)) = _; rw [dl_F_L hr hk h])]
end
end
section
/-! the reference: states -/
def dl_YR (cz : Nat → Nat) (sz sp : Nat → Int32) : Prop := ∀ t, t < 4 → sz t = nI (cz t) ∧ sp t = nI (dl_w t)
section
variable {cz : Nat → Nat} {my : Int32} {ya sz re wy sp rr ch : Nat → Int32}
theorem dl_yi1 {post : SY → Prop} {n t a : Nat} (ht : t < 4) (ha : a < 1000) (K : wY_init_66 post my n (nI (a / 7)) (nI (t + 1)) ya sz re wy (upd sp t (nI a)) rr ch) : wY_init_66 post my (n + 1) (nI a) (nI t) ya sz re wy sp rr ch := by
  refine br_f (nI_ge (b := 4) ht (by decide)) ⟨vp_in_nI ht (by decide), ?_⟩
  rw [nI_clamp (by omega)]
  refine nm_e ⟨by decide, ?_⟩
  exact nm_r (e' := nI (a / 7)) (pk_div (d := 7) (by omega) (by decide) (by decide)) (nm_r (nI_1 t) K)
theorem dl_yinit {post : SY → Prop} (K : ∀ z : Nat → Int32, (∀ t, t < 4 → z t = nI (dl_w t)) → post (0, (fun _ => 0), (fun _ => 0), (fun _ => 0), (fun _ => 0), z, (fun _ => 0), (fun _ => 0))) : wpY_init post := by
  refine ⟨5, ?_⟩
  refine dl_yi1 (t := 0) (a := 343) (by decide) (by decide) ?_
  refine dl_yi1 (t := 1) (a := 49) (by decide) (by decide) ?_
  refine dl_yi1 (t := 2) (a := 7) (by decide) (by decide) ?_
  refine dl_yi1 (t := 3) (a := 1) (by decide) (by decide) ?_
  exact br_t (nI_le (a := 4) (b := 4) (Nat.le_refl _) (by decide)) (K _ (dl_4 rfl rfl rfl rfl))
theorem dl_yh5 {post : Int32 → Prop} {t m : Nat} (ht : t < 4) (hm : m ≤ 6) (K : post (dl_H ya t m)) : ∀ d i, i + d = m → wY_held_5 post (nI t) (nI m) my ya sz re wy sp rr ch (d + 1) (dl_H ya t i) (nI i) := by
  intro d
  induction d with
  | zero =>
    intro i hi
    obtain rfl : i = m := by omega
    exact br_t (nI_le (Nat.le_refl _) (by omega)) K
  | succ d ih =>
    intro i hi
    refine br_f (nI_ge (by omega) (by omega)) ?_
    rw [dl_i6, nI_clamp (by omega)]
    refine ⟨vp_in_nI (by omega) (by decide), nm_e ?_⟩
    have q := ih (i + 1) (by omega)
    rw [dl_Hs] at q
    by_cases c : 8 ≤ ya (6 * t + i)
    · rw [if_pos c] at q
      exact br_t c (nm_e (nm_r (nI_1 i) q))
    · rw [if_neg c] at q
      exact br_f c (nm_e (nm_r (nI_1 i) q))
theorem dl_yh {post : Int32 → Prop} {t m : Nat} (ht : t < 4) (hm : m ≤ 6) (K : post (dl_H ya t m)) : wpY_held post (my, ya, sz, re, wy, sp, rr, ch) (nI t) (nI m) := by
  unfold wpY_held
  dsimp only
  exact ⟨m + 1, dl_yh5 ht hm K m 0 (Nat.zero_add m)⟩
theorem dl_yd {post : Int32 → Prop} {s t : Nat} (Y : dl_YR cz sz sp) (hs : s < 2401) (ht : t < 4) (K : post (nI (dl_d s t))) : wpY_done post (my, ya, sz, re, wy, sp, rr, ch) (nI s) (nI t) := by
  have hw := dl_wpos t
  have hw2 := dl_wle t
  have e : (nI s / nI (dl_w t)) - (nI s / nI (dl_w t)) / 7 * 7 = nI (dl_d s t) := by
    rw [pk_div (by omega) hw (by omega)]
    exact pk_rem (d := 7) (Nat.lt_of_le_of_lt (Nat.div_le_self _ _) (by omega)) (by decide) (by decide)
  unfold wpY_done
  dsimp only
  rw [nI_clamp (by omega), (Y t ht).2, e]
  exact ⟨vp_in_nI ht (by decide), nI_ne0 hw (by omega), by decide, K⟩
theorem dl_ym1 {post : Int32 → Prop} {n s t u : Nat} {a : Int32} (Y : dl_YR cz sz sp) (hs : s < 2401) (ht : t < 4) (hu : u < 4)
    (h1 : dl_ok ya s t u a = true → wY_mayGoOn_35 post (nI s) (nI t) a my ya sz re wy sp rr ch n (nI (u + 1))) (h0 : dl_ok ya s t u a = false → post 0) : wY_mayGoOn_35 post (nI s) (nI t) a my ya sz re wy sp rr ch (n + 1) (nI u) := by
  have h7 := dl_d7 s u
  have J : wY_mayGoOn_68 post (wY_mayGoOn_35 post (nI s) (nI t) a my ya sz re wy sp rr ch n) (nI s) (nI t) a (nI u) (dl_o ya s t u) my ya sz re wy sp rr ch := by
    unfold wY_mayGoOn_68
    unfold dl_ok dl_fr at h1 h0
    by_cases c : 8 ≤ a
    · exact br_t c (nm_r (nI_1 u) (h1 (by rw [decide_eq_true c, Bool.true_or])))
    · refine br_f c ?_
      rw [decide_eq_false c, Bool.false_or] at h1 h0
      by_cases z : ((dl_o ya s t u >>> (a &&& 31)) &&& 1) = 1
      · exact br_t z (h0 (decide_eq_false (fun y => y z)))
      · exact br_f z (nm_r (nI_1 u) (h1 (decide_eq_true z)))
  refine br_f (nI_ge (b := 4) hu (by decide)) ?_
  refine dl_yd Y hs hu ?_
  unfold dl_o at J
  by_cases e : u = t
  · rw [if_pos e] at J
    exact br_t (congrArg nI e) J
  · rw [if_neg e] at J
    refine br_f (fun z => e ((nI_eq (by omega) (by omega)).mp z)) ?_
    exact dl_yh hu (by omega) J
theorem dl_ymay {post : Int32 → Prop} {s t : Nat} (G : dl_GD ya cz) (Y : dl_YR cz sz sp) (hs : s < 2401) (ht : t < 4) (hd : dl_d s t ≤ cz t) (K : post (dl_i (dl_may ya cz s t))) : wpY_mayGoOn post (my, ya, sz, re, wy, sp, rr, ch) (nI s) (nI t) := by
  have h7 := dl_d7 s t
  have h6 := (G t ht).1
  unfold wpY_mayGoOn
  dsimp only
  refine dl_yd Y hs ht ?_
  rw [nI_clamp (n := t) (by omega), (Y t ht).1, dl_i6, nI_clamp (n := 6 * t + dl_d s t) (by omega)]
  refine ⟨vp_in_nI ht (by decide), ?_⟩
  unfold dl_may at K
  by_cases c : dl_d s t < cz t
  · rw [decide_eq_true c, Bool.true_and] at K
    refine br_f (fun z => by have z2 := (nI_eq (by omega) (by omega)).mp z; omega) ⟨vp_in_nI (by omega) (by decide), nm_e ?_⟩
    generalize ya (6 * t + dl_d s t) = a at K ⊢
    refine ⟨5, ?_⟩
    refine dl_ym1 (u := 0) Y hs ht (by decide) (fun e => ?_) (fun e => by rw [e] at K; exact K)
    rw [e, Bool.true_and] at K
    refine dl_ym1 (u := 1) Y hs ht (by decide) (fun e => ?_) (fun e => by rw [e] at K; exact K)
    rw [e, Bool.true_and] at K
    refine dl_ym1 (u := 2) Y hs ht (by decide) (fun e => ?_) (fun e => by rw [e] at K; exact K)
    rw [e, Bool.true_and] at K
    refine dl_ym1 (u := 3) Y hs ht (by decide) (fun e => ?_) (fun e => by rw [e] at K; exact K)
    rw [e] at K
    exact br_t (nI_le (a := 4) (b := 4) (Nat.le_refl _) (by decide)) K
  · rw [decide_eq_false c, Bool.false_and] at K
    exact br_t (congrArg nI (by omega)) K
theorem dl_yw1 {post : SY → Prop} {J : Int32 → (Nat → Int32) → (Nat → Int32) → (Nat → Int32) → (Nat → Int32) → (Nat → Int32) → (Nat → Int32) → (Nat → Int32) → Prop} {n s t : Nat} {p : (Nat → Int32) × (Nat → Int32)} (G : dl_GD ya cz) (Y : dl_YR cz sz sp) (hs : s < 2401) (ht : t < 4) (hd : dl_d s t ≤ cz t) (hp : ¬ p.1 s = 0)
    (K : wY_work_56 post J (nI s) my n (nI (t + 1)) ya sz ((dl_st ya cz s t p).1) ((dl_st ya cz s t p).2) sp rr ch) : wY_work_56 post J (nI s) my (n + 1) (nI t) ya sz p.1 p.2 sp rr ch := by
  refine br_f (nI_ge (b := 4) ht (by decide)) ⟨vp_in_nI hs (by decide), ?_⟩
  rw [nI_clamp (n := s) (by omega)]
  refine br_f hp ?_
  refine dl_ymay G Y hs ht hd ?_
  cases m : dl_may ya cz s t with
  | false =>
    have e : dl_st ya cz s t p = p := by
      unfold dl_st
      rw [if_neg (by rw [m]; decide)]
    rw [e] at K
    exact br_t rfl (nm_r (nI_1 t) K)
  | true =>
    have e : dl_st ya cz s t p = (upd p.1 (s + dl_w t) 1, upd p.2 (s + dl_w t) (dl_ww (p.2 (s + dl_w t)) (p.2 s))) := by
      unfold dl_st
      rw [if_pos m]
    rw [e] at K
    have k1 : s + dl_w t < 2401 := (dl_dstep hs t ht (by have a := dl_may_d m; have b := (G t ht).1; omega)).1
    refine br_f (by decide) ⟨vp_in_nI ht (by decide), ?_⟩
    rw [nI_clamp (n := t) (by omega), (Y t ht).2]
    refine nm_r (e' := nI (s + dl_w t)) (nI_add _ _) ?_
    rw [nI_clamp (n := s + dl_w t) (by omega)]
    refine ⟨vp_in_nI k1 (by decide), nm_r (e' := upd p.1 (s + dl_w t) 1) rfl ?_⟩
    refine ⟨vp_in_nI k1 (by decide), vp_in_nI hs (by decide), by decide, vp_in_nI k1 (by decide), ?_⟩
    exact nm_e (nm_r (nI_1 t) K)
theorem dl_yw56 {post : SY → Prop} {J : Int32 → (Nat → Int32) → (Nat → Int32) → (Nat → Int32) → (Nat → Int32) → (Nat → Int32) → (Nat → Int32) → (Nat → Int32) → Prop} {s : Nat} {p : (Nat → Int32) × (Nat → Int32)} (G : dl_GD ya cz) (Y : dl_YR cz sz sp) (hs : s < 2401) (hd : ¬ p.1 s = 0 → ∀ t, t < 4 → dl_d s t ≤ cz t)
    (K : J (nI (s + 1)) ya sz ((dl_go ya cz s p).1) ((dl_go ya cz s p).2) sp rr ch) : ∃ n56, wY_work_56 post J (nI s) my n56 0 ya sz p.1 p.2 sp rr ch := by
  unfold dl_go at K
  by_cases c : p.1 s = 0
  · rw [if_pos c] at K
    refine ⟨1, ?_⟩
    refine br_f (by decide) ⟨vp_in_nI hs (by decide), ?_⟩
    rw [nI_clamp (n := s) (by omega)]
    exact br_t c (nm_r (nI_1 s) K)
  · rw [if_neg c] at K
    have d := hd c
    refine ⟨5, ?_⟩
    refine dl_yw1 (t := 0) G Y hs (by decide) (d 0 (by decide)) c ?_
    refine dl_yw1 (t := 1) G Y hs (by decide) (d 1 (by decide)) (by rw [(dl_st_le (Nat.le_refl s) _).1]; exact c) ?_
    refine dl_yw1 (t := 2) G Y hs (by decide) (d 2 (by decide)) (by rw [(dl_st_le (Nat.le_refl s) _).1, (dl_st_le (Nat.le_refl s) _).1]; exact c) ?_
    refine dl_yw1 (t := 3) G Y hs (by decide) (d 3 (by decide)) (by rw [(dl_st_le (Nat.le_refl s) _).1, (dl_st_le (Nat.le_refl s) _).1, (dl_st_le (Nat.le_refl s) _).1]; exact c) ?_
    exact br_t (nI_le (a := 4) (b := 4) (Nat.le_refl _) (by decide)) (nm_r (nI_1 s) K)
theorem dl_yw47 {post : SY → Prop} {p : (Nat → Int32) × (Nat → Int32)} (G : dl_GD ya cz) (Y : dl_YR cz sz sp) (h0 : dl_AG p dl_p0) (K : post (my, ya, sz, (dl_run ya cz p 2401).1, (dl_run ya cz p 2401).2, sp, rr, ch)) :
    ∀ d s, s + d = 2401 → wY_work_47 post my (d + 1) (nI s) ya sz ((dl_run ya cz p s).1) ((dl_run ya cz p s).2) sp rr ch := by
  intro d
  induction d with
  | zero =>
    intro s hs
    obtain rfl : s = 2401 := by omega
    exact br_t (nI_le (a := 2401) (b := 2401) (Nat.le_refl _) (by decide)) K
  | succ d ih =>
    intro s hs
    have hR := dl_R_run (ya := ya) (cz := cz) h0 (s := s) (n := s) (by omega) (Nat.le_refl _) (by omega)
    refine br_f (nI_ge (b := 2401) (by omega) (by decide)) ?_
    refine dl_yw56 G Y (by omega) (fun c => ?_) ?_
    · exact (dl_R_d G (by rw [hR]; exact decide_eq_true c)).2
    · have i := ih (s + 1) (by omega)
      rw [dl_runs] at i
      exact i
theorem dl_yw2 {post : SY → Prop} (K : ∀ c w : Nat → Int32, dl_AG (c, w) dl_p0 → ∃ n47, wY_work_47 post my n47 0 ya sz c w sp rr ch) :
    ∀ d i, i + d = 2401 → ∀ c w : Nat → Int32, (∀ j, j < i → c j = dl_p0.1 j ∧ w j = dl_p0.2 j) → wY_work_2 post my (d + 1) (nI i) ya sz c w sp rr ch := by
  intro d
  induction d with
  | zero =>
    intro i hi c w h
    obtain rfl : i = 2401 := by omega
    exact br_t (nI_le (a := 2401) (b := 2401) (Nat.le_refl _) (by decide)) (K c w h)
  | succ d ih =>
    intro i hi c w h
    refine br_f (nI_ge (b := 2401) (by omega) (by decide)) ?_
    by_cases e : i = 0
    · subst e
      refine br_t rfl ?_
      unfold wY_work_23
      rw [nI_clamp (by omega)]
      refine ⟨vp_in_nI (by omega) (by decide), nm_r (e' := upd c 0 1) rfl ?_⟩
      refine br_t rfl ⟨vp_in_nI (by omega) (by decide), nm_e (nm_r (nI_1 0) ?_)⟩
      refine ih 1 (by omega) _ _ ?_
      intro j hj
      obtain rfl : j = 0 := by omega
      exact ⟨rfl, rfl⟩
    · have e0 : ¬ nI i = 0 := nI_ne0 (by omega) (by omega)
      refine br_f e0 ?_
      unfold wY_work_23
      rw [nI_clamp (by omega)]
      refine ⟨vp_in_nI (by omega) (by decide), nm_r (e' := upd c i 0) rfl ?_⟩
      refine br_f e0 ⟨vp_in_nI (by omega) (by decide), nm_e (nm_r (nI_1 i) ?_)⟩
      refine ih (i + 1) (by omega) _ _ ?_
      intro j hj
      by_cases z : j = i
      · subst z
        have a0 : dl_p0.1 j = 0 := if_neg e
        have a1 : dl_p0.2 j = 0 := if_neg e
        rw [pk_us, pk_us, a0, a1]
        exact ⟨rfl, rfl⟩
      · rw [pk_un z, pk_un z]
        exact h j (by omega)
theorem dl_FS_y {c w : Nat → Int32} (h : dl_AG (c, w) dl_p0) (n : Nat) (hn : n ≤ 2401) : dl_FS ya cz n (dl_run ya cz (c, w) n).1 (dl_run ya cz (c, w) n).2 := dl_AG_run h n hn
theorem dl_yw {post : SY → Prop} (G : dl_GD ya cz) (Y : dl_YR cz sz sp) (K : ∀ c w : Nat → Int32, dl_FS ya cz 2401 c w → post (my, ya, sz, c, w, sp, rr, ch)) : wpY_work post (my, ya, sz, re, wy, sp, rr, ch) := by
  unfold wpY_work
  dsimp only
  refine ⟨2402, ?_⟩
  refine dl_yw2 ?_ 2401 0 rfl re wy (fun j hj => absurd hj (Nat.not_lt_zero _))
  intro c w h
  refine ⟨2402, ?_⟩
  refine dl_yw47 (p := (c, w)) G Y h ?_ 2401 0 rfl
  exact K _ _ (dl_FS_y h 2401 (Nat.le_refl _))
theorem dl_yl1 {post : Int32 → Prop} {n q a : Nat} (Y : dl_YR cz sz sp) (hq : q < 4) (K : wY_last_4 post my ya sz re wy sp rr ch n (nI (a + cz q * dl_w q)) (nI (q + 1))) : wY_last_4 post my ya sz re wy sp rr ch (n + 1) (nI a) (nI q) := by
  refine br_f (nI_ge (b := 4) hq (by decide)) ⟨vp_in_nI hq (by decide), vp_in_nI hq (by decide), ?_⟩
  rw [nI_clamp (by omega), (Y q hq).1, (Y q hq).2]
  exact nm_r (e' := nI (a + cz q * dl_w q)) (by rw [pk_mul, nI_add, Nat.mul_comm]) (nm_r (nI_1 q) K)
theorem dl_ylast {post : Int32 → Prop} (Y : dl_YR cz sz sp) (K : post (nI (dl_last cz))) : wpY_last post (my, ya, sz, re, wy, sp, rr, ch) := by
  unfold wpY_last
  dsimp only
  refine ⟨5, ?_⟩
  refine dl_yl1 (q := 0) (a := 0) Y (by decide) ?_
  refine dl_yl1 (q := 1) Y (by decide) ?_
  refine dl_yl1 (q := 2) Y (by decide) ?_
  refine dl_yl1 (q := 3) Y (by decide) ?_
  exact br_t (nI_le (a := 4) (b := 4) (Nat.le_refl _) (by decide)) K
theorem dl_FS_R (F : dl_FS ya cz 2401 re wy) {s : Nat} (hs : s < 2401) : dl_R ya cz s = decide (¬ re s = 0) := by
  rw [(F s hs).1]
  exact dl_R_run (fun _ _ => ⟨rfl, rfl⟩) hs (by omega) (Nat.le_refl _)
theorem dl_yk1 {post : Int32 → Prop} {n s t : Nat} (G : dl_GD ya cz) (Y : dl_YR cz sz sp) (hs : s < 2401) (ht : t < 4) (hd : dl_d s t ≤ cz t)
    (h1 : dl_may ya cz s t = true → post 0) (h0 : dl_may ya cz s t = false → wY_isStuck_18 post (nI s) my ya sz re wy sp rr ch n (nI (t + 1))) : wY_isStuck_18 post (nI s) my ya sz re wy sp rr ch (n + 1) (nI t) := by
  refine br_f (nI_ge (b := 4) ht (by decide)) ?_
  refine dl_ymay G Y hs ht hd ?_
  cases m : dl_may ya cz s t with
  | false => exact br_t rfl (nm_r (nI_1 t) (h0 m))
  | true => exact br_f (by decide) (h1 m)
theorem dl_yk {post : Int32 → Prop} {s : Nat} (G : dl_GD ya cz) (Y : dl_YR cz sz sp) (F : dl_FS ya cz 2401 re wy) (hs : s < 2401) (K : post (dl_i (dl_k ya cz s))) : wpY_isStuck post (my, ya, sz, re, wy, sp, rr, ch) (nI s) (nI (dl_last cz)) := by
  have hl := dl_last_lt G
  have hR := dl_FS_R F hs
  unfold wpY_isStuck
  dsimp only
  refine ⟨vp_in_nI hs (by decide), ?_⟩
  rw [nI_clamp (by omega)]
  unfold dl_k at K
  by_cases c : re s = 0
  · have r : dl_R ya cz s = false := by rw [hR]; exact decide_eq_false (fun y => y c)
    rw [r, Bool.false_and] at K
    exact br_t c K
  · have r : dl_R ya cz s = true := by rw [hR]; exact decide_eq_true c
    have d := (dl_R_d G r).2
    rw [r, Bool.true_and] at K
    refine br_f c ?_
    by_cases e : s = dl_last cz
    · rw [decide_eq_true e, Bool.or_true] at K
      exact br_t (congrArg nI e) K
    · rw [decide_eq_false e, Bool.or_false] at K
      refine br_f (fun z => e ((nI_eq (by omega) (by omega)).mp z)) ?_
      unfold dl_any at K
      refine ⟨5, ?_⟩
      refine dl_yk1 (t := 0) G Y hs (by decide) (d 0 (by decide)) (fun m => ?_) (fun m0 => ?_)
      · rw [m, Bool.or_true, Bool.true_or, Bool.true_or, Bool.true_or] at K
        exact K
      refine dl_yk1 (t := 1) G Y hs (by decide) (d 1 (by decide)) (fun m => ?_) (fun m1 => ?_)
      · rw [m, Bool.or_true, Bool.true_or, Bool.true_or] at K
        exact K
      refine dl_yk1 (t := 2) G Y hs (by decide) (d 2 (by decide)) (fun m => ?_) (fun m2 => ?_)
      · rw [m, Bool.or_true, Bool.true_or] at K
        exact K
      refine dl_yk1 (t := 3) G Y hs (by decide) (d 3 (by decide)) (fun m => ?_) (fun m3 => ?_)
      · rw [m, Bool.or_true] at K
        exact K
      rw [m0, m1, m2, m3] at K
      exact br_t (nI_le (a := 4) (b := 4) (Nat.le_refl _) (by decide)) K
end
end
section
/-! the reference: rings -/
def dl_YP (ch : Nat → Int32) (q : Nat → Nat) : Prop := ∀ t, t < 4 → ch t = nI (q t) ∧ q t < 7
theorem dl_rg_0 {o : Nat → Bool} {h l : Nat → Int32} {r : Nat → Bool} {t : Nat} (ht : t < 4) (e : (r t && dl_ap o h t) = false) : dl_rg o h l r = false := by
  unfold dl_rg
  have z : ((r 0 && r 1 && r 2 && r 3) && (dl_ap o h 0 && dl_ap o h 1 && dl_ap o h 2 && dl_ap o h 3)) = false := by
    revert e
    refine dl_4 (P := fun t => (r t && dl_ap o h t) = false → ((r 0 && r 1 && r 2 && r 3) && (dl_ap o h 0 && dl_ap o h 1 && dl_ap o h 2 && dl_ap o h 3)) = false) ?_ ?_ ?_ ?_ t ht <;>
      (generalize r 0 = r0; generalize r 1 = r1; generalize r 2 = r2; generalize r 3 = r3; generalize dl_ap o h 0 = a0; generalize dl_ap o h 1 = a1; generalize dl_ap o h 2 = a2; generalize dl_ap o h 3 = a3; revert r0 r1 r2 r3 a0 a1 a2 a3; decide)
  rw [z, Bool.false_and]
theorem dl_rg_1 {o : Nat → Bool} {h l : Nat → Int32} {r : Nat → Bool} (e0 : (r 0 && dl_ap o h 0) = true) (e1 : (r 1 && dl_ap o h 1) = true) (e2 : (r 2 && dl_ap o h 2) = true) (e3 : (r 3 && dl_ap o h 3) = true) :
    dl_rg o h l r = (decide (1 < dl_n o 4) && decide (dl_yg (dl_nx o h l) (dl_la o 4) 5 (dl_la o 4) 1 = dl_n o 4)) := by
  rw [Bool.and_eq_true] at e0 e1 e2 e3
  unfold dl_rg
  rw [e0.1, e0.2, e1.1, e1.2, e2.1, e2.2, e3.1, e3.2]
  rfl
section
variable {cz : Nat → Nat} {my : Int32} {ya sz re wy sp rr ch : Nat → Int32}
theorem dl_yrq {post : Int32 → Prop} {t i : Nat} (G : dl_GD ya cz) (Y : dl_YR cz sz sp) (ht : t < 4) (hi : i < 7) (K : post (dl_i (dl_rq ya cz t i))) : wpY_isRequest post (my, ya, sz, re, wy, sp, rr, ch) (nI t) (nI i) := by
  have h6 := (G t ht).1
  unfold wpY_isRequest
  dsimp only
  rw [nI_clamp (n := t) (by omega), (Y t ht).1, dl_i6, nI_clamp (n := 6 * t + i) (by omega)]
  refine ⟨vp_in_nI ht (by decide), ?_⟩
  unfold dl_rq at K
  by_cases c : i < cz t
  · rw [decide_eq_true c, Bool.true_and] at K
    refine br_f (nI_ge c (by omega)) ⟨vp_in_nI (by omega) (by decide), ?_⟩
    by_cases e : 8 ≤ ya (6 * t + i)
    · rw [decide_eq_false (fun y => y e), Bool.false_and] at K
      exact br_t e K
    · rw [decide_eq_true e, Bool.true_and] at K
      refine br_f e ?_
      refine dl_yh ht (by omega) ?_
      by_cases z : dl_H ya t i = 0
      · rw [decide_eq_false (fun y => y z)] at K
        exact br_t z K
      · rw [decide_eq_true z] at K
        exact br_f z K
  · rw [decide_eq_false c, Bool.false_and] at K
    exact br_t (nI_le (by omega) (by omega)) K
theorem dl_yr33 {post : Int32 → Prop} {J : Int32 → Int32 → Prop} {n t : Nat} {x x1 x3 : Int32} {q : Nat → Nat} (P : dl_YP ch q) (ht : t < 4)
    (K : wY_round_33 post J x1 x3 x my ya sz re wy sp rr ch n (dl_en (dl_ho (dl_po q) (dl_ph ya q) x (t + 1))) (nI (t + 1))) : wY_round_33 post J x1 x3 x my ya sz re wy sp rr ch (n + 1) (dl_en (dl_ho (dl_po q) (dl_ph ya q) x t)) (nI t) := by
  obtain ⟨ep, h⟩ := P t ht
  refine br_f (nI_ge (b := 4) ht (by decide)) ⟨vp_in_nI ht (by decide), ?_⟩
  rw [nI_clamp (by omega), ep]
  have eh : dl_ho (dl_po q) (dl_ph ya q) x (t + 1) = if (dl_po q t && !dl_fr (dl_ph ya q t) x) = true then t else dl_ho (dl_po q) (dl_ph ya q) x t := rfl
  rw [eh] at K
  by_cases c : q t < 6
  · have o : dl_po q t = true := by unfold dl_po; exact decide_eq_true c
    have ep2 : dl_ph ya q t = dl_H ya t (q t) := if_pos c
    rw [o, Bool.true_and, ep2] at K
    refine br_f (nI_ge (b := 6) c (by decide)) ⟨vp_in_nI ht (by decide), ?_⟩
    refine dl_yh ht (by omega) ?_
    unfold dl_fr at K
    by_cases z : ((dl_H ya t (q t) >>> (x &&& 31)) &&& 1) = 1
    · rw [decide_eq_false (fun y => y z), Bool.not_false, if_pos rfl] at K
      have e : dl_en t = nI t := if_neg (by omega)
      rw [e] at K
      exact br_t z (nm_r (nI_1 t) K)
    · rw [decide_eq_true z, Bool.not_true, if_neg (by decide)] at K
      exact br_f z (nm_r (nI_1 t) K)
  · have o : dl_po q t = false := by unfold dl_po; exact decide_eq_false c
    rw [o, Bool.false_and, if_neg (by decide)] at K
    exact br_t (nI_le (a := 6) (by omega) (by omega)) (nm_r (nI_1 t) K)
theorem dl_yr4 {post : Int32 → Prop} {fi : Nat} {q : Nat → Nat} (P : dl_YP ch q) (hf : fi < 4) :
    ∀ f a i, a < 4 → dl_po q a = true → i ≤ 5 → 5 < i + f → post (nI (dl_yg (dl_nx (dl_po q) (dl_ph ya q) (dl_pl ya q)) fi f a i)) → wY_round_4 post (nI fi) my ya sz re wy sp rr ch f (nI a) (nI i) := by
  intro f
  induction f with
  | zero => intro a i _ _ h1 h2; omega
  | succ f ih =>
    intro a i ha oa h1 h2 K
    have ex : dl_yg (dl_nx (dl_po q) (dl_ph ya q) (dl_pl ya q)) fi (f + 1) a i = if 4 < i then 0 else if dl_nx (dl_po q) (dl_ph ya q) (dl_pl ya q) a = 4 then 0 else if dl_nx (dl_po q) (dl_ph ya q) (dl_pl ya q) a = fi then i else dl_yg (dl_nx (dl_po q) (dl_ph ya q) (dl_pl ya q)) fi f (dl_nx (dl_po q) (dl_ph ya q) (dl_pl ya q) a) (i + 1) := rfl
    rw [ex] at K
    by_cases c : 4 < i
    · rw [if_pos c] at K
      exact br_t (nI_lt (a := 4) c (by omega)) K
    · rw [if_neg c] at K
      obtain ⟨ep, h⟩ := P a ha
      have qa : q a < 6 := of_decide_eq_true oa
      refine br_f (nI_nlt (a := 4) (by omega) (by decide)) ⟨vp_in_nI ha (by decide), ?_⟩
      rw [nI_clamp (n := a) (by omega), ep, dl_i6, nI_clamp (n := 6 * a + q a) (by omega)]
      have el : ya (6 * a + q a) = dl_pl ya q a := (if_pos qa).symm
      refine ⟨vp_in_nI (by omega) (by decide), nm_r el ?_⟩
      rw [dl_nx_at _ _ _ ha] at K
      refine ⟨5, ?_⟩
      refine dl_yr33 (t := 0) P (by decide) ?_
      refine dl_yr33 (t := 1) P (by decide) ?_
      refine dl_yr33 (t := 2) P (by decide) ?_
      refine dl_yr33 (t := 3) P (by decide) ?_
      refine br_t (nI_le (a := 4) (b := 4) (Nat.le_refl _) (by decide)) ?_
      have ok := dl_ho_ok (dl_po q) (dl_ph ya q) (dl_pl ya q a) 4 (Nat.le_refl _)
      show (0 ≤ dl_en (dl_ho (dl_po q) (dl_ph ya q) (dl_pl ya q a) 4) → _) ∧ (¬ 0 ≤ dl_en (dl_ho (dl_po q) (dl_ph ya q) (dl_pl ya q a) 4) → _)
      generalize dl_ho (dl_po q) (dl_ph ya q) (dl_pl ya q a) 4 = b at K ok ⊢
      by_cases c4 : b = 4
      · subst c4
        rw [if_pos rfl] at K
        exact br_f (by decide) K
      · rw [if_neg c4] at K
        have eb : dl_en b = nI b := if_neg c4
        obtain ⟨hb, ob⟩ := dl_cok_u ok c4
        rw [eb]
        refine br_t (nI_pos' (by omega)) ?_
        by_cases cs : b = fi
        · rw [if_pos cs] at K
          exact br_t (congrArg nI cs) K
        · rw [if_neg cs] at K
          refine br_f (fun z => cs ((nI_eq (by omega) (by omega)).mp z)) ?_
          refine nm_r (nI_1 i) ?_
          exact ih b (i + 1) hb ob (by omega) (by omega) K
theorem dl_la_ok (o : Nat → Bool) : ∀ t, t ≤ 4 → dl_cok o (dl_la o t) = true ∧ (dl_la o t = 4 → dl_n o t = 0) := by
  intro t
  induction t with
  | zero => exact fun _ => ⟨rfl, fun _ => rfl⟩
  | succ t ih =>
    intro ht
    have e : dl_la o (t + 1) = if o t = true then t else dl_la o t := rfl
    rw [e]
    cases h : o t with
    | true =>
      rw [if_pos rfl]
      refine ⟨?_, fun z => by omega⟩
      unfold dl_cok
      rw [h, decide_eq_true (by omega : t < 4), Bool.true_and, Bool.or_true]
    | false =>
      rw [if_neg (by decide), dl_n_f h]
      exact ih (by omega)
theorem dl_yr9 {post : Int32 → Prop} {n t : Nat} {q : Nat → Nat} (G : dl_GD ya cz) (Y : dl_YR cz sz sp) (P : dl_YP ch q) (ht : t < 4)
    (h1 : (dl_pr ya cz q t && dl_ap (dl_po q) (dl_ph ya q) t) = true → wY_isRing_9 post my ya sz re wy sp rr ch n (dl_en (dl_la (dl_po q) (t + 1))) (nI (dl_n (dl_po q) (t + 1))) (dl_al (dl_po q) (dl_ph ya q) (t + 1)) (nI (t + 1)))
    (h0 : (dl_pr ya cz q t && dl_ap (dl_po q) (dl_ph ya q) t) = false → post 0) : wY_isRing_9 post my ya sz re wy sp rr ch (n + 1) (dl_en (dl_la (dl_po q) t)) (nI (dl_n (dl_po q) t)) (dl_al (dl_po q) (dl_ph ya q) t) (nI t) := by
  obtain ⟨ep, h⟩ := P t ht
  refine br_f (nI_ge (b := 4) ht (by decide)) ⟨vp_in_nI ht (by decide), ?_⟩
  rw [nI_clamp (by omega), ep]
  have ea : dl_al (dl_po q) (dl_ph ya q) (t + 1) = if dl_po q t = true then dl_al (dl_po q) (dl_ph ya q) t ||| dl_ph ya q t else dl_al (dl_po q) (dl_ph ya q) t := rfl
  have el : dl_la (dl_po q) (t + 1) = if dl_po q t = true then t else dl_la (dl_po q) t := rfl
  rw [ea, el] at h1
  unfold dl_ap dl_pr at h1 h0
  by_cases c : q t < 6
  · have o : dl_po q t = true := by unfold dl_po; exact decide_eq_true c
    have ep2 : dl_ph ya q t = dl_H ya t (q t) := if_pos c
    have e4 : dl_en t = nI t := if_neg (by omega)
    rw [dl_n_t o, if_pos o, if_pos o, if_pos o, if_pos c, ep2, e4] at h1
    rw [if_pos o, if_pos c, ep2] at h0
    refine br_f (nI_ge (b := 6) c (by decide)) ⟨vp_in_nI ht (by decide), ?_⟩
    refine dl_yrq G Y ht h ?_
    cases r : dl_rq ya cz t (q t) with
    | false =>
      rw [r, Bool.false_and] at h0
      exact br_t rfl (h0 rfl)
    | true =>
      rw [r, Bool.true_and] at h0 h1
      refine br_f (by decide) ⟨vp_in_nI ht (by decide), ?_⟩
      refine dl_yh ht (by omega) ?_
      by_cases z : dl_al (dl_po q) (dl_ph ya q) t &&& dl_H ya t (q t) = 0
      · exact br_t z (nm_e (nm_r (nI_1 _) (nm_r (nI_1 t) (h1 (decide_eq_true z)))))
      · exact br_f z (h0 (decide_eq_false z))
  · have o : dl_po q t = false := by unfold dl_po; exact decide_eq_false c
    have on : ¬ dl_po q t = true := by rw [o]; decide
    rw [dl_n_f o, if_neg c, if_neg on, if_neg on, if_neg on] at h1
    exact br_t (nI_le (a := 6) (by omega) (by omega)) (nm_r (nI_1 t) (h1 rfl))
theorem dl_yring {post : Int32 → Prop} {q : Nat → Nat} (G : dl_GD ya cz) (Y : dl_YR cz sz sp) (P : dl_YP ch q) (K : post (dl_i (dl_ring ya cz q))) : wpY_isRing post (my, ya, sz, re, wy, sp, rr, ch) := by
  unfold wpY_isRing
  dsimp only
  unfold dl_ring at K
  refine ⟨5, ?_⟩
  refine dl_yr9 (t := 0) G Y P (by decide) (fun e0 => ?_) (fun e => by rw [dl_rg_0 (by decide) e] at K; exact K)
  refine dl_yr9 (t := 1) G Y P (by decide) (fun e1 => ?_) (fun e => by rw [dl_rg_0 (by decide) e] at K; exact K)
  refine dl_yr9 (t := 2) G Y P (by decide) (fun e2 => ?_) (fun e => by rw [dl_rg_0 (by decide) e] at K; exact K)
  refine dl_yr9 (t := 3) G Y P (by decide) (fun e3 => ?_) (fun e => by rw [dl_rg_0 (by decide) e] at K; exact K)
  rw [dl_rg_1 e0 e1 e2 e3] at K
  refine br_t (nI_le (a := 4) (b := 4) (Nat.le_refl _) (by decide)) ?_
  have h4 := dl_n_le (dl_po q) 4
  by_cases c : 1 < dl_n (dl_po q) 4
  · rw [decide_eq_true c, Bool.true_and] at K
    refine br_f (nI_ge (a := 1) (b := dl_n (dl_po q) 4) c (by omega)) ?_
    obtain ⟨ok, n4⟩ := dl_la_ok (dl_po q) 4 (Nat.le_refl _)
    have l4 : ¬ dl_la (dl_po q) 4 = 4 := fun z => by have z2 := n4 z; omega
    obtain ⟨hl, ol⟩ := dl_cok_u ok l4
    have en : dl_en (dl_la (dl_po q) (3 + 1)) = nI (dl_la (dl_po q) 4) := if_neg l4
    rw [en]
    unfold wpY_round
    dsimp only
    refine ⟨5, ?_⟩
    refine dl_yr4 P hl 5 (dl_la (dl_po q) 4) 1 hl ol (by decide) (by decide) ?_
    have hy : ∀ f a i, i ≤ 5 → dl_yg (dl_nx (dl_po q) (dl_ph ya q) (dl_pl ya q)) (dl_la (dl_po q) 4) f a i ≤ 5 := by
      intro f
      induction f with
      | zero => intro a i hi; exact Nat.zero_le _
      | succ f ih =>
        intro a i hi
        show (if 4 < i then 0 else if dl_nx (dl_po q) (dl_ph ya q) (dl_pl ya q) a = 4 then 0 else if dl_nx (dl_po q) (dl_ph ya q) (dl_pl ya q) a = dl_la (dl_po q) 4 then i else dl_yg (dl_nx (dl_po q) (dl_ph ya q) (dl_pl ya q)) (dl_la (dl_po q) 4) f (dl_nx (dl_po q) (dl_ph ya q) (dl_pl ya q) a) (i + 1)) ≤ 5
        split
        · exact Nat.zero_le _
        · split
          · exact Nat.zero_le _
          · split
            · exact hi
            · exact ih _ _ (by omega)
    have h5 := hy 5 (dl_la (dl_po q) 4) 1 (by decide)
    by_cases e : dl_yg (dl_nx (dl_po q) (dl_ph ya q) (dl_pl ya q)) (dl_la (dl_po q) 4) 5 (dl_la (dl_po q) 4) 1 = dl_n (dl_po q) 4
    · rw [decide_eq_true e] at K
      exact br_t (congrArg nI e) K
    · rw [decide_eq_false e] at K
      exact br_f (fun z => e ((nI_eq (b := dl_n (dl_po q) 4) (by omega) (by omega)).mp z)) K
  · rw [decide_eq_false c, Bool.false_and] at K
    exact br_t (nI_le (a := dl_n (dl_po q) 4) (b := 1) (by omega) (by decide)) K
theorem dl_yf16 {post : SY → Prop} {J : Int32 → Int32 → (Nat → Int32) → (Nat → Int32) → (Nat → Int32) → (Nat → Int32) → (Nat → Int32) → (Nat → Int32) → (Nat → Int32) → Prop} {n s t : Nat} (Y : dl_YR cz sz sp) (hs : s < 2401) (ht : t < 4)
    (K : wY_findRings_16 post J (nI s) my n (nI (t + 1)) ya sz re wy sp rr (upd ch t (nI (dl_d s t)))) : wY_findRings_16 post J (nI s) my (n + 1) (nI t) ya sz re wy sp rr ch := by
  refine br_f (nI_ge (b := 4) ht (by decide)) ?_
  refine dl_yd Y hs ht ?_
  rw [nI_clamp (by omega)]
  exact ⟨vp_in_nI ht (by decide), nm_e (nm_r (nI_1 t) K)⟩
theorem dl_yfE {post : SY → Prop} {J : Int32 → Int32 → (Nat → Int32) → (Nat → Int32) → (Nat → Int32) → (Nat → Int32) → (Nat → Int32) → (Nat → Int32) → (Nat → Int32) → Prop} {s b : Nat} (G : dl_GD ya cz) (Y : dl_YR cz sz sp) (hs : s < 2401) (hb : b < 2401)
    (K0 : dl_yr ya cz s = false → ∀ z : Nat → Int32, J (nI (s + 1)) (nI b) ya sz re wy sp rr z)
    (K1 : dl_yr ya cz s = true → ∀ z : Nat → Int32, J (nI (s + 1)) (nI (b + 1)) ya sz re wy sp (upd rr b (nI s)) z) : ∃ n16, wY_findRings_16 post J (nI s) (nI b) n16 0 ya sz re wy sp rr ch := by
  refine ⟨5, ?_⟩
  refine dl_yf16 (t := 0) Y hs (by decide) ?_
  refine dl_yf16 (t := 1) Y hs (by decide) ?_
  refine dl_yf16 (t := 2) Y hs (by decide) ?_
  refine dl_yf16 (t := 3) Y hs (by decide) ?_
  refine br_t (nI_le (a := 4) (b := 4) (Nat.le_refl _) (by decide)) ?_
  have P : dl_YP (upd (upd (upd (upd ch 0 (nI (dl_d s 0))) 1 (nI (dl_d s 1))) 2 (nI (dl_d s 2))) 3 (nI (dl_d s 3))) (dl_d s) := dl_4 ⟨rfl, dl_d7 s 0⟩ ⟨rfl, dl_d7 s 1⟩ ⟨rfl, dl_d7 s 2⟩ ⟨rfl, dl_d7 s 3⟩
  refine dl_yring G Y P ?_
  unfold dl_yr at K0 K1
  cases y : dl_ring ya cz (dl_d s) with
  | false => exact br_t rfl (nm_r (nI_1 s) (K0 y _))
  | true =>
    refine br_f (by decide) ⟨vp_in_nI hb (by decide), ?_⟩
    rw [nI_clamp (by omega)]
    exact nm_e (nm_r (nI_1 b) (nm_r (nI_1 s) (K1 y _)))
theorem dl_yf7 {post : SY → Prop} (G : dl_GD ya cz) (Y : dl_YR cz sz sp)
    (K : ∀ r z : Nat → Int32, dl_L (dl_yr ya cz) 2401 r → post (nI (dl_n (dl_yr ya cz) 2401), ya, sz, re, wy, sp, r, z)) :
    ∀ d s, s + d = 2401 → ∀ r z : Nat → Int32, dl_L (dl_yr ya cz) s r → wY_findRings_7 post (d + 1) (nI s) (nI (dl_n (dl_yr ya cz) s)) ya sz re wy sp r z := by
  intro d
  induction d with
  | zero =>
    intro s hs r z L
    obtain rfl : s = 2401 := by omega
    exact br_t (nI_le (a := 2401) (b := 2401) (Nat.le_refl _) (by decide)) (K r z L)
  | succ d ih =>
    intro s hs r z L
    have hb := dl_n_le (dl_yr ya cz) s
    refine br_f (nI_ge (b := 2401) (by omega) (by decide)) ?_
    refine dl_yfE G Y (by omega) (by omega) ?_ ?_
    · intro f z2
      have i := ih (s + 1) (by omega) r z2 (dl_L_f L f)
      rw [dl_n_f f] at i
      exact i
    · intro f z2
      have i := ih (s + 1) (by omega) _ z2 (dl_L_t L)
      rw [dl_n_t f] at i
      exact i
theorem dl_yf {post : SY → Prop} (G : dl_GD ya cz) (Y : dl_YR cz sz sp)
    (K : ∀ r z : Nat → Int32, dl_L (dl_yr ya cz) 2401 r → post (nI (dl_n (dl_yr ya cz) 2401), ya, sz, re, wy, sp, r, z)) : wpY_findRings post (my, ya, sz, re, wy, sp, rr, ch) := by
  unfold wpY_findRings
  dsimp only
  refine ⟨2402, ?_⟩
  exact dl_yf7 G Y K 2401 0 rfl rr ch dl_L_0
end
end
section
/-! the reference: its questions -/
def dl_G (rr : Nat → Int32) (s i : Nat) : Bool := dl_M (dl_d (rr i).toNatClampNeg) s
def dl_QL (rr : Nat → Int32) (b : Nat) : Prop := ∀ r, r < b → ∃ q, q < 2401 ∧ rr r = nI q
section
variable {cz : Nat → Nat} {my : Int32} {ya sz re wy sp rr ch : Nat → Int32}
theorem dl_QL_L (L : dl_L (dl_yr ya cz) 2401 rr) : dl_QL rr (dl_n (dl_yr ya cz) 2401) := by
  intro r hr
  obtain ⟨k, hk, h1, h2⟩ := dl_n_inv 2401 hr
  refine ⟨k, hk, ?_⟩
  rw [← h2]
  exact L k hk h1
theorem dl_G_L (L : dl_L (dl_yr ya cz) 2401 rr) {k s : Nat} (hk : k < 2401) (h : dl_yr ya cz k = true) : dl_G rr s (dl_n (dl_yr ya cz) k) = dl_M (dl_d k) s := by
  unfold dl_G
  rw [L k hk h, nI_clamp (by omega)]
theorem dl_B_L (L : dl_L (dl_yr ya cz) 2401 rr) {k : Nat} (hk : k < 2401) (h : dl_yr ya cz k = true) : dl_B ya cz (dl_d (rr (dl_n (dl_yr ya cz) k)).toNatClampNeg) = dl_B ya cz (dl_d k) := by
  rw [L k hk h, nI_clamp (by omega)]
theorem dl_yst8 {post : Int32 → SY → Prop} (F : dl_FS ya cz 2401 re wy) (K : post (nI (dl_n (dl_R ya cz) 2401)) (my, ya, sz, re, wy, sp, rr, ch)) : ∀ d s, s + d = 2401 → wY_states_8 post my ya sz re wy sp rr ch (d + 1) (nI (dl_n (dl_R ya cz) s)) (nI s) := by
  intro d
  induction d with
  | zero =>
    intro s hs
    obtain rfl : s = 2401 := by omega
    exact br_t (nI_le (a := 2401) (b := 2401) (Nat.le_refl _) (by decide)) K
  | succ d ih =>
    intro s hs
    have hR := dl_FS_R F (s := s) (by omega)
    have i := ih (s + 1) (by omega)
    refine br_f (nI_ge (b := 2401) (by omega) (by decide)) ⟨vp_in_nI (by omega) (by decide), ?_⟩
    rw [nI_clamp (by omega)]
    by_cases c : re s = 0
    · have r : dl_R ya cz s = false := by rw [hR]; exact decide_eq_false (fun y => y c)
      rw [dl_n_f r] at i
      exact br_t c (nm_r (nI_1 s) i)
    · have r : dl_R ya cz s = true := by rw [hR]; exact decide_eq_true c
      rw [dl_n_t r] at i
      exact br_f c (nm_r (nI_1 _) (nm_r (nI_1 s) i))
theorem dl_ysk13 {post : Int32 → SY → Prop} (G : dl_GD ya cz) (Y : dl_YR cz sz sp) (F : dl_FS ya cz 2401 re wy) (K : post (nI (dl_n (dl_k ya cz) 2401)) (my, ya, sz, re, wy, sp, rr, ch)) : ∀ d s, s + d = 2401 → wY_stuck_13 post (nI (dl_last cz)) my ya sz re wy sp rr ch (d + 1) (nI (dl_n (dl_k ya cz) s)) (nI s) := by
  intro d
  induction d with
  | zero =>
    intro s hs
    obtain rfl : s = 2401 := by omega
    exact br_t (nI_le (a := 2401) (b := 2401) (Nat.le_refl _) (by decide)) K
  | succ d ih =>
    intro s hs
    have i := ih (s + 1) (by omega)
    refine br_f (nI_ge (b := 2401) (by omega) (by decide)) ?_
    refine dl_yk G Y F (by omega) ?_
    cases c : dl_k ya cz s with
    | false =>
      rw [dl_n_f c] at i
      exact br_t rfl (nm_r (nI_1 s) i)
    | true =>
      rw [dl_n_t c] at i
      exact br_f (by decide) (nm_r (nI_1 _) (nm_r (nI_1 s) i))
/-- the one sought is there -/
theorem dl_ysa1 {post : Int32 → SY → Prop} {t i q : Nat} (G : dl_GD ya cz) (Y : dl_YR cz sz sp) (F : dl_FS ya cz 2401 re wy) (ht : t < 4) (hq : q < 2401) (hk : dl_k ya cz q = true) (hi : dl_n (dl_k ya cz) q = i) (K : post (nI (dl_d q t)) (my, ya, sz, re, wy, sp, rr, ch)) :
    ∀ d s, s + d = q → wY_stuckAt_26 post (nI i) (nI t) (nI (dl_last cz)) my ya sz re wy sp rr ch (d + 1) (nI (dl_n (dl_k ya cz) s)) (nI s) := by
  have hq2 := dl_n_le (dl_k ya cz) q
  intro d
  induction d with
  | zero =>
    intro s hs
    obtain rfl : s = q := by omega
    refine br_f (nI_ge (b := 2401) hq (by decide)) ?_
    refine dl_yk G Y F hq ?_
    rw [hk]
    refine br_f (by decide) (br_t (congrArg nI hi) ?_)
    exact dl_yd Y hq ht K
  | succ d ih =>
    intro s hs
    have j := ih (s + 1) (by omega)
    refine br_f (nI_ge (b := 2401) (by omega) (by decide)) ?_
    refine dl_yk G Y F (by omega) ?_
    cases c : dl_k ya cz s with
    | false =>
      rw [dl_n_f c] at j
      exact br_t rfl (nm_r (nI_1 s) j)
    | true =>
      have hl := dl_n_lt c (by omega : s < q)
      rw [dl_n_t c] at j
      refine br_f (by decide) (br_f (fun z => ?_) (nm_r (nI_1 _) (nm_r (nI_1 s) j)))
      have z2 := (nI_eq (by omega) (by omega)).mp z
      omega
/-- .. or isn't -/
theorem dl_ysa2 {post : Int32 → SY → Prop} {t : Nat} {x : Int32} (G : dl_GD ya cz) (Y : dl_YR cz sz sp) (F : dl_FS ya cz 2401 re wy) (hx : ∀ s, s < 2401 → dl_k ya cz s = true → ¬ nI (dl_n (dl_k ya cz) s) = x) (K : post (-4) (my, ya, sz, re, wy, sp, rr, ch)) :
    ∀ d s, s + d = 2401 → wY_stuckAt_26 post x (nI t) (nI (dl_last cz)) my ya sz re wy sp rr ch (d + 1) (nI (dl_n (dl_k ya cz) s)) (nI s) := by
  intro d
  induction d with
  | zero =>
    intro s hs
    obtain rfl : s = 2401 := by omega
    exact br_t (nI_le (a := 2401) (b := 2401) (Nat.le_refl _) (by decide)) K
  | succ d ih =>
    intro s hs
    have j := ih (s + 1) (by omega)
    refine br_f (nI_ge (b := 2401) (by omega) (by decide)) ?_
    refine dl_yk G Y F (by omega) ?_
    cases c : dl_k ya cz s with
    | false =>
      rw [dl_n_f c] at j
      exact br_t rfl (nm_r (nI_1 s) j)
    | true =>
      rw [dl_n_t c] at j
      exact br_f (by decide) (br_f (hx s (by omega) c) (nm_r (nI_1 _) (nm_r (nI_1 s) j)))
theorem dl_yim1 {post : Int32 → Prop} {n q s t : Nat} (Y : dl_YR cz sz sp) (hq : q < 2401) (hs : s < 2401) (ht : t < 4)
    (h1 : dl_m1 (dl_d q) s t = true → wY_isMet_2 post (nI q) (nI s) my ya sz re wy sp rr ch n (nI (t + 1))) (h0 : dl_m1 (dl_d q) s t = false → post 0) : wY_isMet_2 post (nI q) (nI s) my ya sz re wy sp rr ch (n + 1) (nI t) := by
  have hq7 := dl_d7 q t
  have hs7 := dl_d7 s t
  unfold dl_m1 at h1 h0
  refine br_f (nI_ge (b := 4) ht (by decide)) ?_
  refine dl_yd Y hq ht ?_
  by_cases c : 6 ≤ dl_d q t
  · rw [decide_eq_true c, Bool.true_or] at h1
    exact br_t (nI_le (a := 6) c (by omega)) (nm_r (nI_1 t) (h1 rfl))
  · rw [decide_eq_false c, Bool.false_or] at h1 h0
    refine br_f (nI_ge (b := 6) (by omega) (by decide)) ?_
    refine dl_yd Y hs ht ?_
    by_cases e : dl_d q t = dl_d s t
    · exact br_t (congrArg nI e) (nm_r (nI_1 t) (h1 (decide_eq_true e)))
    · exact br_f (fun z => e ((nI_eq (by omega) (by omega)).mp z)) (h0 (decide_eq_false e))
theorem dl_yim {post : Int32 → Prop} {q s : Nat} (Y : dl_YR cz sz sp) (hq : q < 2401) (hs : s < 2401) (K : post (dl_i (dl_M (dl_d q) s))) : wpY_isMet post (my, ya, sz, re, wy, sp, rr, ch) (nI q) (nI s) := by
  unfold wpY_isMet
  dsimp only
  unfold dl_M at K
  refine ⟨5, ?_⟩
  refine dl_yim1 (t := 0) Y hq hs (by decide) (fun e => ?_) (fun e => by rw [e] at K; exact K)
  rw [e, Bool.true_and] at K
  refine dl_yim1 (t := 1) Y hq hs (by decide) (fun e => ?_) (fun e => by rw [e] at K; exact K)
  rw [e, Bool.true_and] at K
  refine dl_yim1 (t := 2) Y hq hs (by decide) (fun e => ?_) (fun e => by rw [e] at K; exact K)
  rw [e, Bool.true_and] at K
  refine dl_yim1 (t := 3) Y hq hs (by decide) (fun e => ?_) (fun e => by rw [e] at K; exact K)
  rw [e] at K
  exact br_t (nI_le (a := 4) (b := 4) (Nat.le_refl _) (by decide)) K
theorem dl_yam2 {post : Int32 → Prop} {s b : Nat} (Y : dl_YR cz sz sp) (hs : s < 2401) (hb : b ≤ 2401) (hr : dl_QL rr b) (K : post (dl_i (dl_ex (dl_G rr s) b))) :
    ∀ d r, r + d = b → dl_ex (dl_G rr s) r = false → wY_anyMet_2 post (nI s) (nI b) ya sz re wy sp rr ch (d + 1) (nI r) := by
  intro d
  induction d with
  | zero =>
    intro r h e
    obtain rfl : r = b := by omega
    rw [e] at K
    exact br_t (nI_le (Nat.le_refl _) (by omega)) K
  | succ d ih =>
    intro r h e
    obtain ⟨q, hq, eq⟩ := hr r (by omega)
    have eg : dl_M (dl_d q) s = dl_G rr s r := by
      unfold dl_G
      rw [eq, nI_clamp (by omega)]
    refine br_f (nI_ge (by omega) (by omega)) ⟨vp_in_nI (by omega) (by decide), ?_⟩
    rw [nI_clamp (by omega), eq]
    refine dl_yim Y hq hs ?_
    rw [eg]
    cases g : dl_G rr s r with
    | false => exact br_t rfl (nm_r (nI_1 r) (ih (r + 1) (by omega) (by rw [dl_exs, e, g]; rfl)))
    | true =>
      rw [dl_ex_t g b (by omega)] at K
      exact br_f (by decide) K
theorem dl_yam {post : Int32 → Prop} {s b : Nat} (Y : dl_YR cz sz sp) (hs : s < 2401) (hb : b ≤ 2401) (hr : dl_QL rr b) (K : post (dl_i (dl_ex (dl_G rr s) b))) : wpY_anyMet post (nI b, ya, sz, re, wy, sp, rr, ch) (nI s) := by
  unfold wpY_anyMet
  dsimp only
  exact ⟨b + 1, dl_yam2 Y hs hb hr K b 0 (Nat.zero_add b) rfl⟩
theorem dl_ysm12 {post : Int32 → SY → Prop} {b : Nat} {V : Nat → Bool} (Y : dl_YR cz sz sp) (F : dl_FS ya cz 2401 re wy) (hb : b ≤ 2401) (hr : dl_QL rr b) (hV : ∀ s, V s = (dl_R ya cz s && dl_ex (dl_G rr s) b)) (K : post (nI (dl_n V 2401)) (nI b, ya, sz, re, wy, sp, rr, ch)) :
    ∀ d s, s + d = 2401 → wY_statesMet_12 post (nI b) ya sz re wy sp rr ch (d + 1) (nI (dl_n V s)) (nI s) := by
  intro d
  induction d with
  | zero =>
    intro s hs
    obtain rfl : s = 2401 := by omega
    exact br_t (nI_le (a := 2401) (b := 2401) (Nat.le_refl _) (by decide)) K
  | succ d ih =>
    intro s hs
    have hR := dl_FS_R F (s := s) (by omega)
    have hv := hV s
    have i := ih (s + 1) (by omega)
    refine br_f (nI_ge (b := 2401) (by omega) (by decide)) ⟨vp_in_nI (by omega) (by decide), ?_⟩
    rw [nI_clamp (by omega)]
    by_cases c : re s = 0
    · have r : dl_R ya cz s = false := by rw [hR]; exact decide_eq_false (fun y => y c)
      rw [r, Bool.false_and] at hv
      rw [dl_n_f hv] at i
      exact br_t c (nm_r (nI_1 s) i)
    · have r : dl_R ya cz s = true := by rw [hR]; exact decide_eq_true c
      rw [r, Bool.true_and] at hv
      refine br_f c ?_
      refine dl_yam Y (by omega) hb hr ?_
      rw [← hv]
      cases v : V s with
      | false =>
        rw [dl_n_f v] at i
        exact br_t rfl (nm_r (nI_1 s) i)
      | true =>
        rw [dl_n_t v] at i
        exact br_f (by decide) (nm_r (nI_1 _) (nm_r (nI_1 s) i))
theorem dl_yso13 {post : Int32 → SY → Prop} {b : Nat} {V : Nat → Bool} (Y : dl_YR cz sz sp) (F : dl_FS ya cz 2401 re wy) (hb : b ≤ 2401) (hr : dl_QL rr b) (hV : ∀ s, V s = (dl_R ya cz s && dl_ex (dl_G rr s) b)) (K : post (dl_sx (dl_so V 2401)) (nI b, ya, sz, re, wy, sp, rr, ch)) :
    ∀ d s, s + d = 2401 → wY_soonest_13 post (nI b) ya sz re wy sp rr ch (d + 1) (nI (dl_so V s)) (nI s) := by
  intro d
  induction d with
  | zero =>
    intro s hs
    obtain rfl : s = 2401 := by omega
    have h99 := dl_so_le V 2401
    refine br_t (nI_le (a := 2401) (b := 2401) (Nat.le_refl _) (by decide)) ?_
    unfold dl_sx at K
    by_cases z : dl_so V 2401 = 99
    · rw [if_pos z] at K
      exact br_t (congrArg nI z) K
    · rw [if_neg z] at K
      exact br_f (fun y => z ((nI_eq (b := 99) (by omega) (by decide)).mp y)) K
  | succ d ih =>
    intro s hs
    have hR := dl_FS_R F (s := s) (by omega)
    have hv := hV s
    have h99 := dl_so_le V s
    have h24 := dl_sum_le s
    have i := ih (s + 1) (by omega)
    refine br_f (nI_ge (b := 2401) (by omega) (by decide)) ?_
    refine dl_yd (t := 0) Y (by omega) (by decide) ?_
    refine dl_yd (t := 1) Y (by omega) (by decide) ?_
    refine dl_yd (t := 2) Y (by omega) (by decide) ?_
    refine dl_yd (t := 3) Y (by omega) (by decide) ?_
    refine nm_r (e' := nI (dl_sum s)) (by rw [nI_add, nI_add, nI_add]; unfold dl_sum; rw [Nat.zero_add]) ⟨vp_in_nI (by omega) (by decide), ?_⟩
    rw [nI_clamp (by omega)]
    by_cases c : re s = 0
    · have r : dl_R ya cz s = false := by rw [hR]; exact decide_eq_false (fun y => y c)
      rw [r, Bool.false_and] at hv
      rw [dl_so_f hv] at i
      exact br_t c (nm_r (nI_1 s) i)
    · have r : dl_R ya cz s = true := by rw [hR]; exact decide_eq_true c
      rw [r, Bool.true_and] at hv
      refine br_f c ?_
      by_cases z : dl_sum s < dl_so V s
      · refine br_f (nI_ge z (by omega)) ?_
        refine dl_yam Y (by omega) hb hr ?_
        rw [← hv]
        cases v : V s with
        | false =>
          rw [dl_so_f v] at i
          exact br_t rfl (nm_r (nI_1 s) i)
        | true =>
          rw [dl_so_t v, if_pos z] at i
          exact br_f (by decide) (nm_r (nI_1 s) i)
      · have e : dl_so V (s + 1) = dl_so V s := by
          cases v : V s with
          | false => exact dl_so_f v
          | true => rw [dl_so_t v, if_neg z]
        rw [e] at i
        exact br_t (nI_le (by omega) (by omega)) (nm_r (nI_1 s) i)
theorem dl_yrm25 {post : Int32 → SY → Prop} {J : Int32 → Int32 → Prop} {a r q : Nat} (Y : dl_YR cz sz sp) (F : dl_FS ya cz 2401 re wy) (hr : r < 2401) (hq : q < 2401) (eq : rr r = nI q)
    (K0 : dl_B ya cz (dl_d q) = false → J (nI a) (nI (r + 1))) (K1 : dl_B ya cz (dl_d q) = true → J (nI (a + 1)) (nI (r + 1))) :
    ∀ d s, s + d = 2401 → wY_ringsMet_25 post J (nI a) (nI r) my ya sz re wy sp rr ch (d + 1) (dl_i (dl_ex (fun s => dl_R ya cz s && dl_M (dl_d q) s) s)) (nI s) := by
  have T0 : dl_B ya cz (dl_d q) = false → wY_ringsMet_74 post J (nI a) (nI r) (dl_i false) my ya sz re wy sp rr ch := by
    intro e
    unfold wY_ringsMet_74
    exact br_t rfl (nm_r (nI_1 r) (K0 e))
  have T1 : dl_B ya cz (dl_d q) = true → wY_ringsMet_74 post J (nI a) (nI r) (dl_i true) my ya sz re wy sp rr ch := by
    intro e
    unfold wY_ringsMet_74
    exact br_f (by decide) (nm_r (nI_1 a) (nm_r (nI_1 r) (K1 e)))
  intro d
  induction d with
  | zero =>
    intro s hs
    obtain rfl : s = 2401 := by omega
    refine br_t (nI_le (a := 2401) (b := 2401) (Nat.le_refl _) (by decide)) ?_
    cases e : dl_ex (fun s => dl_R ya cz s && dl_M (dl_d q) s) 2401 with
    | false => exact T0 e
    | true => exact T1 e
  | succ d ih =>
    intro s hs
    have hR := dl_FS_R F (s := s) (by omega)
    have i := ih (s + 1) (by omega)
    refine br_f (nI_ge (b := 2401) (by omega) (by decide)) ?_
    rw [dl_exs] at i
    cases e : dl_ex (fun s => dl_R ya cz s && dl_M (dl_d q) s) s with
    | true =>
      refine br_f (by decide) (T1 ?_)
      unfold dl_B
      rw [dl_ex_n] at e ⊢
      have e2 := of_decide_eq_true e
      have e3 := dl_n_mono (fun s => dl_R ya cz s && dl_M (dl_d q) s) s (2401 - s)
      rw [show s + (2401 - s) = 2401 by omega] at e3
      exact decide_eq_true (by omega)
    | false =>
      rw [e, Bool.false_or] at i
      refine br_t rfl ⟨vp_in_nI (by omega) (by decide), ?_⟩
      rw [nI_clamp (n := s) (by omega)]
      by_cases c : re s = 0
      · have r0 : dl_R ya cz s = false := by rw [hR]; exact decide_eq_false (fun y => y c)
        rw [r0, Bool.false_and] at i
        exact br_t c (nm_r (nI_1 s) i)
      · have r1 : dl_R ya cz s = true := by rw [hR]; exact decide_eq_true c
        rw [r1, Bool.true_and] at i
        refine br_f c ⟨vp_in_nI hr (by decide), ?_⟩
        rw [nI_clamp (n := r) (by omega), eq]
        refine dl_yim Y hq (by omega) ?_
        cases m : dl_M (dl_d q) s with
        | false =>
          rw [m] at i
          exact br_t rfl (nm_r (nI_1 s) i)
        | true =>
          rw [m] at i
          exact br_f (by decide) (nm_r (nI_1 s) i)
theorem dl_yrm12 {post : Int32 → SY → Prop} {b : Nat} (Y : dl_YR cz sz sp) (F : dl_FS ya cz 2401 re wy) (hb : b ≤ 2401) (hr : dl_QL rr b) (K : post (nI (dl_n (fun r => dl_B ya cz (dl_d (rr r).toNatClampNeg)) b)) (nI b, ya, sz, re, wy, sp, rr, ch)) :
    ∀ d r, r + d = b → wY_ringsMet_12 post (nI b) ya sz re wy sp rr ch (d + 1) (nI (dl_n (fun r => dl_B ya cz (dl_d (rr r).toNatClampNeg)) r)) (nI r) := by
  intro d
  induction d with
  | zero =>
    intro r h
    obtain rfl : r = b := by omega
    exact br_t (nI_le (Nat.le_refl _) (by omega)) K
  | succ d ih =>
    intro r h
    obtain ⟨q, hq, eq⟩ := hr r (by omega)
    have i := ih (r + 1) (by omega)
    have eb : dl_B ya cz (dl_d (rr r).toNatClampNeg) = dl_B ya cz (dl_d q) := by rw [eq, nI_clamp (by omega)]
    refine br_f (nI_ge (by omega) (by omega)) ⟨2402, ?_⟩
    refine dl_yrm25 Y F (by omega) hq eq (fun e => ?_) (fun e => ?_) 2401 0 rfl
    · rw [dl_n_f (P := fun r => dl_B ya cz (dl_d (rr r).toNatClampNeg)) (eb.trans e)] at i
      exact i
    · rw [dl_n_t (P := fun r => dl_B ya cz (dl_d (rr r).toNatClampNeg)) (eb.trans e)] at i
      exact i
/-! the two sides agree -/
theorem dl_rings_eq (ya : Nat → Int32) (cz : Nat → Nat) : dl_n (dl_xr ya cz) 4096 = dl_n (dl_yr ya cz) 2401 := by
  have h := dl_two ya cz (fun _ => true) (fun _ _ _ => rfl)
  rw [dl_n_c (P := fun k => dl_xr ya cz k && true) (Q := dl_xr ya cz) 4096 (fun j _ => Bool.and_true _), dl_n_c (P := fun k => dl_yr ya cz k && true) (Q := dl_yr ya cz) 2401 (fun j _ => Bool.and_true _)] at h
  exact h
theorem dl_any_eq (ya : Nat → Int32) (cz : Nat → Nat) (s : Nat) : dl_ex (fun k => dl_xr ya cz k && dl_M (dl_e k) s) 4096 = dl_ex (fun q => dl_yr ya cz q && dl_M (dl_d q) s) 2401 := by
  rw [dl_ex_n, dl_ex_n, dl_two ya cz (fun p => dl_M p s) (fun p q h => dl_M_c h)]
theorem dl_met_eq (ya : Nat → Int32) (cz : Nat → Nat) : dl_n (fun k => dl_xr ya cz k && dl_B ya cz (dl_e k)) 4096 = dl_n (fun q => dl_yr ya cz q && dl_B ya cz (dl_d q)) 2401 := by
  refine dl_two ya cz (dl_B ya cz) (fun p q h => ?_)
  unfold dl_B
  exact dl_ex_c 2401 (fun s _ => by rw [dl_M_c h])
theorem dl_V_y (L : dl_L (dl_yr ya cz) 2401 rr) (s : Nat) : dl_V ya cz s = (dl_R ya cz s && dl_ex (dl_G rr s) (dl_n (dl_yr ya cz) 2401)) := by
  unfold dl_V
  rw [dl_any_eq, dl_ex_via (P := dl_yr ya cz) (F := dl_G rr s) (B := fun q => dl_M (dl_d q) s) (fun k hk h => dl_G_L L hk h)]
end
end
section
/-! taking, giving, dropping -/
theorem dl_lb : ∀ l, l < 5 → (nI l).toInt8.toInt32 = nI l ∧ ((-1) - nI l).toInt8.toInt32 = (-1) - nI l ∧ dl_xc (nI (8 + l)) = (-1) - nI l ∧ nI (8 + l) - 8 = nI l ∧ (8 : Int32) + nI l = nI (8 + l) := by decide +kernel
def dl_up (cz : Nat → Nat) (t n : Nat) : Nat → Nat := fun u => if u = t then n else cz u
theorem dl_ups (cz : Nat → Nat) (t n : Nat) : dl_up cz t n t = n := if_pos rfl
theorem dl_upn {cz : Nat → Nat} {t n u : Nat} (h : ¬ u = t) : dl_up cz t n u = cz u := if_neg h
section
variable {cz : Nat → Nat} {k0 cm sm rm ms mn : Int32} {ct xa xh co wa ss rg mt pl : Nat → Int32} {my : Int32} {ya sz re wy sp rr ch : Nat → Int32}
theorem dl_Hn {t c : Nat} {a : Int32} : dl_H (upd ya (6 * t + c) a) t c = dl_H ya t c := dl_Hc c (fun j hj => pk_un (by omega))
theorem dl_pG {t c : Nat} {a : Int32} (G : dl_GD ya cz) (ht : t < 4) (ec : cz t = c) (hc : c < 6) (ha : ∃ l, l < 5 ∧ (a = nI l ∨ a = nI (8 + l))) : dl_GD (upd ya (6 * t + c) a) (dl_up cz t (c + 1)) := by
  intro u hu
  have hu6 := (G u hu).1
  by_cases e : u = t
  · subst e
    rw [dl_ups]
    refine ⟨by omega, fun i hi => ?_⟩
    by_cases z : i = c
    · subst z
      rw [pk_us]
      exact ha
    · rw [pk_un (by omega)]
      exact (G u hu).2 i (by omega)
  · rw [dl_upn e]
    refine ⟨hu6, fun i hi => ?_⟩
    rw [pk_un (by omega)]
    exact (G u hu).2 i hi
theorem dl_pX {t c : Nat} {a x h : Int32} (G : dl_GD ya cz) (X : dl_XR ya cz ct xa xh) (ht : t < 4) (ec : cz t = c) (hc : c < 6) (hx : x = dl_xc a) (hh : h = dl_H (upd ya (6 * t + c) a) t (c + 1)) :
    dl_XR (upd ya (6 * t + c) a) (dl_up cz t (c + 1)) (upd ct t (nI (c + 1))) (upd xa (6 * t + c) x) (upd xh (7 * t + c + 1) h) := by
  intro u hu
  have hu6 := (G u hu).1
  by_cases e : u = t
  · subst e
    rw [dl_ups]
    refine ⟨pk_us, fun i hi => ?_, fun i hi => ?_⟩
    · by_cases z : i = c
      · subst z
        rw [pk_us, pk_us]
        exact hx
      · rw [pk_un (by omega), pk_un (by omega)]
        exact (X u hu).2.1 i (by omega)
    · by_cases z : i = c + 1
      · subst z
        rw [← Nat.add_assoc, pk_us]
        exact hh
      · rw [pk_un (by omega), (X u hu).2.2 i (by omega)]
        exact (dl_Hc i (fun j hj => pk_un (by omega))).symm
  · rw [dl_upn e]
    refine ⟨?_, fun i hi => ?_, fun i hi => ?_⟩
    · rw [pk_un e]
      exact (X u hu).1
    · rw [pk_un (by omega), pk_un (by omega)]
      exact (X u hu).2.1 i hi
    · rw [pk_un (by omega), (X u hu).2.2 i hi]
      exact (dl_Hc i (fun j hj => pk_un (by omega))).symm
theorem dl_pY {t n : Nat} (Y : dl_YR cz sz sp) : dl_YR (dl_up cz t n) (upd sz t (nI n)) sp := by
  intro u hu
  refine ⟨?_, (Y u hu).2⟩
  by_cases e : u = t
  · subst e
    rw [dl_ups, pk_us]
  · rw [dl_upn e, pk_un e]
    exact (Y u hu).1
theorem dl_qG {t c : Nat} (G : dl_GD ya cz) (ec : cz t = c + 1) : dl_GD ya (dl_up cz t c) := by
  intro u hu
  have hu6 := (G u hu).1
  by_cases e : u = t
  · subst e
    rw [dl_ups]
    exact ⟨by omega, fun i hi => (G u hu).2 i (by omega)⟩
  · rw [dl_upn e]
    exact G u hu
theorem dl_qX {t c : Nat} (X : dl_XR ya cz ct xa xh) (ec : cz t = c + 1) : dl_XR ya (dl_up cz t c) (upd ct t (nI c)) xa xh := by
  intro u hu
  by_cases e : u = t
  · subst e
    rw [dl_ups]
    exact ⟨pk_us, fun i hi => (X u hu).2.1 i (by omega), fun i hi => (X u hu).2.2 i (by omega)⟩
  · rw [dl_upn e, pk_un e]
    exact X u hu
theorem dl_xbt {post : Int32 → Prop} {x y : Int32} (h : (x < 0 ∨ nI 4 ≤ x) ∨ (y < 0 ∨ nI 5 ≤ y)) (K : post 1) : wpX_badArguments post (k0, cm, sm, rm, ms, mn, ct, xa, xh, co, wa, ss, rg, mt, pl) x y := by
  refine br_c (fun _ => K) (fun n1 => br_c (fun _ => K) (fun n2 => br_c (fun _ => K) (fun n3 => br_f ?_ K)))
  rcases h with (h | h) | (h | h)
  · exact absurd h n1
  · exact absurd h n2
  · exact absurd h n3
  · exact Int32.not_lt.mpr h
theorem dl_xbf {post : Int32 → Prop} {t l : Nat} (ht : t < 4) (hl : l < 5) (K : post 0) : wpX_badArguments post (k0, cm, sm, rm, ms, mn, ct, xa, xh, co, wa, ss, rg, mt, pl) (nI t) (nI l) :=
  br_f (nI_pos (by omega)) (br_f (nI_ge (b := 4) ht (by decide)) (br_f (nI_pos (by omega)) (br_t (nI_lt (b := 5) hl (by decide)) K)))
theorem dl_34 {x : Int32} (h : nI 4 ≤ x) : 3 < x := by
  rw [Int32.le_iff_toInt_le, nI_toInt (by decide)] at h
  rw [Int32.lt_iff_toInt_lt, show (3 : Int32).toInt = 3 by decide]
  omega
theorem dl_45 {x : Int32} (h : nI 5 ≤ x) : ¬ x ≤ 4 := by
  rw [Int32.le_iff_toInt_le, nI_toInt (by decide)] at h
  rw [Int32.le_iff_toInt_le, show (4 : Int32).toInt = 4 by decide]
  omega
theorem dl_33 {x : Int32} (h : nI 4 ≤ x) : ¬ x ≤ 3 := by
  rw [Int32.le_iff_toInt_le, nI_toInt (by decide)] at h
  rw [Int32.le_iff_toInt_le, show (3 : Int32).toInt = 3 by decide]
  omega
theorem dl_ybt {post : Int32 → Prop} {x y : Int32} (h : (x < 0 ∨ nI 4 ≤ x) ∨ (y < 0 ∨ nI 5 ≤ y)) (K : post 1) : wpY_bad post (my, ya, sz, re, wy, sp, rr, ch) x y := by
  refine br_c (fun _ => K) (fun n1 => br_c (fun _ => K) (fun n2 => br_c (fun _ => K) (fun n3 => br_f ?_ K)))
  rcases h with (h | h) | (h | h)
  · exact absurd h n1
  · exact absurd (dl_34 h) n2
  · exact absurd h n3
  · exact dl_45 h
theorem dl_ybf {post : Int32 → Prop} {t l : Nat} (ht : t < 4) (hl : l < 5) (K : post 0) : wpY_bad post (my, ya, sz, re, wy, sp, rr, ch) (nI t) (nI l) :=
  br_f (nI_pos (by omega)) (br_f (nI_nlt (a := 3) (by omega) (by decide)) (br_f (nI_pos (by omega)) (br_t (nI_le (b := 4) (by omega) (by decide)) K)))
theorem dl_args (x y : Int32) : ((x < 0 ∨ nI 4 ≤ x) ∨ (y < 0 ∨ nI 5 ≤ y)) ∨ ∃ t l : Nat, t < 4 ∧ l < 5 ∧ x = nI t ∧ y = nI l := by
  rcases pk_ix x (n := 4) (by decide) with h | h | ⟨t, ht, e⟩
  · exact Or.inl (Or.inl (Or.inl h))
  · exact Or.inl (Or.inl (Or.inr h))
  · rcases pk_ix y (n := 5) (by decide) with h | h | ⟨l, hl, e2⟩
    · exact Or.inl (Or.inr (Or.inl h))
    · exact Or.inl (Or.inr (Or.inr h))
    · exact Or.inr ⟨t, l, ht, hl, e, e2⟩
theorem dl_xput {post : Int32 → SX → Prop} {t c : Nat} {a h : Int32} (ht : t < 4) (hc : c < 6) (ec : ct t = nI c) (ea : a.toInt8.toInt32 = a) (eh : h.toInt8.toInt32 = h)
    (K : post (nI (c + 1)) (0, cm, sm, rm, ms, mn, upd ct t (nI (c + 1)), upd xa (6 * t + c) a, upd xh (7 * t + c + 1) h, co, wa, ss, rg, mt, pl)) : wpX_put post (k0, cm, sm, rm, ms, mn, ct, xa, xh, co, wa, ss, rg, mt, pl) (nI t) a h := by
  unfold wpX_put
  dsimp only
  rw [nI_clamp (n := t) (by omega), ec]
  refine ⟨vp_in_nI ht (by decide), nm_e ?_⟩
  rw [dl_i6, dl_i7, nI_1 (7 * t + c), nI_1 c, nI_clamp (n := 6 * t + c) (by omega), nI_clamp (n := 7 * t + c + 1) (by omega)]
  refine ⟨vp_in_nI (by omega) (by decide), nm_r (e' := upd xa (6 * t + c) a) (by rw [dl_vb ea]) ?_⟩
  refine ⟨vp_in_nI (by omega) (by decide), nm_r (e' := upd xh (7 * t + c + 1) h) (by rw [dl_vb eh]) ?_⟩
  refine ⟨vp_in_nI ht (by decide), vp_in_nI ht (by decide), nm_r (e' := upd ct t (nI (c + 1))) (by rw [dl_vbN (by omega)]) ?_⟩
  refine ⟨vp_in_nI ht (by decide), ?_⟩
  rw [pk_us]
  exact K
theorem dl_xtk {post : Int32 → SX → Prop} {t l c : Nat} (G : dl_GD ya cz) (X : dl_XR ya cz ct xa xh) (ht : t < 4) (hl : l < 5) (ec : cz t = c)
    (K6 : c = 6 → post (-2) (k0, cm, sm, rm, ms, mn, ct, xa, xh, co, wa, ss, rg, mt, pl)) (K4 : c < 6 → ((dl_H ya t c >>> (nI l &&& 31)) &&& 1) = 1 → post (-4) (k0, cm, sm, rm, ms, mn, ct, xa, xh, co, wa, ss, rg, mt, pl))
    (K : c < 6 → ¬ ((dl_H ya t c >>> (nI l &&& 31)) &&& 1) = 1 → post (nI (c + 1)) (0, cm, sm, rm, ms, mn, upd ct t (nI (c + 1)), upd xa (6 * t + c) (nI l), upd xh (7 * t + c + 1) (dl_H ya t c ||| ((1 : Int32) <<< (nI l &&& 31))), co, wa, ss, rg, mt, pl)) : wpX_take post (k0, cm, sm, rm, ms, mn, ct, xa, xh, co, wa, ss, rg, mt, pl) (nI t) (nI l) := by
  have h6 := (G t ht).1
  have ex := (X t ht).1
  rw [ec] at h6 ex
  unfold wpX_take
  dsimp only
  refine dl_xbf ht hl ?_
  refine br_t rfl ⟨vp_in_nI ht (by decide), ?_⟩
  rw [nI_clamp (n := t) (by omega), ex]
  by_cases e : c = 6
  · exact br_t (congrArg nI e) (K6 e)
  · have hc : c < 6 := by omega
    refine br_f (fun z => e ((nI_eq (b := 6) (by omega) (by decide)).mp z)) ⟨vp_in_nI ht (by decide), ?_⟩
    refine dl_xha (by omega) ?_
    rw [(X t ht).2.2 c (by omega)]
    refine br_c (fun z => K4 hc z) (fun z => ?_)
    refine dl_xput ht hc ex (dl_lb l hl).1 ?_ (K hc z)
    have b := dl_Hb (dl_pG (a := nI l) G ht ec hc ⟨l, hl, Or.inl rfl⟩) ht (i := c + 1) (by rw [dl_ups]; exact Nat.le_refl _)
    rw [dl_Hs, pk_us, if_neg (dl_n8 hl), dl_Hn] at b
    exact b
theorem dl_xgv {post : Int32 → SX → Prop} {t l c : Nat} (G : dl_GD ya cz) (X : dl_XR ya cz ct xa xh) (ht : t < 4) (hl : l < 5) (ec : cz t = c)
    (K6 : c = 6 → post (-2) (k0, cm, sm, rm, ms, mn, ct, xa, xh, co, wa, ss, rg, mt, pl)) (K4 : c < 6 → ((dl_H ya t c >>> (nI l &&& 31)) &&& 1) = 0 → post (-4) (k0, cm, sm, rm, ms, mn, ct, xa, xh, co, wa, ss, rg, mt, pl))
    (K : c < 6 → ¬ ((dl_H ya t c >>> (nI l &&& 31)) &&& 1) = 0 → post (nI (c + 1)) (0, cm, sm, rm, ms, mn, upd ct t (nI (c + 1)), upd xa (6 * t + c) ((-1) - nI l), upd xh (7 * t + c + 1) (dl_H ya t c &&& (((1 : Int32) <<< (nI l &&& 31)) ^^^ (-1))), co, wa, ss, rg, mt, pl)) : wpX_give post (k0, cm, sm, rm, ms, mn, ct, xa, xh, co, wa, ss, rg, mt, pl) (nI t) (nI l) := by
  have h6 := (G t ht).1
  have ex := (X t ht).1
  rw [ec] at h6 ex
  unfold wpX_give
  dsimp only
  refine dl_xbf ht hl ?_
  refine br_t rfl ⟨vp_in_nI ht (by decide), ?_⟩
  rw [nI_clamp (n := t) (by omega), ex]
  by_cases e : c = 6
  · exact br_t (congrArg nI e) (K6 e)
  · have hc : c < 6 := by omega
    refine br_f (fun z => e ((nI_eq (b := 6) (by omega) (by decide)).mp z)) ⟨vp_in_nI ht (by decide), ?_⟩
    refine dl_xha (by omega) ?_
    rw [(X t ht).2.2 c (by omega)]
    refine br_c (fun z => K4 hc z) (fun z => ?_)
    refine dl_xput ht hc ex (dl_lb l hl).2.1 ?_ (K hc z)
    have b := dl_Hb (dl_pG (a := nI (8 + l)) G ht ec hc ⟨l, hl, Or.inr rfl⟩) ht (i := c + 1) (by rw [dl_ups]; exact Nat.le_refl _)
    rw [dl_Hs, pk_us, if_pos (dl_y8 hl), dl_Hn, (dl_lb l hl).2.2.2.1] at b
    exact b
theorem dl_ytk {post : Int32 → SY → Prop} {t l c : Nat} (G : dl_GD ya cz) (Y : dl_YR cz sz sp) (ht : t < 4) (hl : l < 5) (ec : cz t = c)
    (K6 : c = 6 → post (-2) (my, ya, sz, re, wy, sp, rr, ch)) (K4 : c < 6 → ((dl_H ya t c >>> (nI l &&& 31)) &&& 1) = 1 → post (-4) (my, ya, sz, re, wy, sp, rr, ch))
    (K : c < 6 → ¬ ((dl_H ya t c >>> (nI l &&& 31)) &&& 1) = 1 → post (nI (c + 1)) (my, upd ya (6 * t + c) (nI l), upd sz t (nI (c + 1)), re, wy, sp, rr, ch)) : wpY_take post (my, ya, sz, re, wy, sp, rr, ch) (nI t) (nI l) := by
  have h6 := (G t ht).1
  have ex := (Y t ht).1
  rw [ec] at h6 ex
  unfold wpY_take
  dsimp only
  refine dl_ybf ht hl ?_
  refine br_t rfl ⟨vp_in_nI ht (by decide), ?_⟩
  rw [nI_clamp (n := t) (by omega), ex]
  by_cases e : c = 6
  · exact br_t (congrArg nI e) (K6 e)
  · have hc : c < 6 := by omega
    refine br_f (fun z => e ((nI_eq (b := 6) (by omega) (by decide)).mp z)) ⟨vp_in_nI ht (by decide), ?_⟩
    refine dl_yh ht (by omega) ?_
    refine br_c (fun z => K4 hc z) (fun z => ?_)
    rw [dl_i6, nI_1 c, nI_clamp (n := 6 * t + c) (by omega)]
    refine ⟨vp_in_nI ht (by decide), vp_in_nI (by omega) (by decide), nm_e ?_⟩
    refine ⟨vp_in_nI ht (by decide), vp_in_nI ht (by decide), nm_e ?_⟩
    refine ⟨vp_in_nI ht (by decide), ?_⟩
    rw [pk_us]
    exact K hc z
theorem dl_ygv {post : Int32 → SY → Prop} {t l c : Nat} (G : dl_GD ya cz) (Y : dl_YR cz sz sp) (ht : t < 4) (hl : l < 5) (ec : cz t = c)
    (K6 : c = 6 → post (-2) (my, ya, sz, re, wy, sp, rr, ch)) (K4 : c < 6 → ((dl_H ya t c >>> (nI l &&& 31)) &&& 1) = 0 → post (-4) (my, ya, sz, re, wy, sp, rr, ch))
    (K : c < 6 → ¬ ((dl_H ya t c >>> (nI l &&& 31)) &&& 1) = 0 → post (nI (c + 1)) (my, upd ya (6 * t + c) (nI (8 + l)), upd sz t (nI (c + 1)), re, wy, sp, rr, ch)) : wpY_give post (my, ya, sz, re, wy, sp, rr, ch) (nI t) (nI l) := by
  have h6 := (G t ht).1
  have ex := (Y t ht).1
  rw [ec] at h6 ex
  unfold wpY_give
  dsimp only
  refine dl_ybf ht hl ?_
  refine br_t rfl ⟨vp_in_nI ht (by decide), ?_⟩
  rw [nI_clamp (n := t) (by omega), ex]
  by_cases e : c = 6
  · exact br_t (congrArg nI e) (K6 e)
  · have hc : c < 6 := by omega
    refine br_f (fun z => e ((nI_eq (b := 6) (by omega) (by decide)).mp z)) ⟨vp_in_nI ht (by decide), ?_⟩
    refine dl_yh ht (by omega) ?_
    refine br_c (fun z => K4 hc z) (fun z => ?_)
    rw [dl_i6, nI_1 c, nI_clamp (n := 6 * t + c) (by omega), (dl_lb l hl).2.2.2.2]
    refine ⟨vp_in_nI ht (by decide), vp_in_nI (by omega) (by decide), nm_e ?_⟩
    refine ⟨vp_in_nI ht (by decide), vp_in_nI ht (by decide), nm_e ?_⟩
    refine ⟨vp_in_nI ht (by decide), ?_⟩
    rw [pk_us]
    exact K hc z
theorem dl_xdr {post : Int32 → SX → Prop} {t c : Nat} (G : dl_GD ya cz) (X : dl_XR ya cz ct xa xh) (ht : t < 4) (ec : cz t = c)
    (K0 : c = 0 → post (-4) (k0, cm, sm, rm, ms, mn, ct, xa, xh, co, wa, ss, rg, mt, pl)) (K : ∀ n, c = n + 1 → post (nI n) (0, cm, sm, rm, ms, mn, upd ct t (nI n), xa, xh, co, wa, ss, rg, mt, pl)) : wpX_drop post (k0, cm, sm, rm, ms, mn, ct, xa, xh, co, wa, ss, rg, mt, pl) (nI t) := by
  have h6 := (G t ht).1
  have ex := (X t ht).1
  rw [ec] at h6 ex
  refine br_f (nI_pos (by omega)) (br_t (nI_lt (b := 4) ht (by decide)) ⟨vp_in_nI ht (by decide), ?_⟩)
  rw [nI_clamp (n := t) (by omega), ex]
  cases c with
  | zero => exact br_t rfl (K0 rfl)
  | succ n =>
    refine br_f (nI_ne0 (by omega) (by omega)) ⟨vp_in_nI ht (by decide), vp_in_nI ht (by decide), ?_⟩
    refine nm_r (e' := upd ct t (nI n)) (by rw [nI_pred, dl_vbN (by omega)]) ⟨vp_in_nI ht (by decide), ?_⟩
    rw [pk_us]
    exact K n rfl
theorem dl_ydr {post : Int32 → SY → Prop} {t c : Nat} (G : dl_GD ya cz) (Y : dl_YR cz sz sp) (ht : t < 4) (ec : cz t = c)
    (K0 : c = 0 → post (-4) (my, ya, sz, re, wy, sp, rr, ch)) (K : ∀ n, c = n + 1 → post (nI n) (my, ya, upd sz t (nI n), re, wy, sp, rr, ch)) : wpY_drop post (my, ya, sz, re, wy, sp, rr, ch) (nI t) := by
  have h6 := (G t ht).1
  have ex := (Y t ht).1
  rw [ec] at h6 ex
  refine br_f (nI_pos (by omega)) (br_t (nI_le (b := 3) (by omega) (by decide)) ⟨vp_in_nI ht (by decide), ?_⟩)
  rw [nI_clamp (n := t) (by omega), ex]
  cases c with
  | zero => exact br_t rfl (K0 rfl)
  | succ n =>
    refine br_f (nI_ne0 (by omega) (by omega)) ⟨vp_in_nI ht (by decide), vp_in_nI ht (by decide), ?_⟩
    refine nm_r (e' := upd sz t (nI n)) (by rw [nI_pred]) ⟨vp_in_nI ht (by decide), ?_⟩
    rw [pk_us]
    exact K n rfl
end
end
section
/-! what is owed -/
/-- the tables of both are the same threads; what the component keeps as known is what it would find -/
def i_Rel (k : Nat) (u : SX) (v : SY) : Prop := match u, v with
  | (k0, cm, sm, rm, ms, mn, ct, xa, xh, co, wa, ss, rg, mt, pl), (my, ya, sz, re, wy, sp, rr, ch) => ∃ cz : Nat → Nat, dl_GD ya cz ∧ dl_XR ya cz ct xa xh ∧ dl_YR cz sz sp ∧ (¬ k0 = 0 → dl_KN ya cz cm sm rm ms mn co wa ss mt)
theorem i_up {k : Nat} {u : SX} {v : SY} (h : i_Rel k u v) : i_Rel (k + 5) u v := h
theorem dl_el {P : SX → SY → Prop} {k : Nat} {u : SX} {v : SY}
    (h : ∀ (cz : Nat → Nat) (k0 cm sm rm ms mn : Int32) (ct xa xh co wa ss rg mt pl : Nat → Int32) (my : Int32) (ya sz re wy sp rr ch : Nat → Int32), dl_GD ya cz → dl_XR ya cz ct xa xh → dl_YR cz sz sp → (¬ k0 = 0 → dl_KN ya cz cm sm rm ms mn co wa ss mt) → P (k0, cm, sm, rm, ms, mn, ct, xa, xh, co, wa, ss, rg, mt, pl) (my, ya, sz, re, wy, sp, rr, ch)) (I : i_Rel k u v) : P u v := by
  obtain ⟨k0, cm, sm, rm, ms, mn, ct, xa, xh, co, wa, ss, rg, mt, pl⟩ := u
  obtain ⟨my, ya, sz, re, wy, sp, rr, ch⟩ := v
  obtain ⟨cz, G, X, Y, N⟩ := I
  exact h cz k0 cm sm rm ms mn ct xa xh co wa ss rg mt pl my ya sz re wy sp rr ch G X Y N
theorem i_vc0 : wpX_init (fun u => wpY_init (fun v => i_Rel 0 u v)) := by
  show wpY_init _
  refine dl_yinit ?_
  intro z hz
  refine ⟨fun _ => 0, ?_, ?_, ?_, ?_⟩
  · intro t ht
    exact ⟨Nat.zero_le _, fun i hi => absurd hi (Nat.not_lt_zero _)⟩
  · intro t ht
    refine ⟨rfl, fun i hi => absurd hi (Nat.not_lt_zero _), fun i hi => ?_⟩
    obtain rfl : i = 0 := by have h2 : i ≤ 0 := hi; omega
    rfl
  · intro t ht
    exact ⟨rfl, hz t ht⟩
  · exact fun h => absurd rfl h
theorem i_vc_take {k : Nat} {u : SX} {v : SY} (I : i_Rel k u v) (hk : k + 5 ≤ 2560) (v1 : Int32) (v2 : Int32) : wpX_take (fun r u' => wpY_take (fun r' v' => r' = r ∧ i_Rel (k + 5) u' v') v v1 v2) u v1 v2 := by
  refine dl_el (P := fun u v => wpX_take (fun r u' => wpY_take (fun r' v' => r' = r ∧ i_Rel (k + 5) u' v') v v1 v2) u v1 v2) ?_ I
  intro cz k0 cm sm rm ms mn ct xa xh co wa ss rg mt pl my ya sz re wy sp rr ch G X Y N
  have R : i_Rel (k + 5) (k0, cm, sm, rm, ms, mn, ct, xa, xh, co, wa, ss, rg, mt, pl) (my, ya, sz, re, wy, sp, rr, ch) := ⟨cz, G, X, Y, N⟩
  rcases dl_args v1 v2 with h | ⟨t, l, ht, hl, rfl, rfl⟩
  · unfold wpX_take
    dsimp only
    refine dl_xbt h ?_
    refine br_f (by decide) ?_
    unfold wpY_take
    dsimp only
    refine dl_ybt h ?_
    exact br_f (by decide) ⟨rfl, R⟩
  · refine dl_xtk G X ht hl rfl ?_ ?_ ?_
    · intro e
      refine dl_ytk G Y ht hl rfl (fun _ => ⟨rfl, R⟩) (fun z _ => ?_) (fun z _ => ?_)
      · omega
      · omega
    · intro e z
      refine dl_ytk G Y ht hl rfl (fun y => ?_) (fun _ _ => ⟨rfl, R⟩) (fun _ y => absurd z y)
      omega
    · intro e z
      refine dl_ytk G Y ht hl rfl (fun y => ?_) (fun _ y => absurd y z) (fun _ _ => ⟨rfl, ?_⟩)
      · omega
      · refine ⟨dl_up cz t (cz t + 1), dl_pG G ht rfl e ⟨l, hl, Or.inl rfl⟩, dl_pX G X ht rfl e (dl_xct hl).symm ?_, dl_pY Y, fun y => absurd rfl y⟩
        rw [dl_Hs, pk_us, if_neg (dl_n8 hl), dl_Hn]
theorem i_vc_give {k : Nat} {u : SX} {v : SY} (I : i_Rel k u v) (hk : k + 5 ≤ 2560) (v1 : Int32) (v2 : Int32) : wpX_give (fun r u' => wpY_give (fun r' v' => r' = r ∧ i_Rel (k + 5) u' v') v v1 v2) u v1 v2 := by
  refine dl_el (P := fun u v => wpX_give (fun r u' => wpY_give (fun r' v' => r' = r ∧ i_Rel (k + 5) u' v') v v1 v2) u v1 v2) ?_ I
  intro cz k0 cm sm rm ms mn ct xa xh co wa ss rg mt pl my ya sz re wy sp rr ch G X Y N
  have R : i_Rel (k + 5) (k0, cm, sm, rm, ms, mn, ct, xa, xh, co, wa, ss, rg, mt, pl) (my, ya, sz, re, wy, sp, rr, ch) := ⟨cz, G, X, Y, N⟩
  rcases dl_args v1 v2 with h | ⟨t, l, ht, hl, rfl, rfl⟩
  · unfold wpX_give
    dsimp only
    refine dl_xbt h ?_
    refine br_f (by decide) ?_
    unfold wpY_give
    dsimp only
    refine dl_ybt h ?_
    exact br_f (by decide) ⟨rfl, R⟩
  · refine dl_xgv G X ht hl rfl ?_ ?_ ?_
    · intro e
      refine dl_ygv G Y ht hl rfl (fun _ => ⟨rfl, R⟩) (fun z _ => ?_) (fun z _ => ?_)
      · omega
      · omega
    · intro e z
      refine dl_ygv G Y ht hl rfl (fun y => ?_) (fun _ _ => ⟨rfl, R⟩) (fun _ y => absurd z y)
      omega
    · intro e z
      refine dl_ygv G Y ht hl rfl (fun y => ?_) (fun _ y => absurd y z) (fun _ _ => ⟨rfl, ?_⟩)
      · omega
      · refine ⟨dl_up cz t (cz t + 1), dl_pG G ht rfl e ⟨l, hl, Or.inr rfl⟩, dl_pX G X ht rfl e (dl_lb l hl).2.2.1.symm ?_, dl_pY Y, fun y => absurd rfl y⟩
        rw [dl_Hs, pk_us, if_pos (dl_y8 hl), dl_Hn, (dl_lb l hl).2.2.2.1]
theorem i_vc_drop {k : Nat} {u : SX} {v : SY} (I : i_Rel k u v) (hk : k + 5 ≤ 2560) (v1 : Int32) : wpX_drop (fun r u' => wpY_drop (fun r' v' => r' = r ∧ i_Rel (k + 5) u' v') v v1) u v1 := by
  refine dl_el (P := fun u v => wpX_drop (fun r u' => wpY_drop (fun r' v' => r' = r ∧ i_Rel (k + 5) u' v') v v1) u v1) ?_ I
  intro cz k0 cm sm rm ms mn ct xa xh co wa ss rg mt pl my ya sz re wy sp rr ch G X Y N
  have R : i_Rel (k + 5) (k0, cm, sm, rm, ms, mn, ct, xa, xh, co, wa, ss, rg, mt, pl) (my, ya, sz, re, wy, sp, rr, ch) := ⟨cz, G, X, Y, N⟩
  rcases pk_ix v1 (n := 4) (by decide) with h | h | ⟨t, ht, rfl⟩
  · exact br_t h (br_t h ⟨rfl, R⟩)
  · refine br_c (fun n => br_t n ⟨rfl, R⟩) (fun n => br_f (Int32.not_lt.mpr h) ?_)
    exact br_f n (br_f (dl_33 h) ⟨rfl, R⟩)
  · refine dl_xdr G X ht rfl ?_ ?_
    · intro e
      refine dl_ydr G Y ht rfl (fun _ => ⟨rfl, R⟩) (fun n z => ?_)
      omega
    · intro n e
      refine dl_ydr G Y ht rfl (fun z => ?_) (fun m z => ?_)
      · omega
      · obtain rfl : n = m := by omega
        exact ⟨rfl, dl_up cz t n, dl_qG G e, dl_qX X e, dl_pY Y, fun y => absurd rfl y⟩
end
section
/-! what is owed: the questions -/
theorem i_vc_states {k : Nat} {u : SX} {v : SY} (I : i_Rel k u v) (hk : k + 5 ≤ 2560) : wpX_states (fun r u' => wpY_states (fun r' v' => r' = r ∧ i_Rel (k + 5) u' v') v) u := by
  refine dl_el (P := fun u v => wpX_states (fun r u' => wpY_states (fun r' v' => r' = r ∧ i_Rel (k + 5) u' v') v) u) ?_ I
  intro cz k0 cm sm rm ms mn ct xa xh co wa ss rg mt pl my ya sz re wy sp rr ch G X Y N
  unfold wpX_states
  dsimp only
  refine dl_xfind G X N ?_
  intro k0 cm sm rm ms mn co wa ss rg mt pl hk0 N2
  have Q : ∀ (my : Int32) (re wy rr ch : Nat → Int32), i_Rel (k + 5) (k0, cm, sm, rm, ms, mn, ct, xa, xh, co, wa, ss, rg, mt, pl) (my, ya, sz, re, wy, sp, rr, ch) := fun my re wy rr ch => ⟨cz, G, X, Y, fun _ => N2⟩
  obtain ⟨n1, n2, n3, n4, n5, n6, n7, n8⟩ := N2
  dsimp only
  unfold wpY_states
  dsimp only
  refine dl_yw G Y ?_
  intro c w F
  dsimp only
  refine ⟨2402, ?_⟩
  refine dl_yst8 F ?_ 2401 0 rfl
  exact ⟨n1.symm, Q _ _ _ _ _⟩
theorem i_vc_stuck {k : Nat} {u : SX} {v : SY} (I : i_Rel k u v) (hk : k + 5 ≤ 2560) : wpX_stuck (fun r u' => wpY_stuck (fun r' v' => r' = r ∧ i_Rel (k + 5) u' v') v) u := by
  refine dl_el (P := fun u v => wpX_stuck (fun r u' => wpY_stuck (fun r' v' => r' = r ∧ i_Rel (k + 5) u' v') v) u) ?_ I
  intro cz k0 cm sm rm ms mn ct xa xh co wa ss rg mt pl my ya sz re wy sp rr ch G X Y N
  unfold wpX_stuck
  dsimp only
  refine dl_xfind G X N ?_
  intro k0 cm sm rm ms mn co wa ss rg mt pl hk0 N2
  have Q : ∀ (my : Int32) (re wy rr ch : Nat → Int32), i_Rel (k + 5) (k0, cm, sm, rm, ms, mn, ct, xa, xh, co, wa, ss, rg, mt, pl) (my, ya, sz, re, wy, sp, rr, ch) := fun my re wy rr ch => ⟨cz, G, X, Y, fun _ => N2⟩
  obtain ⟨n1, n2, n3, n4, n5, n6, n7, n8⟩ := N2
  dsimp only
  unfold wpY_stuck
  dsimp only
  refine dl_yw G Y ?_
  intro c w F
  dsimp only
  refine dl_ylast Y ?_
  refine ⟨2402, ?_⟩
  refine dl_ysk13 G Y F ?_ 2401 0 rfl
  exact ⟨n2.symm, Q _ _ _ _ _⟩
theorem i_vc_stuckAt {k : Nat} {u : SX} {v : SY} (I : i_Rel k u v) (hk : k + 5 ≤ 2560) (v1 : Int32) (v2 : Int32) : wpX_stuckAt (fun r u' => wpY_stuckAt (fun r' v' => r' = r ∧ i_Rel (k + 5) u' v') v v1 v2) u v1 v2 := by
  refine dl_el (P := fun u v => wpX_stuckAt (fun r u' => wpY_stuckAt (fun r' v' => r' = r ∧ i_Rel (k + 5) u' v') v v1 v2) u v1 v2) ?_ I
  intro cz k0 cm sm rm ms mn ct xa xh co wa ss rg mt pl my ya sz re wy sp rr ch G X Y N
  have R : i_Rel (k + 5) (k0, cm, sm, rm, ms, mn, ct, xa, xh, co, wa, ss, rg, mt, pl) (my, ya, sz, re, wy, sp, rr, ch) := ⟨cz, G, X, Y, N⟩
  rcases pk_ix v2 (n := 4) (by decide) with h | h | ⟨t, ht, rfl⟩
  · exact br_t h (br_t h ⟨rfl, R⟩)
  · refine br_c (fun n => br_t n ⟨rfl, R⟩) (fun n => br_f (Int32.not_lt.mpr h) ?_)
    exact br_f n (br_f (dl_33 h) ⟨rfl, R⟩)
  · refine br_f (nI_pos (by omega)) (br_t (nI_lt (b := 4) ht (by decide)) ?_)
    refine dl_xfind G X N ?_
    intro k0 cm sm rm ms mn co wa ss rg mt pl hk0 N2
    have Q : ∀ (my : Int32) (re wy rr ch : Nat → Int32), i_Rel (k + 5) (k0, cm, sm, rm, ms, mn, ct, xa, xh, co, wa, ss, rg, mt, pl) (my, ya, sz, re, wy, sp, rr, ch) := fun my re wy rr ch => ⟨cz, G, X, Y, fun _ => N2⟩
    obtain ⟨n1, n2, n3, n4, n5, n6, n7, n8⟩ := N2
    dsimp only
    have hn := dl_n_le (dl_k ya cz) 2401
    have T : ∀ r : Int32, (∀ post : Int32 → SY → Prop, (∀ (my : Int32) (re wy rr ch : Nat → Int32), post r (my, ya, sz, re, wy, sp, rr, ch)) → ∀ c w : Nat → Int32, dl_FS ya cz 2401 c w → ∃ n26, wY_stuckAt_26 post v1 (nI t) (nI (dl_last cz)) my ya sz c w sp rr ch n26 0 0) →
        wpY_stuckAt (fun r' v' => r' = r ∧ i_Rel (k + 5) (k0, cm, sm, rm, ms, mn, ct, xa, xh, co, wa, ss, rg, mt, pl) v') (my, ya, sz, re, wy, sp, rr, ch) v1 (nI t) := by
      intro r H
      refine br_f (nI_pos (by omega)) (br_t (nI_le (b := 3) (by omega) (by decide)) ?_)
      refine dl_yw G Y ?_
      intro c w F
      dsimp only
      refine dl_ylast Y ?_
      exact H _ (fun my re wy rr ch => ⟨rfl, Q my re wy rr ch⟩) c w F
    refine br_c (fun n => ?_) (fun n => ?_)
    · refine T (-4) ?_
      intro post K c w F
      refine ⟨2402, ?_⟩
      refine dl_ysa2 G Y F ?_ (K _ _ _ _ _) 2401 0 rfl
      intro s hs _ z
      have hs2 := dl_n_le (dl_k ya cz) s
      rw [← z] at n
      exact nI_pos (by omega) n
    · obtain ⟨i, hi, rfl⟩ := nI_of n
      rw [n2]
      by_cases c : i < dl_n (dl_k ya cz) 2401
      · obtain ⟨q, hq, kq, eq⟩ := dl_n_inv 2401 c
        refine br_t (nI_lt c (by omega)) ⟨vp_in_nI (by omega) (by decide), ?_⟩
        have es : ss i = nI q := by
          rw [← eq]
          exact n4 q hq kq
        rw [nI_clamp (by omega), es]
        refine dl_xd hq ht ?_
        rw [← n2]
        refine T (nI (dl_d q t)) ?_
        intro post K c w F
        refine ⟨q + 1, ?_⟩
        exact dl_ysa1 G Y F ht hq kq eq (K _ _ _ _ _) q 0 (Nat.zero_add q)
      · refine br_f (nI_nlt (by omega) (by omega)) ?_
        rw [← n2]
        refine T (-4) ?_
        intro post K c2 w F
        refine ⟨2402, ?_⟩
        refine dl_ysa2 G Y F ?_ (K _ _ _ _ _) 2401 0 rfl
        intro s hs ks z
        have hl := dl_n_lt ks hs
        have z2 := (nI_eq (by omega) (by omega)).mp z
        omega
theorem i_vc_canFinish {k : Nat} {u : SX} {v : SY} (I : i_Rel k u v) (hk : k + 5 ≤ 2560) : wpX_canFinish (fun r u' => wpY_canFinish (fun r' v' => r' = r ∧ i_Rel (k + 5) u' v') v) u := by
  refine dl_el (P := fun u v => wpX_canFinish (fun r u' => wpY_canFinish (fun r' v' => r' = r ∧ i_Rel (k + 5) u' v') v) u) ?_ I
  intro cz k0 cm sm rm ms mn ct xa xh co wa ss rg mt pl my ya sz re wy sp rr ch G X Y N
  unfold wpX_canFinish
  dsimp only
  refine dl_xfind G X N ?_
  intro k0 cm sm rm ms mn co wa ss rg mt pl hk0 N2
  have Q : ∀ (my : Int32) (re wy rr ch : Nat → Int32), i_Rel (k + 5) (k0, cm, sm, rm, ms, mn, ct, xa, xh, co, wa, ss, rg, mt, pl) (my, ya, sz, re, wy, sp, rr, ch) := fun my re wy rr ch => ⟨cz, G, X, Y, fun _ => N2⟩
  obtain ⟨n1, n2, n3, n4, n5, n6, n7, n8⟩ := N2
  dsimp only
  have hl := dl_last_lt G
  refine dl_xlast X ?_
  refine ⟨vp_in_nI hl (by decide), ?_⟩
  rw [nI_clamp (by omega)]
  refine br_c (fun z => ?_) (fun z => ?_)
  · unfold wpY_canFinish
    dsimp only
    refine dl_yw G Y ?_
    intro c w F
    dsimp only
    refine dl_ylast Y ?_
    refine ⟨vp_in_nI hl (by decide), ?_⟩
    rw [nI_clamp (by omega)]
    have e : c (dl_last cz) = co (dl_last cz) := (F _ hl).1.trans (n3 _ hl).1.symm
    exact br_t (by rw [e]; exact z) ⟨rfl, Q _ _ _ _ _⟩
  · unfold wpY_canFinish
    dsimp only
    refine dl_yw G Y ?_
    intro c w F
    dsimp only
    refine dl_ylast Y ?_
    refine ⟨vp_in_nI hl (by decide), ?_⟩
    rw [nI_clamp (by omega)]
    have e : c (dl_last cz) = co (dl_last cz) := (F _ hl).1.trans (n3 _ hl).1.symm
    exact br_f (by rw [e]; exact z) ⟨rfl, Q _ _ _ _ _⟩
theorem i_vc_ways {k : Nat} {u : SX} {v : SY} (I : i_Rel k u v) (hk : k + 5 ≤ 2560) : wpX_ways (fun r u' => wpY_ways (fun r' v' => r' = r ∧ i_Rel (k + 5) u' v') v) u := by
  refine dl_el (P := fun u v => wpX_ways (fun r u' => wpY_ways (fun r' v' => r' = r ∧ i_Rel (k + 5) u' v') v) u) ?_ I
  intro cz k0 cm sm rm ms mn ct xa xh co wa ss rg mt pl my ya sz re wy sp rr ch G X Y N
  unfold wpX_ways
  dsimp only
  refine dl_xfind G X N ?_
  intro k0 cm sm rm ms mn co wa ss rg mt pl hk0 N2
  have Q : ∀ (my : Int32) (re wy rr ch : Nat → Int32), i_Rel (k + 5) (k0, cm, sm, rm, ms, mn, ct, xa, xh, co, wa, ss, rg, mt, pl) (my, ya, sz, re, wy, sp, rr, ch) := fun my re wy rr ch => ⟨cz, G, X, Y, fun _ => N2⟩
  obtain ⟨n1, n2, n3, n4, n5, n6, n7, n8⟩ := N2
  dsimp only
  have hl := dl_last_lt G
  refine dl_xlast X ?_
  refine ⟨vp_in_nI hl (by decide), ?_⟩
  rw [nI_clamp (by omega)]
  unfold wpY_ways
  dsimp only
  refine dl_yw G Y ?_
  intro c w F
  dsimp only
  refine dl_ylast Y ?_
  refine ⟨vp_in_nI hl (by decide), ?_⟩
  rw [nI_clamp (by omega)]
  have e : w (dl_last cz) = wa (dl_last cz) := (F _ hl).2.trans (n3 _ hl).2.symm
  exact ⟨e, Q _ _ _ _ _⟩
theorem i_vc_rings {k : Nat} {u : SX} {v : SY} (I : i_Rel k u v) (hk : k + 5 ≤ 2560) : wpX_rings (fun r u' => wpY_rings (fun r' v' => r' = r ∧ i_Rel (k + 5) u' v') v) u := by
  refine dl_el (P := fun u v => wpX_rings (fun r u' => wpY_rings (fun r' v' => r' = r ∧ i_Rel (k + 5) u' v') v) u) ?_ I
  intro cz k0 cm sm rm ms mn ct xa xh co wa ss rg mt pl my ya sz re wy sp rr ch G X Y N
  unfold wpX_rings
  dsimp only
  refine dl_xfind G X N ?_
  intro k0 cm sm rm ms mn co wa ss rg mt pl hk0 N2
  have Q : ∀ (my : Int32) (re wy rr ch : Nat → Int32), i_Rel (k + 5) (k0, cm, sm, rm, ms, mn, ct, xa, xh, co, wa, ss, rg, mt, pl) (my, ya, sz, re, wy, sp, rr, ch) := fun my re wy rr ch => ⟨cz, G, X, Y, fun _ => N2⟩
  obtain ⟨n1, n2, n3, n4, n5, n6, n7, n8⟩ := N2
  dsimp only
  unfold wpY_rings
  dsimp only
  refine dl_yf G Y ?_
  intro r z L
  dsimp only
  exact ⟨by rw [n5, dl_rings_eq], Q _ _ _ _ _⟩
theorem dl_xrm8 {k0 cm sm ms mn : Int32} {ct xa xh co wa ss rg mt pl : Nat → Int32} {post : Int32 → SX → Prop} {b : Nat} (hb : b ≤ 4096) (K : post (nI (dl_n (fun r => decide (¬ mt r = 0)) b)) (k0, cm, sm, nI b, ms, mn, ct, xa, xh, co, wa, ss, rg, mt, pl)) :
    ∀ d r, r + d = b → wX_ringsMet_8 post k0 cm sm (nI b) ms mn ct xa xh co wa ss rg mt pl (d + 1) (nI (dl_n (fun r => decide (¬ mt r = 0)) r)) (nI r) := by
  intro d
  induction d with
  | zero =>
    intro r h
    obtain rfl : r = b := by omega
    exact br_t (nI_le (Nat.le_refl _) (by omega)) K
  | succ d ih =>
    intro r h
    have i := ih (r + 1) (by omega)
    refine br_f (nI_ge (by omega) (by omega)) ⟨vp_in_nI (by omega) (by decide), ?_⟩
    rw [nI_clamp (by omega)]
    by_cases c : mt r = 0
    · rw [dl_n_f (P := fun r => decide (¬ mt r = 0)) (decide_eq_false (fun y => y c))] at i
      exact br_t c (nm_r (nI_1 r) i)
    · rw [dl_n_t (P := fun r => decide (¬ mt r = 0)) (decide_eq_true c)] at i
      exact br_f c (nm_r (nI_1 _) (nm_r (nI_1 r) i))
theorem i_vc_ringsMet {k : Nat} {u : SX} {v : SY} (I : i_Rel k u v) (hk : k + 5 ≤ 2560) : wpX_ringsMet (fun r u' => wpY_ringsMet (fun r' v' => r' = r ∧ i_Rel (k + 5) u' v') v) u := by
  refine dl_el (P := fun u v => wpX_ringsMet (fun r u' => wpY_ringsMet (fun r' v' => r' = r ∧ i_Rel (k + 5) u' v') v) u) ?_ I
  intro cz k0 cm sm rm ms mn ct xa xh co wa ss rg mt pl my ya sz re wy sp rr ch G X Y N
  unfold wpX_ringsMet
  dsimp only
  refine dl_xfind G X N ?_
  intro k0 cm sm rm ms mn co wa ss rg mt pl hk0 N2
  have Q : ∀ (my : Int32) (re wy rr ch : Nat → Int32), i_Rel (k + 5) (k0, cm, sm, rm, ms, mn, ct, xa, xh, co, wa, ss, rg, mt, pl) (my, ya, sz, re, wy, sp, rr, ch) := fun my re wy rr ch => ⟨cz, G, X, Y, fun _ => N2⟩
  obtain ⟨n1, n2, n3, n4, n5, n6, n7, n8⟩ := N2
  dsimp only
  have hb := dl_n_le (dl_xr ya cz) 4096
  rw [n5]
  refine ⟨dl_n (dl_xr ya cz) 4096 + 1, ?_⟩
  refine dl_xrm8 hb ?_ (dl_n (dl_xr ya cz) 4096) 0 (Nat.zero_add _)
  rw [← n5]
  unfold wpY_ringsMet
  dsimp only
  refine dl_yf G Y ?_
  intro rl z L
  dsimp only
  refine dl_yw G Y ?_
  intro c w F
  dsimp only
  refine ⟨dl_n (dl_yr ya cz) 2401 + 1, ?_⟩
  refine dl_yrm12 Y F (dl_n_le _ _) (dl_QL_L L) ?_ (dl_n (dl_yr ya cz) 2401) 0 (Nat.zero_add _)
  refine ⟨congrArg nI ?_, Q _ _ _ _ _⟩
  rw [dl_n_via (P := dl_yr ya cz) (F := fun r => dl_B ya cz (dl_d (rl r).toNatClampNeg)) (B := fun q => dl_B ya cz (dl_d q)) 2401 (fun q hq h => dl_B_L L hq h), ← dl_met_eq]
  refine (dl_n_via (P := dl_xr ya cz) (F := fun r => decide (¬ mt r = 0)) (B := fun q => dl_B ya cz (dl_e q)) 4096 (fun q hq h => ?_)).symm
  have e := n6 q hq h
  cases B : dl_B ya cz (dl_e q) with
  | true =>
    rw [B] at e
    exact decide_eq_true (e.mpr rfl)
  | false =>
    rw [B] at e
    exact decide_eq_false (fun y => absurd (e.mp y) (by decide))
theorem i_vc_statesMet {k : Nat} {u : SX} {v : SY} (I : i_Rel k u v) (hk : k + 5 ≤ 2560) : wpX_statesMet (fun r u' => wpY_statesMet (fun r' v' => r' = r ∧ i_Rel (k + 5) u' v') v) u := by
  refine dl_el (P := fun u v => wpX_statesMet (fun r u' => wpY_statesMet (fun r' v' => r' = r ∧ i_Rel (k + 5) u' v') v) u) ?_ I
  intro cz k0 cm sm rm ms mn ct xa xh co wa ss rg mt pl my ya sz re wy sp rr ch G X Y N
  unfold wpX_statesMet
  dsimp only
  refine dl_xfind G X N ?_
  intro k0 cm sm rm ms mn co wa ss rg mt pl hk0 N2
  have Q : ∀ (my : Int32) (re wy rr ch : Nat → Int32), i_Rel (k + 5) (k0, cm, sm, rm, ms, mn, ct, xa, xh, co, wa, ss, rg, mt, pl) (my, ya, sz, re, wy, sp, rr, ch) := fun my re wy rr ch => ⟨cz, G, X, Y, fun _ => N2⟩
  obtain ⟨n1, n2, n3, n4, n5, n6, n7, n8⟩ := N2
  dsimp only
  unfold wpY_statesMet
  dsimp only
  refine dl_yf G Y ?_
  intro rl z L
  dsimp only
  refine dl_yw G Y ?_
  intro c w F
  dsimp only
  refine ⟨2402, ?_⟩
  refine dl_ysm12 (V := dl_V ya cz) Y F (dl_n_le _ _) (dl_QL_L L) (dl_V_y L) ?_ 2401 0 rfl
  exact ⟨n7.symm, Q _ _ _ _ _⟩
theorem i_vc_soonest {k : Nat} {u : SX} {v : SY} (I : i_Rel k u v) (hk : k + 5 ≤ 2560) : wpX_soonest (fun r u' => wpY_soonest (fun r' v' => r' = r ∧ i_Rel (k + 5) u' v') v) u := by
  refine dl_el (P := fun u v => wpX_soonest (fun r u' => wpY_soonest (fun r' v' => r' = r ∧ i_Rel (k + 5) u' v') v) u) ?_ I
  intro cz k0 cm sm rm ms mn ct xa xh co wa ss rg mt pl my ya sz re wy sp rr ch G X Y N
  unfold wpX_soonest
  dsimp only
  refine dl_xfind G X N ?_
  intro k0 cm sm rm ms mn co wa ss rg mt pl hk0 N2
  have Q : ∀ (my : Int32) (re wy rr ch : Nat → Int32), i_Rel (k + 5) (k0, cm, sm, rm, ms, mn, ct, xa, xh, co, wa, ss, rg, mt, pl) (my, ya, sz, re, wy, sp, rr, ch) := fun my re wy rr ch => ⟨cz, G, X, Y, fun _ => N2⟩
  obtain ⟨n1, n2, n3, n4, n5, n6, n7, n8⟩ := N2
  dsimp only
  unfold wpY_soonest
  dsimp only
  refine dl_yf G Y ?_
  intro rl z L
  dsimp only
  refine dl_yw G Y ?_
  intro c w F
  dsimp only
  refine ⟨2402, ?_⟩
  refine dl_yso13 (V := dl_V ya cz) Y F (dl_n_le _ _) (dl_QL_L L) (dl_V_y L) ?_ 2401 0 rfl
  exact ⟨n8.symm, Q _ _ _ _ _⟩
theorem dl_c6 (x : Int32) : (x < 0 ∨ ¬ x ≤ 6) ∨ ∃ a : Nat, a ≤ 6 ∧ x = nI a := by
  by_cases h : x < 0
  · exact Or.inl (Or.inl h)
  · by_cases h6 : x ≤ 6
    · exact Or.inr (nI_of2 (M := 6) (n := 6) (by decide) h h6)
    · exact Or.inl (Or.inr h6)
section
variable {k0 cm sm rm ms mn : Int32} {ct xa xh co wa ss rg mt pl : Nat → Int32} {my : Int32} {ya sz re wy sp rr ch : Nat → Int32}
theorem dl_xct1 {post : Int32 → Prop} {x : Int32} (h : x < 0 ∨ ¬ x ≤ 6) (K : post 1) : wpX_badCount post (k0, cm, sm, rm, ms, mn, ct, xa, xh, co, wa, ss, rg, mt, pl) x := by
  refine br_c (fun _ => K) (fun n => br_f ?_ K)
  rcases h with h | h
  · exact absurd h n
  · exact h
theorem dl_xct0 {post : Int32 → Prop} {a : Nat} (h : a ≤ 6) (K : post 0) : wpX_badCount post (k0, cm, sm, rm, ms, mn, ct, xa, xh, co, wa, ss, rg, mt, pl) (nI a) := br_f (nI_pos (by omega)) (br_t (nI_le (b := 6) h (by decide)) K)
theorem dl_yct1 {post : Int32 → Prop} {x : Int32} (h : x < 0 ∨ ¬ x ≤ 6) (K : post 1) : wpY_noNumber post (my, ya, sz, re, wy, sp, rr, ch) x := by
  refine br_c (fun _ => K) (fun n => br_f ?_ K)
  rcases h with h | h
  · exact absurd h n
  · exact h
theorem dl_yct0 {post : Int32 → Prop} {a : Nat} (h : a ≤ 6) (K : post 0) : wpY_noNumber post (my, ya, sz, re, wy, sp, rr, ch) (nI a) := br_f (nI_pos (by omega)) (br_t (nI_le (b := 6) h (by decide)) K)
end
theorem dl_ix4 (a b c d : Nat) : ((((343 : Int32) * nI a) + (49 * nI b)) + (7 * nI c)) + nI d = nI (343 * a + 49 * b + 7 * c + d) := by
  rw [show (343 : Int32) = nI 343 from rfl, show (49 : Int32) = nI 49 from rfl, show (7 : Int32) = nI 7 from rfl, pk_mul, pk_mul, pk_mul, nI_add, nI_add, nI_add]
theorem i_vc_reached {k : Nat} {u : SX} {v : SY} (I : i_Rel k u v) (hk : k + 5 ≤ 2560) (v1 : Int32) (v2 : Int32) (v3 : Int32) (v4 : Int32) : wpX_reached (fun r u' => wpY_reached (fun r' v' => r' = r ∧ i_Rel (k + 5) u' v') v v1 v2 v3 v4) u v1 v2 v3 v4 := by
  refine dl_el (P := fun u v => wpX_reached (fun r u' => wpY_reached (fun r' v' => r' = r ∧ i_Rel (k + 5) u' v') v v1 v2 v3 v4) u v1 v2 v3 v4) ?_ I
  intro cz k0 cm sm rm ms mn ct xa xh co wa ss rg mt pl my ya sz re wy sp rr ch G X Y N
  have R : i_Rel (k + 5) (k0, cm, sm, rm, ms, mn, ct, xa, xh, co, wa, ss, rg, mt, pl) (my, ya, sz, re, wy, sp, rr, ch) := ⟨cz, G, X, Y, N⟩
  rcases dl_c6 v1 with h | ⟨a, ha, rfl⟩
  · unfold wpX_reached
    dsimp only
    refine dl_xct1 h ?_
    refine br_f (by decide) ?_
    unfold wpY_reached
    dsimp only
    refine dl_yct1 h ?_
    exact br_f (by decide) ⟨rfl, R⟩
  rcases dl_c6 v2 with h | ⟨b, hb, rfl⟩
  · unfold wpX_reached
    dsimp only
    refine dl_xct0 ha ?_
    refine br_t rfl ?_
    refine dl_xct1 h ?_
    refine br_f (by decide) ?_
    unfold wpY_reached
    dsimp only
    refine dl_yct0 ha ?_
    refine br_t rfl ?_
    refine dl_yct1 h ?_
    exact br_f (by decide) ⟨rfl, R⟩
  rcases dl_c6 v3 with h | ⟨c, hc, rfl⟩
  · unfold wpX_reached
    dsimp only
    refine dl_xct0 ha ?_
    refine br_t rfl ?_
    refine dl_xct0 hb ?_
    refine br_t rfl ?_
    refine dl_xct1 h ?_
    refine br_f (by decide) ?_
    unfold wpY_reached
    dsimp only
    refine dl_yct0 ha ?_
    refine br_t rfl ?_
    refine dl_yct0 hb ?_
    refine br_t rfl ?_
    refine dl_yct1 h ?_
    exact br_f (by decide) ⟨rfl, R⟩
  rcases dl_c6 v4 with h | ⟨d, hd, rfl⟩
  · unfold wpX_reached
    dsimp only
    refine dl_xct0 ha ?_
    refine br_t rfl ?_
    refine dl_xct0 hb ?_
    refine br_t rfl ?_
    refine dl_xct0 hc ?_
    refine br_t rfl ?_
    refine dl_xct1 h ?_
    refine br_f (by decide) ?_
    unfold wpY_reached
    dsimp only
    refine dl_yct0 ha ?_
    refine br_t rfl ?_
    refine dl_yct0 hb ?_
    refine br_t rfl ?_
    refine dl_yct0 hc ?_
    refine br_t rfl ?_
    refine dl_yct1 h ?_
    exact br_f (by decide) ⟨rfl, R⟩
  have hj : 343 * a + 49 * b + 7 * c + d < 2401 := by omega
  unfold wpX_reached
  dsimp only
  refine dl_xct0 ha ?_
  refine br_t rfl ?_
  refine dl_xct0 hb ?_
  refine br_t rfl ?_
  refine dl_xct0 hc ?_
  refine br_t rfl ?_
  refine dl_xct0 hd ?_
  refine br_t rfl ?_
  refine dl_xfind G X N ?_
  intro k0 cm sm rm ms mn co wa ss rg mt pl hk0 N2
  have Q : ∀ (my : Int32) (re wy rr ch : Nat → Int32), i_Rel (k + 5) (k0, cm, sm, rm, ms, mn, ct, xa, xh, co, wa, ss, rg, mt, pl) (my, ya, sz, re, wy, sp, rr, ch) := fun my re wy rr ch => ⟨cz, G, X, Y, fun _ => N2⟩
  obtain ⟨n1, n2, n3, n4, n5, n6, n7, n8⟩ := N2
  dsimp only
  rw [dl_ix4]
  refine ⟨vp_in_nI hj (by decide), ?_⟩
  rw [nI_clamp (by omega)]
  refine br_c (fun z => ?_) (fun z => ?_)
  · unfold wpY_reached
    dsimp only
    refine dl_yct0 ha ?_
    refine br_t rfl ?_
    refine dl_yct0 hb ?_
    refine br_t rfl ?_
    refine dl_yct0 hc ?_
    refine br_t rfl ?_
    refine dl_yct0 hd ?_
    refine br_t rfl ?_
    refine dl_yw G Y ?_
    intro c2 w F
    dsimp only
    rw [dl_ix4]
    refine ⟨vp_in_nI hj (by decide), ?_⟩
    rw [nI_clamp (by omega)]
    have e := (F _ hj).1.trans (n3 _ hj).1.symm
    exact br_t (by rw [e]; exact z) ⟨rfl, Q _ _ _ _ _⟩
  · unfold wpY_reached
    dsimp only
    refine dl_yct0 ha ?_
    refine br_t rfl ?_
    refine dl_yct0 hb ?_
    refine br_t rfl ?_
    refine dl_yct0 hc ?_
    refine br_t rfl ?_
    refine dl_yct0 hd ?_
    refine br_t rfl ?_
    refine dl_yw G Y ?_
    intro c2 w F
    dsimp only
    rw [dl_ix4]
    refine ⟨vp_in_nI hj (by decide), ?_⟩
    rw [nI_clamp (by omega)]
    have e := (F _ hj).1.trans (n3 _ hj).1.symm
    exact br_f (by rw [e]; exact z) ⟨rfl, Q _ _ _ _ _⟩
end
