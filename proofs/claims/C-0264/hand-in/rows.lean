section
/-! pure rows to paste: stores, nI and lN arithmetic, masks, shifts, narrowing, branches by naturals (pk_le, pk_lt, pk_eq), loops (lp1 .. lp16: the measure of the state; rp1 ..: recursion), negatives. Take what you need -/
theorem pk_us {f : Nat → Int32} {k : Nat} {x : Int32} : upd f k x k = x := if_pos rfl
theorem pk_un {f : Nat → Int32} {k j : Nat} {x : Int32} (h : j ≠ k) : upd f k x j = f j := if_neg h
theorem pk_uLs {f : Nat → Int64} {k : Nat} {x : Int64} : vp_updL f k x k = x := if_pos rfl
theorem pk_uLn {f : Nat → Int64} {k j : Nat} {x : Int64} (h : j ≠ k) : vp_updL f k x j = f j := if_neg h
theorem pk_sub {a b : Nat} (h : b ≤ a) : nI a - nI b = nI (a - b) := by
  obtain ⟨c, rfl⟩ : ∃ c, a = c + b := ⟨a - b, by omega⟩
  rw [← nI_add, Int32.add_sub_cancel, Nat.add_sub_cancel]
theorem pk_m1 (n : Nat) : nI (n + 1) + (-1) = nI n := by
  rw [← nI_1, Int32.add_assoc, show (1 : Int32) + (-1) = 0 from rfl, Int32.add_zero]
theorem pk_mul (a b : Nat) : nI a * nI b = nI (a * b) := (Int32.ofNat_mul a b).symm
theorem pk_div {a d : Nat} (ha : a < 2 ^ 31) (h0 : 0 < d) (hd : d < 2 ^ 31) : nI a / nI d = nI (a / d) := by
  apply Int32.toInt_inj.mp
  rw [lg_idiv_nonneg (by rw [nI_toInt ha]; omega) (by rw [nI_toInt hd]; omega), nI_toInt ha, nI_toInt hd, nI_toInt (Nat.lt_of_le_of_lt (Nat.div_le_self a d) ha)]
  first | rfl | exact (Int.natCast_ediv _ _).symm
theorem pk_rem {a d : Nat} (ha : a < 2 ^ 31) (h0 : 0 < d) (hd : d < 2 ^ 31) : nI a - nI a / nI d * nI d = nI (a % d) := by
  rw [pk_div ha h0 hd, pk_mul, pk_sub (Nat.div_mul_le_self a d)]
  exact congrArg nI (by have := Nat.div_add_mod' a d; omega)
theorem pk_sub_toInt {a b : Nat} (ha : a < 2 ^ 30) (hb : b < 2 ^ 30) : (nI a - nI b).toInt = (a : Int) - b := by
  rw [Int32.toInt_sub, nI_toInt (by omega), nI_toInt (by omega)]
  exact Int.bmod_eq_of_le (by omega) (by omega)
theorem pk_sneg {a b : Nat} (hb : b < 2 ^ 30) (h : a < b) : nI a - nI b < 0 := by
  rw [Int32.lt_iff_toInt_lt, pk_sub_toInt (by omega) hb, show (0 : Int32).toInt = 0 from by decide]
  omega
theorem pk_ix (x : Int32) {n : Nat} (hn : n < 2 ^ 31) : x < 0 ∨ nI n ≤ x ∨ ∃ j : Nat, j < n ∧ x = nI j := by
  by_cases h : x < 0
  · exact Or.inl h
  · obtain ⟨j, hj, rfl⟩ := nI_of h
    by_cases h2 : j < n
    · exact Or.inr (Or.inr ⟨j, h2, rfl⟩)
    · exact Or.inr (Or.inl (nI_le (by omega) hj))
theorem pk_le {x y : Int32} {A B : Prop} (a b : Nat) (f : a ≤ b → A) (g : b < a → B) (hx : x = nI a := by rfl) (hy : y = nI b := by rfl) (ha : a < 2 ^ 31 := by omega) (hb : b < 2 ^ 31 := by omega) : (x ≤ y → A) ∧ (¬ x ≤ y → B) := by
  subst hx hy
  rw [nI_leI ha hb]
  exact ⟨f, fun z => g (by omega)⟩
theorem pk_lt {x y : Int32} {A B : Prop} (a b : Nat) (f : a < b → A) (g : b ≤ a → B) (hx : x = nI a := by rfl) (hy : y = nI b := by rfl) (ha : a < 2 ^ 31 := by omega) (hb : b < 2 ^ 31 := by omega) : (x < y → A) ∧ (¬ x < y → B) := by
  subst hx hy
  rw [nI_ltI ha hb]
  exact ⟨f, fun z => g (by omega)⟩
theorem pk_eq {x y : Int32} {A B : Prop} (a b : Nat) (f : a = b → A) (g : a ≠ b → B) (hx : x = nI a := by rfl) (hy : y = nI b := by rfl) (ha : a < 2 ^ 31 := by omega) (hb : b < 2 ^ 31 := by omega) : (x = y → A) ∧ (¬ x = y → B) := by
  subst hx hy
  rw [nI_eq ha hb]
  exact ⟨f, g⟩
theorem pk_in {x : Int32} (n N : Nat) (h : n < N) (hx : x = nI n := by rfl) (hN : N < 2 ^ 31 := by omega) : vp_in x N := by
  subst hx
  exact vp_in_nI h hN
theorem pk_cl {x : Int32} (n : Nat) (hx : x = nI n := by rfl) (h : n < 2 ^ 31 := by omega) : x.toNatClampNeg = n := by
  subst hx
  exact nI_clamp h
theorem pk_tn {n : Nat} (h : n < 2 ^ 32) : (nI n).toBitVec.toNat = n := Nat.mod_eq_of_lt h
theorem pk_and (x : Int32) {m : Int32} (k : Nat) (hm : m.toBitVec.toNat = 2 ^ k - 1) : x &&& m = nI (x.toBitVec.toNat % 2 ^ k) := by
  apply Int32.toBitVec_inj.mp
  apply BitVec.eq_of_toNat_eq
  rw [Int32.toBitVec_and, BitVec.toNat_and, hm, Nat.and_two_pow_sub_one_eq_mod]
  show _ = (BitVec.ofNat 32 _).toNat
  rw [BitVec.toNat_ofNat]
  exact (Nat.mod_eq_of_lt (Nat.lt_of_le_of_lt (Nat.mod_le _ _) x.toBitVec.isLt)).symm
theorem pk_andN {n : Nat} (h : n < 2 ^ 32) {m : Int32} (k : Nat) (hm : m.toBitVec.toNat = 2 ^ k - 1) : nI n &&& m = nI (n % 2 ^ k) := by
  rw [pk_and _ k hm, pk_tn h]
theorem pk_andE (x : Int32) {m : Int32} (k : Nat) (hm : m.toBitVec.toNat = 2 ^ k - 1) : ∃ j : Nat, j < 2 ^ k ∧ x &&& m = nI j := ⟨_, Nat.mod_lt _ (Nat.two_pow_pos k), pk_and x k hm⟩
theorem pk_andIn (x : Int32) {m : Int32} (k : Nat) (hm : m.toBitVec.toNat = 2 ^ k - 1) (hk : k ≤ 30) : vp_in (x &&& m) (2 ^ k) := by
  obtain ⟨j, hj, e⟩ := pk_andE x k hm
  rw [e]
  exact vp_in_nI hj (Nat.lt_of_le_of_lt (Nat.pow_le_pow_right (by decide) hk) (by decide))
theorem pk_shl (a s : Int32) (k : Nat) (hs : (s.toBitVec.smod 32).toNat = k) : (a <<< s).toBitVec.toNat = a.toBitVec.toNat * 2 ^ k % 2 ^ 32 := by
  show (a.toBitVec <<< (s.toBitVec.smod 32).toNat).toNat = _
  rw [hs, BitVec.toNat_shiftLeft, Nat.shiftLeft_eq]
theorem pk_shlN {n : Nat} (s : Int32) (k : Nat) (hs : (s.toBitVec.smod 32).toNat = k) (h : n * 2 ^ k < 2 ^ 32) : nI n <<< s = nI (n * 2 ^ k) := by
  apply Int32.toBitVec_inj.mp
  apply BitVec.eq_of_toNat_eq
  have hn : n < 2 ^ 32 := Nat.lt_of_le_of_lt (Nat.le_mul_of_pos_right n (Nat.two_pow_pos k)) h
  rw [pk_shl _ _ k hs, pk_tn hn, pk_tn h, Nat.mod_eq_of_lt h]
theorem pk_shr (a s : Int32) (k : Nat) (hs : (s.toBitVec.smod 32).toNat = k) : (a >>> s).toInt = a.toInt >>> k := by
  show (a.toBitVec.sshiftRight (s.toBitVec.smod 32).toNat).toInt = _
  rw [hs, BitVec.toInt_sshiftRight]
  rfl
theorem pk_shrN {n : Nat} (h : n < 2 ^ 31) (s : Int32) (k : Nat) (hs : (s.toBitVec.smod 32).toNat = k) : nI n >>> s = nI (n / 2 ^ k) := by
  apply Int32.toInt_inj.mp
  have h2 : n / 2 ^ k ≤ n := Nat.div_le_self _ _
  rw [pk_shr _ _ k hs, nI_toInt h, nI_toInt (by omega), Int.shiftRight_eq_div_pow]
  rfl
theorem pk_ushr (x s : Int32) (k : Nat) (hs : ((s.toUInt32 &&& Int32.toUInt32 31).toBitVec % 32).toNat = k) : (x.toUInt32 >>> (s.toUInt32 &&& Int32.toUInt32 31)).toInt32.toBitVec.toNat = x.toBitVec.toNat / 2 ^ k := by
  have e : (x.toUInt32 >>> (s.toUInt32 &&& Int32.toUInt32 31)).toInt32.toBitVec = x.toBitVec >>> k := by
    rw [← hs]
    exact UInt32.toBitVec_shiftRight _ _
  rw [e, BitVec.toNat_ushiftRight, Nat.shiftRight_eq_div_pow]
theorem pk_ushrN {n : Nat} (hn : n < 2 ^ 32) (s : Int32) (k : Nat) (hs : ((s.toUInt32 &&& Int32.toUInt32 31).toBitVec % 32).toNat = k) : ((nI n).toUInt32 >>> (s.toUInt32 &&& Int32.toUInt32 31)).toInt32 = nI (n / 2 ^ k) := by
  apply Int32.toBitVec_inj.mp
  apply BitVec.eq_of_toNat_eq
  rw [pk_ushr _ s k hs, pk_tn hn, pk_tn (Nat.lt_of_le_of_lt (Nat.div_le_self _ _) hn)]
theorem pk_nb (z : Int32) : narrow .byte (.int z.toInt8.toInt32) = .int z.toInt8.toInt32 := congrArg Value.int (by simp)
theorem pk_ns (z : Int32) : narrow .short (.int z.toInt16.toInt32) = .int z.toInt16.toInt32 := congrArg Value.int (by simp)
theorem pk_fb (r : Int32) : fits .byte (.int r.toInt8.toInt32) = true := by
  have ⟨a, b⟩ := lg_i2b_range r
  have h1 : (-128 : Int32).toInt = -128 := by decide
  have h2 : (127 : Int32).toInt = 127 := by decide
  simp only [fits, Bool.and_eq_true, decide_eq_true_eq, Int32.le_iff_toInt_le, h1, h2]
  omega
theorem pk_fs (r : Int32) : fits .short (.int r.toInt16.toInt32) = true := by
  have ⟨a, b⟩ := lg_i2s_range r
  have h1 : (-32768 : Int32).toInt = -32768 := by decide
  have h2 : (32767 : Int32).toInt = 32767 := by decide
  simp only [fits, Bool.and_eq_true, decide_eq_true_eq, Int32.le_iff_toInt_le, h1, h2]
  omega
theorem pk_charN {q : Nat} (hq : q < 65536) : narrow .char (.int (nI q)) = .int (nI q) ∧ fits .char (.int (nI q)) = true := by
  constructor
  · have e : (nI q).toUInt32.toUInt16.toUInt32.toInt32 = nI q := by
      apply Int32.toBitVec_inj.mp
      apply BitVec.eq_of_toNat_eq
      show (nI q).toUInt32.toUInt16.toUInt32.toNat = q % 2 ^ 32
      rw [UInt16.toNat_toUInt32, UInt32.toNat_toUInt16, show (nI q).toUInt32.toNat = q % 2 ^ 32 from rfl]
      omega
    exact congrArg Value.int e
  · have a : (0 : Int32) ≤ nI q := nI_pos' (by omega)
    have b : nI q ≤ 65535 := nI_le (b := 65535) (by omega) (by decide)
    show (decide ((0 : Int32) ≤ nI q) && decide (nI q ≤ 65535)) = true
    rw [decide_eq_true a, decide_eq_true b]
    rfl
theorem pk_char (x : Int32) : (x.toUInt32 % 65536).toInt32 = nI (x.toBitVec.toNat % 65536) := by
  apply Int32.toBitVec_inj.mp
  apply BitVec.eq_of_toNat_eq
  rw [pk_tn (by omega)]
  show (x.toUInt32 % 65536).toNat = _
  rw [UInt32.toNat_mod]
  rfl
theorem pk_nc (x : Int32) : narrow .char (.int (x.toUInt32 % 65536).toInt32) = .int (x.toUInt32 % 65536).toInt32 := by
  rw [pk_char]
  exact (pk_charN (Nat.mod_lt _ (by decide))).1
theorem pk_fc (x : Int32) : fits .char (.int (x.toUInt32 % 65536).toInt32) = true := by
  rw [pk_char]
  exact (pk_charN (Nat.mod_lt _ (by decide))).2
theorem pk_vb (z : Int32) : vp_nar .byte z.toInt8.toInt32 = z.toInt8.toInt32 := by rw [vp_nar_byte]; simp
theorem pk_vs (z : Int32) : vp_nar .short z.toInt16.toInt32 = z.toInt16.toInt32 := by rw [vp_nar_short]; simp
theorem pk_vc (z : Int32) : vp_nar .char (z.toUInt32 % 65536).toInt32 = (z.toUInt32 % 65536).toInt32 := Value.int.inj (pk_nc z)
theorem pk_lT {n : Nat} (h : n < 2 ^ 63) : (lN n).toInt = (n : Int) := lg_ofNat_toInt h
theorem pk_lLT {a b : Nat} (ha : a < 2 ^ 63) (hb : b < 2 ^ 63) : lN a < lN b ↔ a < b := by
  rw [Int64.lt_iff_toInt_lt, pk_lT ha, pk_lT hb]; omega
theorem pk_lLE {a b : Nat} (ha : a < 2 ^ 63) (hb : b < 2 ^ 63) : lN a ≤ lN b ↔ a ≤ b := by
  rw [Int64.le_iff_toInt_le, pk_lT ha, pk_lT hb]; omega
theorem pk_lEQ {a b : Nat} (ha : a < 2 ^ 63) (hb : b < 2 ^ 63) : lN a = lN b ↔ a = b := by
  rw [← Int64.toInt_inj, pk_lT ha, pk_lT hb]; omega
theorem pk_lOf {x : Int64} (h : ¬ x < 0) : ∃ k : Nat, k < 2 ^ 63 ∧ x = lN k := by
  rw [Int64.lt_iff_toInt_lt] at h
  have h0 : (0 : Int64).toInt = 0 := by decide
  have hx := Int64.toInt_lt x
  refine ⟨x.toInt.toNat, by omega, Int64.toInt_inj.mp ?_⟩
  rw [pk_lT (by omega)]
  omega
theorem pk_lDiv {a b : Nat} (ha : a < 2 ^ 63) (h0 : 0 < b) (hb : b < 2 ^ 63) : lN a / lN b = lN (a / b) := by
  apply Int64.toInt_inj.mp
  rw [lg_ldiv_nonneg (by rw [pk_lT ha]; omega) (by rw [pk_lT hb]; omega), pk_lT ha, pk_lT hb, pk_lT (Nat.lt_of_le_of_lt (Nat.div_le_self a b) ha)]
  rfl
theorem pk_lRem {a b : Nat} (ha : a < 2 ^ 63) (h0 : 0 < b) (hb : b < 2 ^ 63) : lN a - lN a / lN b * lN b = lN (a % b) := by
  rw [pk_lDiv ha h0 hb, lN_mul, lN_sub (Nat.div_mul_le_self a b)]
  exact congrArg lN (by have := Nat.div_add_mod' a b; omega)
/-! ===== Int32 by its bits: bt x i ===== -/
def bt (x : Int32) (i : Nat) : Bool := x.toBitVec.getLsbD i
theorem b_ext {x y : Int32} (h : ∀ i, i < 32 → bt x i = bt y i) : x = y := Int32.toBitVec_inj.mp (BitVec.eq_of_getLsbD_eq (fun i hi => h i hi))
theorem b_or (x y : Int32) (i : Nat) : bt (x ||| y) i = (bt x i || bt y i) := by unfold bt; rw [Int32.toBitVec_or, BitVec.getLsbD_or]
theorem b_and (x y : Int32) (i : Nat) : bt (x &&& y) i = (bt x i && bt y i) := by unfold bt; rw [Int32.toBitVec_and, BitVec.getLsbD_and]
theorem b_xor (x y : Int32) (i : Nat) : bt (x ^^^ y) i = (bt x i ^^ bt y i) := by unfold bt; rw [Int32.toBitVec_xor, BitVec.getLsbD_xor]
theorem b_big {x : Int32} {i : Nat} (h : 32 ≤ i) : bt x i = false := BitVec.getLsbD_of_ge _ _ h
theorem b_255 (i : Nat) : bt 255 i = decide (i < 8) := by
  rcases Nat.lt_or_ge i 32 with h | h
  · exact (by decide +kernel : ∀ i, i < 32 → bt 255 i = decide (i < 8)) i h
  · rw [b_big h, decide_eq_false (by omega)]
theorem b_65535 (i : Nat) : bt 65535 i = decide (i < 16) := by
  rcases Nat.lt_or_ge i 32 with h | h
  · exact (by decide +kernel : ∀ i, i < 32 → bt 65535 i = decide (i < 16)) i h
  · rw [b_big h, decide_eq_false (by omega)]
theorem b_m1 : ∀ i, i < 32 → bt (-1) i = true := by decide +kernel
theorem b_0 (i : Nat) : bt 0 i = false := BitVec.getLsbD_zero
theorem s_l : ∀ n, n < 32 → ((nI n &&& 31).toBitVec.smod 32).toNat = n := by decide +kernel
theorem s_u : ∀ n, n < 32 → (((nI n).toUInt32 &&& Int32.toUInt32 31).toBitVec % 32).toNat = n := by decide +kernel
theorem b_shl (n : Nat) (hn : n < 32) (x : Int32) {i : Nat} (hi : i < 32) : bt (x <<< (nI n &&& 31)) i = (decide (n ≤ i) && bt x (i - n)) := by
  unfold bt
  rw [Int32.toBitVec_shiftLeft]
  show (x.toBitVec <<< ((nI n &&& 31).toBitVec.smod 32).toNat).getLsbD i = _
  rw [s_l n hn, BitVec.getLsbD_shiftLeft]
  rcases Nat.lt_or_ge i n with h | h
  · simp [h, Nat.not_le.mpr h]
  · simp [hi, h, Nat.not_lt.mpr h]
theorem b_ushr (n : Nat) (hn : n < 32) (x : Int32) (i : Nat) : bt ((x.toUInt32 >>> ((nI n).toUInt32 &&& Int32.toUInt32 31)).toInt32) i = bt x (n + i) := by
  show (x.toUInt32 >>> ((nI n).toUInt32 &&& Int32.toUInt32 31)).toBitVec.getLsbD i = x.toUInt32.toBitVec.getLsbD (n + i)
  rw [UInt32.toBitVec_shiftRight]
  show (x.toUInt32.toBitVec >>> (((nI n).toUInt32 &&& Int32.toUInt32 31).toBitVec % 32).toNat).getLsbD i = _
  rw [s_u n hn, BitVec.getLsbD_ushiftRight]
theorem b_sshr (n : Nat) (hn : n < 32) (x : Int32) {i : Nat} (hi : i < 32) : bt (x >>> (nI n &&& 31)) i = if n + i < 32 then bt x (n + i) else bt x 31 := by
  unfold bt
  rw [Int32.toBitVec_shiftRight]
  show (x.toBitVec.sshiftRight ((nI n &&& 31).toBitVec.smod 32).toNat).getLsbD i = _
  rw [s_l n hn, BitVec.getLsbD_sshiftRight, BitVec.msb_eq_getLsbD_last]
  simp [hi]
theorem b_shl8 (x : Int32) {i : Nat} (hi : i < 32) : bt (x <<< ((8 : Int32) &&& 31)) i = (decide (8 ≤ i) && bt x (i - 8)) := b_shl 8 (by omega) x hi
theorem b_shl16 (x : Int32) {i : Nat} (hi : i < 32) : bt (x <<< ((16 : Int32) &&& 31)) i = (decide (16 ≤ i) && bt x (i - 16)) := b_shl 16 (by omega) x hi
theorem b_shl24 (x : Int32) {i : Nat} (hi : i < 32) : bt (x <<< ((24 : Int32) &&& 31)) i = (decide (24 ≤ i) && bt x (i - 24)) := b_shl 24 (by omega) x hi
theorem b_sshr8 (x : Int32) {i : Nat} (hi : i < 32) : bt (x >>> ((8 : Int32) &&& 31)) i = if 8 + i < 32 then bt x (8 + i) else bt x 31 := b_sshr 8 (by omega) x hi
end
section
/-! ===== ternary values: (surely 1, surely 0) ===== -/
abbrev rv_V : Type := Bool × Bool
def rv_and (x y : rv_V) : rv_V := (x.1 && y.1, x.2 || y.2)
def rv_or (x y : rv_V) : rv_V := (x.1 || y.1, x.2 && y.2)
def rv_not (x : rv_V) : rv_V := (x.2, x.1)
def rv_F : rv_V := (false, true)
def rv_T : rv_V := (true, false)
def rv_b (b : Bool) : rv_V := (b, !b)
def rv_le (x y : rv_V) : Prop := (x.1 = true → y.1 = true) ∧ (x.2 = true → y.2 = true)
def rv_con (x : rv_V) : Prop := (x.1 && x.2) = false
theorem rv_bF : rv_b false = rv_F := rfl
theorem rv_bT : rv_b true = rv_T := rfl
theorem rv_and_F (x : rv_V) : rv_and x rv_F = rv_F := by rcases x with ⟨_ | _, _ | _⟩ <;> rfl
theorem rv_F_and (x : rv_V) : rv_and rv_F x = rv_F := by rcases x with ⟨_ | _, _ | _⟩ <;> rfl
theorem rv_and_T (x : rv_V) : rv_and x rv_T = x := by rcases x with ⟨_ | _, _ | _⟩ <;> rfl
theorem rv_T_and (x : rv_V) : rv_and rv_T x = x := by rcases x with ⟨_ | _, _ | _⟩ <;> rfl
theorem rv_or_F (x : rv_V) : rv_or x rv_F = x := by rcases x with ⟨_ | _, _ | _⟩ <;> rfl
theorem rv_F_or (x : rv_V) : rv_or rv_F x = x := by rcases x with ⟨_ | _, _ | _⟩ <;> rfl
theorem rv_or_T (x : rv_V) : rv_or x rv_T = rv_T := by rcases x with ⟨_ | _, _ | _⟩ <;> rfl
theorem rv_T_or (x : rv_V) : rv_or rv_T x = rv_T := by rcases x with ⟨_ | _, _ | _⟩ <;> rfl
theorem rv_and_self (x : rv_V) : rv_and x x = x := by rcases x with ⟨_ | _, _ | _⟩ <;> rfl
theorem rv_or_self (x : rv_V) : rv_or x x = x := by rcases x with ⟨_ | _, _ | _⟩ <;> rfl
theorem rv_not_F : rv_not rv_F = rv_T := rfl
theorem rv_not_T : rv_not rv_T = rv_F := rfl
theorem rv_not_not (x : rv_V) : rv_not (rv_not x) = x := by rcases x with ⟨_ | _, _ | _⟩ <;> rfl
theorem rv_and_comm (x y : rv_V) : rv_and x y = rv_and y x := by
  rcases x with ⟨_ | _, _ | _⟩ <;> rcases y with ⟨_ | _, _ | _⟩ <;> rfl
theorem rv_or_comm (x y : rv_V) : rv_or x y = rv_or y x := by
  rcases x with ⟨_ | _, _ | _⟩ <;> rcases y with ⟨_ | _, _ | _⟩ <;> rfl
theorem rv_and_assoc (x y z : rv_V) : rv_and (rv_and x y) z = rv_and x (rv_and y z) := by
  rcases x with ⟨_ | _, _ | _⟩ <;> rcases y with ⟨_ | _, _ | _⟩ <;> rcases z with ⟨_ | _, _ | _⟩ <;> rfl
theorem rv_or_assoc (x y z : rv_V) : rv_or (rv_or x y) z = rv_or x (rv_or y z) := by
  rcases x with ⟨_ | _, _ | _⟩ <;> rcases y with ⟨_ | _, _ | _⟩ <;> rcases z with ⟨_ | _, _ | _⟩ <;> rfl
theorem rv_and_or (x y z : rv_V) : rv_and x (rv_or y z) = rv_or (rv_and x y) (rv_and x z) := by
  rcases x with ⟨_ | _, _ | _⟩ <;> rcases y with ⟨_ | _, _ | _⟩ <;> rcases z with ⟨_ | _, _ | _⟩ <;> rfl
theorem rv_and_and (x y z : rv_V) : rv_and (rv_and x y) (rv_and x z) = rv_and x (rv_and y z) := by
  rcases x with ⟨_ | _, _ | _⟩ <;> rcases y with ⟨_ | _, _ | _⟩ <;> rcases z with ⟨_ | _, _ | _⟩ <;> rfl
theorem rv_and_abs (x y : rv_V) : rv_and x (rv_and x y) = rv_and x y := by
  rcases x with ⟨_ | _, _ | _⟩ <;> rcases y with ⟨_ | _, _ | _⟩ <;> rfl
theorem rv_b_and (a b : Bool) : rv_and (rv_b a) (rv_b b) = rv_b (a && b) := by cases a <;> cases b <;> rfl
theorem rv_b_or (a b : Bool) : rv_or (rv_b a) (rv_b b) = rv_b (a || b) := by cases a <;> cases b <;> rfl
theorem rv_b_not (a : Bool) : rv_not (rv_b a) = rv_b (!a) := by cases a <;> rfl
theorem rv_b_1 (a : Bool) : (rv_b a).1 = a := rfl
theorem rv_b_2 (a : Bool) : (rv_b a).2 = !a := rfl
theorem rv_b_inj {a b : Bool} (h : rv_b a = rv_b b) : a = b := congrArg Prod.fst h
theorem rv_con_and {x y : rv_V} (hx : rv_con x) (hy : rv_con y) : rv_con (rv_and x y) := by
  revert hx hy; rcases x with ⟨_ | _, _ | _⟩ <;> rcases y with ⟨_ | _, _ | _⟩ <;> simp [rv_con, rv_and]
theorem rv_con_or {x y : rv_V} (hx : rv_con x) (hy : rv_con y) : rv_con (rv_or x y) := by
  revert hx hy; rcases x with ⟨_ | _, _ | _⟩ <;> rcases y with ⟨_ | _, _ | _⟩ <;> simp [rv_con, rv_or]
theorem rv_con_not {x : rv_V} (hx : rv_con x) : rv_con (rv_not x) := by
  revert hx; rcases x with ⟨_ | _, _ | _⟩ <;> simp [rv_con, rv_not]
theorem rv_con_F : rv_con rv_F := rfl
theorem rv_con_T : rv_con rv_T := rfl
theorem rv_con_b (b : Bool) : rv_con (rv_b b) := by cases b <;> rfl
theorem rv_le_rf (x : rv_V) : rv_le x x := ⟨id, id⟩
theorem rv_le_tr {x y z : rv_V} (h : rv_le x y) (g : rv_le y z) : rv_le x z := ⟨fun a => g.1 (h.1 a), fun a => g.2 (h.2 a)⟩
theorem rv_le_as {x y : rv_V} (h : rv_le x y) (g : rv_le y x) : x = y := by
  revert h g; rcases x with ⟨_ | _, _ | _⟩ <;> rcases y with ⟨_ | _, _ | _⟩ <;> simp [rv_le]
theorem rv_le_and {x y a b : rv_V} (h : rv_le x a) (g : rv_le y b) : rv_le (rv_and x y) (rv_and a b) := by
  revert h g; rcases x with ⟨_ | _, _ | _⟩ <;> rcases y with ⟨_ | _, _ | _⟩ <;> simp [rv_le, rv_and] <;> grind
theorem rv_le_or {x y a b : rv_V} (h : rv_le x a) (g : rv_le y b) : rv_le (rv_or x y) (rv_or a b) := by
  revert h g; rcases x with ⟨_ | _, _ | _⟩ <;> rcases y with ⟨_ | _, _ | _⟩ <;> simp [rv_le, rv_or] <;> grind
theorem rv_le_not {x a : rv_V} (h : rv_le x a) : rv_le (rv_not x) (rv_not a) := ⟨h.2, h.1⟩
/-- a value that is known stays what it is -/
theorem rv_le_kn {x y : rv_V} (h : rv_le x y) (hy : rv_con y) (hk : x.1 = true ∨ x.2 = true) : y = x := by
  revert h hy hk; rcases x with ⟨_ | _, _ | _⟩ <;> rcases y with ⟨_ | _, _ | _⟩ <;> simp [rv_le, rv_con]
/-! ===== what a statement's codes are, out of its parts' ===== -/
def rv_up (x : rv_V) (c : Nat → rv_V) : Nat → rv_V
  | 0 => rv_or x (c 0)
  | k + 1 => rv_or (rv_up x c k) (c (k + 1))
def fa_one (j : Nat) : Nat → rv_V := fun k => if k = j then rv_T else rv_F
def fa_loop (c : Nat → rv_V) : Nat → rv_V := fun k => if k = 0 then rv_F else if k = 1 then rv_or (c 1) (c 0) else c k
def fa_trap (c : Nat → rv_V) : Nat → rv_V := fun k => if k = 0 then rv_or (c 0) (c 2) else if k = 1 then c 1 else if k = 4 then rv_F else c (k + 1)
def fa_susp (s : rv_V) (c : Nat → rv_V) : Nat → rv_V := fun k => if k = 1 then rv_or (rv_and (rv_not s) (c 1)) s else rv_and (rv_not s) (c k)
def fa_seq (c d : Nat → rv_V) : Nat → rv_V := fun k => rv_or (if k = 0 then rv_F else c k) (rv_and (c 0) (d k))
def fa_par (c d : Nat → rv_V) : Nat → rv_V := fun k => rv_and (rv_and (rv_up rv_F c k) (rv_up rv_F d k)) (rv_or (c k) (d k))
def fa_test (s : rv_V) (c d : Nat → rv_V) : Nat → rv_V := fun k => rv_or (rv_and s (c k)) (rv_and (rv_not s) (d k))
theorem rv_up_and (x y : rv_V) (c : Nat → rv_V) (k : Nat) : rv_up (rv_and x y) (fun j => rv_and x (c j)) k = rv_and x (rv_up y c k) := by
  induction k with
  | zero => exact (rv_and_or x y (c 0)).symm
  | succ k ih => show rv_or _ _ = rv_and x (rv_or _ _); rw [ih, rv_and_or]
theorem rv_up_cg {x y : rv_V} {c d : Nat → rv_V} {n : Nat} (hx : x = y) (h : ∀ k, k < n → c k = d k) : ∀ k, k < n → rv_up x c k = rv_up y d k := by
  intro k
  induction k with
  | zero => intro hk; show rv_or _ _ = rv_or _ _; rw [hx, h 0 hk]
  | succ k ih => intro hk; show rv_or _ _ = rv_or _ _; rw [ih (by omega), h _ hk]
theorem rv_up_T (c : Nat → rv_V) (k : Nat) : rv_up rv_T c k = rv_T := by
  induction k with
  | zero => exact rv_T_or _
  | succ k ih => show rv_or _ _ = _; rw [ih, rv_T_or]
theorem rv_up_F0 (x : rv_V) (k : Nat) : rv_up x (fun _ => rv_F) k = x := by
  induction k with
  | zero => exact rv_or_F _
  | succ k ih => show rv_or _ _ = _; rw [ih, rv_or_F]
theorem rv_up_one (k : Nat) : rv_up rv_F (fa_one 0) k = rv_T := by
  induction k with
  | zero => rfl
  | succ k ih => show rv_or _ _ = _; rw [ih, rv_T_or]
theorem rv_up_ge (x : rv_V) (c : Nat → rv_V) (k : Nat) : rv_and (rv_up x c k) (c k) = c k := by
  have a : ∀ u v : rv_V, rv_and (rv_or u v) v = v := by
    intro x y; rcases x with ⟨_ | _, _ | _⟩ <;> rcases y with ⟨_ | _, _ | _⟩ <;> rfl
  cases k with
  | zero => exact a _ _
  | succ k => exact a _ _
/-- the or of f over a, a + 1, .., a + n - 1 -/
def rv_bo (f : Nat → rv_V) (a : Nat) : Nat → rv_V
  | 0 => rv_F
  | n + 1 => rv_or (rv_bo f a n) (f (a + n))
theorem rv_bo_add (f : Nat → rv_V) (a n m : Nat) : rv_bo f a (n + m) = rv_or (rv_bo f a n) (rv_bo f (a + n) m) := by
  induction m with
  | zero => exact (rv_or_F _).symm
  | succ m ih =>
    show rv_or (rv_bo f a (n + m)) (f (a + (n + m))) = rv_or _ (rv_or _ _)
    rw [ih, rv_or_assoc, Nat.add_assoc]
theorem rv_bo_cg {f g : Nat → rv_V} {a n : Nat} (h : ∀ j, a ≤ j → j < a + n → f j = g j) : rv_bo f a n = rv_bo g a n := by
  induction n with
  | zero => rfl
  | succ n ih =>
    show rv_or _ _ = rv_or _ _
    rw [ih (fun j h1 h2 => h j h1 (by omega)), h (a + n) (by omega) (by omega)]
end
section
/-! ===== the tree of statements: kind, number, parts, the first statement of each subtree ===== -/
def rt_Nd (kd nm pp pq lo : Nat → Nat) (i : Nat) : Prop :=
  kd i ≤ 9 ∧ nm i < 6 ∧ (kd i = 3 → nm i < 3) ∧ lo i ≤ i ∧ pp i < 16 ∧ pq i < 16 ∧
  (kd i < 4 → lo i = i) ∧
  (4 ≤ kd i → kd i < 7 → pp i + 1 = i ∧ lo i = lo (pp i)) ∧
  (7 ≤ kd i → pq i + 1 = i ∧ pp i + 1 = lo (pq i) ∧ lo i = lo (pp i))
/-- what is active, out of the registers -/
def rt_Al (kd pp pq : Nat → Nat) (on al : Nat → Bool) (i : Nat) : Prop :=
  al i = (on i || ((decide (4 ≤ kd i) && al (pp i)) || (decide (7 ≤ kd i) && al (pq i))))
/-- registers: pauses and loops alone; a loop that waits has nothing active in it; at most one part of a sequence or a test is active -/
def rt_Wf (kd pp pq : Nat → Nat) (on al : Nat → Bool) (i : Nat) : Prop :=
  (on i = true → kd i = 1 ∨ kd i = 4) ∧ (kd i = 4 → on i = true → al (pp i) = false) ∧
  (kd i = 7 ∨ kd i = 9 → al (pp i) = true → al (pq i) = false)
/-- the reference's codes: started, resumed -/
def rt_js (kd nm pp pq : Nat → Nat) (S : Nat → rv_V) (C : Nat → Nat → rv_V) (i : Nat) : Nat → rv_V :=
  if kd i = 0 then fa_one 0 else if kd i = 1 then fa_one 1 else if kd i = 2 then fa_one 0 else if kd i = 3 then fa_one (nm i + 2)
  else if kd i = 4 then fa_loop (C (pp i)) else if kd i = 5 then fa_trap (C (pp i)) else if kd i = 6 then C (pp i)
  else if kd i = 7 then fa_seq (C (pp i)) (C (pq i)) else if kd i = 8 then fa_par (C (pp i)) (C (pq i)) else fa_test (S (nm i)) (C (pp i)) (C (pq i))
def rt_jr (kd nm pp pq : Nat → Nat) (on al : Nat → Bool) (S : Nat → rv_V) (C : Nat → Nat → rv_V) (i : Nat) : Nat → rv_V :=
  if kd i < 4 then fa_one 0
  else if kd i = 4 then fa_loop (if on i = true then C (pp i) else C (16 + pp i)) else if kd i = 5 then fa_trap (C (16 + pp i))
  else if kd i = 6 then fa_susp (S (nm i)) (C (16 + pp i))
  else if kd i = 8 then fa_par (if al (pp i) = true then C (16 + pp i) else fa_one 0) (if al (pq i) = true then C (16 + pq i) else fa_one 0)
  else if kd i = 7 then (if al (pp i) = true then fa_seq (C (16 + pp i)) (C (pq i)) else C (16 + pq i))
  else (if al (pp i) = true then C (16 + pp i) else C (16 + pq i))
/-- the reference's signals: started, resumed -/
def rt_es (kd nm pp pq : Nat → Nat) (S : Nat → rv_V) (C E : Nat → Nat → rv_V) (i s : Nat) : rv_V :=
  if kd i = 2 then (if s = nm i then rv_T else rv_F) else if kd i < 4 then rv_F else if kd i < 7 then E (pp i) s
  else if kd i = 7 then rv_or (E (pp i) s) (rv_and (C (pp i) 0) (E (pq i) s)) else if kd i = 8 then rv_or (E (pp i) s) (E (pq i) s)
  else rv_or (rv_and (S (nm i)) (E (pp i) s)) (rv_and (rv_not (S (nm i))) (E (pq i) s))
def rt_er (kd nm pp pq : Nat → Nat) (on al : Nat → Bool) (S : Nat → rv_V) (C E : Nat → Nat → rv_V) (i s : Nat) : rv_V :=
  if kd i < 4 then rv_F
  else if kd i = 4 then (if on i = true then E (pp i) s else E (16 + pp i) s) else if kd i = 5 then E (16 + pp i) s
  else if kd i = 6 then rv_and (rv_not (S (nm i))) (E (16 + pp i) s)
  else if kd i = 8 then rv_or (if al (pp i) = true then E (16 + pp i) s else rv_F) (if al (pq i) = true then E (16 + pq i) s else rv_F)
  else if kd i = 7 then (if al (pp i) = true then rv_or (E (16 + pp i) s) (rv_and (C (16 + pp i) 0) (E (pq i) s)) else E (16 + pq i) s)
  else (if al (pp i) = true then E (16 + pp i) s else E (16 + pq i) s)
def rt_Ref (kd nm pp pq : Nat → Nat) (on al : Nat → Bool) (S : Nat → rv_V) (C E : Nat → Nat → rv_V) (i : Nat) : Prop :=
  (∀ k, k < 5 → C i k = rt_js kd nm pp pq S C i k) ∧ (∀ k, k < 5 → C (16 + i) k = rt_jr kd nm pp pq on al S C i k) ∧
  (∀ s, s < 6 → E i s = rt_es kd nm pp pq S C E i s) ∧ (∀ s, s < 6 → E (16 + i) s = rt_er kd nm pp pq on al S C E i s)
/-- the wires of statement i and of its parts -/
def rt_NE (kd nm pp pq : Nat → Nat) (S : Nat → rv_V) (rs rr rh rk rl rg rb : Nat → rv_V) (rc : Nat → Nat → rv_V) (i : Nat) : Prop :=
  (kd i = 0 ∨ kd i = 2 → ∀ k, k < 5 → rc i k = if k = 0 then rs i else rv_F) ∧
  (kd i = 1 → (∀ k, k < 5 → rc i k = if k = 0 then rv_and (rg i) (rr i) else if k = 1 then rs i else rv_F) ∧
    rb i = rv_and (rv_or (rs i) (rv_and (rh i) (rg i))) (rv_not (rk i))) ∧
  (kd i = 3 → ∀ k, k < 5 → rc i k = if k = nm i + 2 then rs i else rv_F) ∧
  (kd i = 4 → rs (pp i) = rv_or (rs i) (rv_and (rg i) (rr i)) ∧ rr (pp i) = rr i ∧ rh (pp i) = rh i ∧ rk (pp i) = rk i ∧
    (∀ k, k < 5 → rc i k = fa_loop (rc (pp i)) k) ∧ rb i = rv_and (rv_or (rc (pp i) 0) (rv_and (rh i) (rg i))) (rv_not (rk i))) ∧
  (kd i = 5 → rs (pp i) = rs i ∧ rr (pp i) = rr i ∧ rh (pp i) = rh i ∧ (∀ k, k < 5 → rc i k = fa_trap (rc (pp i)) k)) ∧
  (kd i = 6 → rs (pp i) = rs i ∧ rr (pp i) = rv_and (rr i) (rv_not (S (nm i))) ∧ rh (pp i) = rv_or (rh i) (rv_and (rr i) (S (nm i))) ∧ rk (pp i) = rk i ∧
    (∀ k, k < 5 → rc i k = if k = 1 then rv_or (rc (pp i) 1) (rv_and (rv_and (rr i) (S (nm i))) (rl (pp i))) else rc (pp i) k)) ∧
  (kd i = 7 → rs (pp i) = rs i ∧ rr (pp i) = rr i ∧ rh (pp i) = rh i ∧ rk (pp i) = rk i ∧ rs (pq i) = rc (pp i) 0 ∧ rr (pq i) = rr i ∧ rh (pq i) = rh i ∧ rk (pq i) = rk i ∧
    (∀ k, k < 5 → rc i k = if k = 0 then rc (pq i) 0 else rv_or (rc (pp i) k) (rc (pq i) k))) ∧
  (kd i = 8 → rs (pp i) = rs i ∧ rr (pp i) = rr i ∧ rh (pp i) = rh i ∧ rs (pq i) = rs i ∧ rr (pq i) = rr i ∧ rh (pq i) = rh i ∧ rk (pq i) = rk (pp i) ∧
    (∀ k, k < 5 → rc i k = rv_and (rv_and (rv_up (rv_and (rv_and (rl i) (rr i)) (rv_not (rl (pp i)))) (rc (pp i)) k)
      (rv_up (rv_and (rv_and (rl i) (rr i)) (rv_not (rl (pq i)))) (rc (pq i)) k)) (rv_or (rc (pp i) k) (rc (pq i) k)))) ∧
  (kd i = 9 → rs (pp i) = rv_and (rs i) (S (nm i)) ∧ rr (pp i) = rr i ∧ rh (pp i) = rh i ∧ rk (pp i) = rk i ∧
    rs (pq i) = rv_and (rs i) (rv_not (S (nm i))) ∧ rr (pq i) = rr i ∧ rh (pq i) = rh i ∧ rk (pq i) = rk i ∧
    (∀ k, k < 5 → rc i k = rv_or (rc (pp i) k) (rc (pq i) k)))
/-- what kills the parts of a trap, and those of a par -/
def rt_KE (kd pp : Nat → Nat) (rk : Nat → rv_V) (rc : Nat → Nat → rv_V) (i : Nat) : Prop :=
  (kd i = 5 → rk (pp i) = rv_or (rk i) (rc (pp i) 2)) ∧
  (kd i = 8 → rk (pp i) = rv_or (rk i) (rv_or (rv_or (rc i 2) (rc i 3)) (rc i 4)))
/-- statement j as one that emits s -/
def rt_lf (kd nm : Nat → Nat) (rs : Nat → rv_V) (s j : Nat) : rv_V := if kd j = 2 ∧ nm j = s then rs j else rv_F
def rt_em (kd nm lo : Nat → Nat) (rs : Nat → rv_V) (s i : Nat) : rv_V := rv_bo (rt_lf kd nm rs s) (lo i) (i + 1 - lo i)
section
variable {z : Nat} {kd nm pp pq lo : Nat → Nat} {rs : Nat → rv_V}
theorem rt_lf_F {s j : Nat} (h : kd j ≠ 2) : rt_lf kd nm rs s j = rv_F := if_neg (fun e => h e.1)
theorem rt_em_0 {s i : Nat} (h : rt_Nd kd nm pp pq lo i) (k : kd i < 4) : rt_em kd nm lo rs s i = rt_lf kd nm rs s i := by
  have e := h.2.2.2.2.2.2.1 k
  unfold rt_em
  rw [e, Nat.add_sub_cancel_left]
  exact rv_F_or _
theorem rt_em_1 {s i : Nat} (hT : ∀ i, i < z → rt_Nd kd nm pp pq lo i) (hi : i < z) (k : 4 ≤ kd i) (k7 : kd i < 7) : rt_em kd nm lo rs s i = rt_em kd nm lo rs s (pp i) := by
  have h := hT i hi
  have ⟨e1, e2⟩ := h.2.2.2.2.2.2.2.1 k k7
  have l := (hT (pp i) (by omega)).2.2.2.1
  unfold rt_em
  have e3 : i + 1 - lo i = (pp i + 1 - lo (pp i)) + 1 := by omega
  have e4 : lo i + (pp i + 1 - lo (pp i)) = i := by omega
  rw [e3]
  show rv_or _ _ = _
  rw [e4, rt_lf_F (by omega), rv_or_F, e2]
theorem rt_em_2 {s i : Nat} (hT : ∀ i, i < z → rt_Nd kd nm pp pq lo i) (hi : i < z) (k : 7 ≤ kd i) : rt_em kd nm lo rs s i = rv_or (rt_em kd nm lo rs s (pp i)) (rt_em kd nm lo rs s (pq i)) := by
  have h := hT i hi
  have ⟨e1, e2, e3⟩ := h.2.2.2.2.2.2.2.2 k
  have lq := (hT (pq i) (by omega)).2.2.2.1
  have lp := (hT (pp i) (by omega)).2.2.2.1
  unfold rt_em
  have e4 : i + 1 - lo i = (pp i + 1 - lo (pp i)) + (pq i + 1 - lo (pq i)) + 1 := by omega
  have e5 : lo i + ((pp i + 1 - lo (pp i)) + (pq i + 1 - lo (pq i))) = i := by omega
  have e6 : lo (pp i) + (pp i + 1 - lo (pp i)) = lo (pq i) := by omega
  rw [e4]
  show rv_or _ _ = _
  rw [e5, rt_lf_F (by omega), rv_or_F, rv_bo_add, e3, e6]
end
/-- the claim of the walk from parts to wholes, at i -/
def rt_St (kd nm lo : Nat → Nat) (al : Nat → Bool) (C E : Nat → Nat → rv_V) (rs rr : Nat → rv_V) (rc : Nat → Nat → rv_V) (i : Nat) : Prop :=
  (∀ k, k < 5 → rc i k = if al i = true then rv_and (rr i) (C (16 + i) k) else rv_and (rs i) (C i k)) ∧
  (∀ s, s < 6 → rt_em kd nm lo rs s i = if al i = true then rv_and (rr i) (E (16 + i) s) else rv_and (rs i) (E i s))
theorem rt_par_alg (x u v a b : rv_V) : rv_and (rv_and (rv_and x u) (rv_and x v)) (rv_or (rv_and x a) (rv_and x b)) = rv_and x (rv_and (rv_and u v) (rv_or a b)) := by
  rw [← rv_and_or, rv_and_and, rv_and_and]
theorem rt_tst_alg (x s a b : rv_V) : rv_or (rv_and (rv_and x s) a) (rv_and (rv_and x (rv_not s)) b) = rv_and x (rv_or (rv_and s a) (rv_and (rv_not s) b)) := by
  rw [rv_and_assoc, rv_and_assoc, ← rv_and_or]
end
section
/-! ===== from the parts to the whole: the circuit against must and can ===== -/
section
variable {kd nm pp pq : Nat → Nat} {on al : Nat → Bool} {S : Nat → rv_V} {C E : Nat → Nat → rv_V} {i s : Nat}
theorem rt_js0 (h : kd i = 0) : rt_js kd nm pp pq S C i = fa_one 0 := by unfold rt_js; rw [h]; rfl
theorem rt_js1 (h : kd i = 1) : rt_js kd nm pp pq S C i = fa_one 1 := by unfold rt_js; rw [h]; rfl
theorem rt_js2 (h : kd i = 2) : rt_js kd nm pp pq S C i = fa_one 0 := by unfold rt_js; rw [h]; rfl
theorem rt_js3 (h : kd i = 3) : rt_js kd nm pp pq S C i = fa_one (nm i + 2) := by unfold rt_js; rw [h]; rfl
theorem rt_js4 (h : kd i = 4) : rt_js kd nm pp pq S C i = fa_loop (C (pp i)) := by unfold rt_js; rw [h]; rfl
theorem rt_js5 (h : kd i = 5) : rt_js kd nm pp pq S C i = fa_trap (C (pp i)) := by unfold rt_js; rw [h]; rfl
theorem rt_js6 (h : kd i = 6) : rt_js kd nm pp pq S C i = C (pp i) := by unfold rt_js; rw [h]; rfl
theorem rt_js7 (h : kd i = 7) : rt_js kd nm pp pq S C i = fa_seq (C (pp i)) (C (pq i)) := by unfold rt_js; rw [h]; rfl
theorem rt_js8 (h : kd i = 8) : rt_js kd nm pp pq S C i = fa_par (C (pp i)) (C (pq i)) := by unfold rt_js; rw [h]; rfl
theorem rt_js9 (h : kd i = 9) : rt_js kd nm pp pq S C i = fa_test (S (nm i)) (C (pp i)) (C (pq i)) := by unfold rt_js; rw [h]; rfl
theorem rt_jr0 (h : kd i < 4) : rt_jr kd nm pp pq on al S C i = fa_one 0 := by unfold rt_jr; rw [if_pos h]
theorem rt_jr4 (h : kd i = 4) : rt_jr kd nm pp pq on al S C i = fa_loop (if on i = true then C (pp i) else C (16 + pp i)) := by unfold rt_jr; rw [h]; rfl
theorem rt_jr5 (h : kd i = 5) : rt_jr kd nm pp pq on al S C i = fa_trap (C (16 + pp i)) := by unfold rt_jr; rw [h]; rfl
theorem rt_jr6 (h : kd i = 6) : rt_jr kd nm pp pq on al S C i = fa_susp (S (nm i)) (C (16 + pp i)) := by unfold rt_jr; rw [h]; rfl
theorem rt_jr7 (h : kd i = 7) : rt_jr kd nm pp pq on al S C i = if al (pp i) = true then fa_seq (C (16 + pp i)) (C (pq i)) else C (16 + pq i) := by unfold rt_jr; rw [h]; rfl
theorem rt_jr8 (h : kd i = 8) : rt_jr kd nm pp pq on al S C i = fa_par (if al (pp i) = true then C (16 + pp i) else fa_one 0) (if al (pq i) = true then C (16 + pq i) else fa_one 0) := by unfold rt_jr; rw [h]; rfl
theorem rt_jr9 (h : kd i = 9) : rt_jr kd nm pp pq on al S C i = if al (pp i) = true then C (16 + pp i) else C (16 + pq i) := by unfold rt_jr; rw [h]; rfl
theorem rt_es2 (h : kd i = 2) : rt_es kd nm pp pq S C E i s = if s = nm i then rv_T else rv_F := by unfold rt_es; rw [h]; rfl
theorem rt_es0 (h : kd i ≠ 2) (h4 : kd i < 4) : rt_es kd nm pp pq S C E i s = rv_F := by unfold rt_es; rw [if_neg h, if_pos h4]
theorem rt_es4 (h : 4 ≤ kd i) (h7 : kd i < 7) : rt_es kd nm pp pq S C E i s = E (pp i) s := by unfold rt_es; rw [if_neg (by omega), if_neg (by omega), if_pos h7]
theorem rt_es7 (h : kd i = 7) : rt_es kd nm pp pq S C E i s = rv_or (E (pp i) s) (rv_and (C (pp i) 0) (E (pq i) s)) := by unfold rt_es; rw [h]; rfl
theorem rt_es8 (h : kd i = 8) : rt_es kd nm pp pq S C E i s = rv_or (E (pp i) s) (E (pq i) s) := by unfold rt_es; rw [h]; rfl
theorem rt_es9 (h : kd i = 9) : rt_es kd nm pp pq S C E i s = rv_or (rv_and (S (nm i)) (E (pp i) s)) (rv_and (rv_not (S (nm i))) (E (pq i) s)) := by unfold rt_es; rw [h]; rfl
theorem rt_er0 (h : kd i < 4) : rt_er kd nm pp pq on al S C E i s = rv_F := by unfold rt_er; rw [if_pos h]
theorem rt_er4 (h : kd i = 4) : rt_er kd nm pp pq on al S C E i s = if on i = true then E (pp i) s else E (16 + pp i) s := by unfold rt_er; rw [h]; rfl
theorem rt_er5 (h : kd i = 5) : rt_er kd nm pp pq on al S C E i s = E (16 + pp i) s := by unfold rt_er; rw [h]; rfl
theorem rt_er6 (h : kd i = 6) : rt_er kd nm pp pq on al S C E i s = rv_and (rv_not (S (nm i))) (E (16 + pp i) s) := by unfold rt_er; rw [h]; rfl
theorem rt_er7 (h : kd i = 7) : rt_er kd nm pp pq on al S C E i s = if al (pp i) = true then rv_or (E (16 + pp i) s) (rv_and (C (16 + pp i) 0) (E (pq i) s)) else E (16 + pq i) s := by unfold rt_er; rw [h]; rfl
theorem rt_er8 (h : kd i = 8) : rt_er kd nm pp pq on al S C E i s = rv_or (if al (pp i) = true then E (16 + pp i) s else rv_F) (if al (pq i) = true then E (16 + pq i) s else rv_F) := by unfold rt_er; rw [h]; rfl
theorem rt_er9 (h : kd i = 9) : rt_er kd nm pp pq on al S C E i s = if al (pp i) = true then E (16 + pp i) s else E (16 + pq i) s := by unfold rt_er; rw [h]; rfl
end
theorem fa_one_and (x : rv_V) (j k : Nat) : rv_and x (fa_one j k) = if k = j then x else rv_F := by
  unfold fa_one; split
  · exact rv_and_T x
  · exact rv_and_F x
theorem fa_loop_and {x : rv_V} {c d : Nat → rv_V} (h : ∀ k, k < 5 → c k = rv_and x (d k)) : ∀ k, k < 5 → fa_loop c k = rv_and x (fa_loop d k) := by
  intro k hk; unfold fa_loop
  rw [h 0 (by omega), h 1 (by omega), h k hk]
  split
  · exact (rv_and_F x).symm
  · split
    · exact (rv_and_or _ _ _).symm
    · rfl
theorem fa_trap_and {x : rv_V} {c d : Nat → rv_V} (h : ∀ k, k < 5 → c k = rv_and x (d k)) : ∀ k, k < 5 → fa_trap c k = rv_and x (fa_trap d k) := by
  intro k hk; unfold fa_trap
  rw [h 0 (by omega), h 1 (by omega), h 2 (by omega)]
  split
  · exact (rv_and_or _ _ _).symm
  · split
    · rfl
    · split
      · exact (rv_and_F x).symm
      · exact h (k + 1) (by omega)
theorem fa_par_one_r (c : Nat → rv_V) (k : Nat) : fa_par c (fa_one 0) k = c k := by
  unfold fa_par
  rw [rv_up_one, rv_and_T]
  by_cases h : k = 0
  · subst h
    show rv_and (rv_or rv_F (c 0)) (rv_or (c 0) rv_T) = _
    rw [rv_F_or, rv_or_T, rv_and_T]
  · rw [show fa_one 0 k = rv_F from if_neg h, rv_or_F]; exact rv_up_ge _ _ _
theorem fa_par_one_l (c : Nat → rv_V) (k : Nat) : fa_par (fa_one 0) c k = c k := by
  have e : fa_par (fa_one 0) c k = fa_par c (fa_one 0) k := by
    unfold fa_par; rw [rv_and_comm (rv_up rv_F (fa_one 0) k), rv_or_comm (fa_one 0 k)]
  rw [e, fa_par_one_r]
section
variable {kd nm pp pq lo : Nat → Nat} {on al : Nat → Bool} {S : Nat → rv_V} {C E : Nat → Nat → rv_V} {rs rr rh rk rl rg rb : Nat → rv_V} {rc : Nat → Nat → rv_V} {z i : Nat}
theorem rt_on_f (hwf : rt_Wf kd pp pq on al i) (h1 : kd i ≠ 1) (h4 : kd i ≠ 4) : on i = false := by
  cases h : on i with
  | false => rfl
  | true => rcases hwf.1 h with e | e <;> contradiction
theorem rt_al_0 (hal : rt_Al kd pp pq on al i) (h4 : kd i < 4) : al i = on i := by
  have h : al i = _ := hal
  rw [h, decide_eq_false (by omega : ¬ 4 ≤ kd i), decide_eq_false (by omega : ¬ 7 ≤ kd i)]; simp
theorem rt_al_1 (hal : rt_Al kd pp pq on al i) (h4 : 4 ≤ kd i) (h7 : kd i < 7) : al i = (on i || al (pp i)) := by
  have h : al i = _ := hal
  rw [h, decide_eq_true h4, decide_eq_false (by omega : ¬ 7 ≤ kd i)]; simp
theorem rt_al_2 (hal : rt_Al kd pp pq on al i) (h7 : 7 ≤ kd i) : al i = (on i || (al (pp i) || al (pq i))) := by
  have h : al i = _ := hal
  rw [h, decide_eq_true (by omega : 4 ≤ kd i), decide_eq_true h7]; simp
theorem rt_st02 (hT : rt_Nd kd nm pp pq lo i) (hal : rt_Al kd pp pq on al i) (hwf : rt_Wf kd pp pq on al i) (hJ : rt_Ref kd nm pp pq on al S C E i)
    (hE : rt_NE kd nm pp pq S rs rr rh rk rl rg rb rc i) (hk : kd i = 0 ∨ kd i = 2) : rt_St kd nm lo al C E rs rr rc i := by
  have ha : al i = false := by rw [rt_al_0 hal (by omega), rt_on_f hwf (by omega) (by omega)]
  refine ⟨fun k h5 => ?_, fun s h6 => ?_⟩
  · rw [ha, if_neg Bool.false_ne_true, hE.1 hk k h5, hJ.1 k h5]
    rcases hk with e | e
    · rw [rt_js0 e, fa_one_and]
    · rw [rt_js2 e, fa_one_and]
  · rw [ha, if_neg Bool.false_ne_true, rt_em_0 hT (by omega), hJ.2.2.1 s h6]
    rcases hk with e | e
    · rw [rt_lf_F (by omega), rt_es0 (by omega) (by omega), rv_and_F]
    · rw [rt_es2 e]; unfold rt_lf
      by_cases e' : s = nm i
      · rw [if_pos ⟨e, e'.symm⟩, if_pos e', rv_and_T]
      · rw [if_neg (fun a => e' a.2.symm), if_neg e', rv_and_F]
theorem rt_st3 (hT : rt_Nd kd nm pp pq lo i) (hal : rt_Al kd pp pq on al i) (hwf : rt_Wf kd pp pq on al i) (hJ : rt_Ref kd nm pp pq on al S C E i)
    (hE : rt_NE kd nm pp pq S rs rr rh rk rl rg rb rc i) (hk : kd i = 3) : rt_St kd nm lo al C E rs rr rc i := by
  have ha : al i = false := by rw [rt_al_0 hal (by omega), rt_on_f hwf (by omega) (by omega)]
  refine ⟨fun k h5 => ?_, fun s h6 => ?_⟩
  · rw [ha, if_neg Bool.false_ne_true, hE.2.2.1 hk k h5, hJ.1 k h5, rt_js3 hk, fa_one_and]
  · rw [ha, if_neg Bool.false_ne_true, rt_em_0 hT (by omega), hJ.2.2.1 s h6, rt_lf_F (by omega), rt_es0 (by omega) (by omega), rv_and_F]
theorem rt_st1 (hT : rt_Nd kd nm pp pq lo i) (hal : rt_Al kd pp pq on al i) (hJ : rt_Ref kd nm pp pq on al S C E i)
    (hE : rt_NE kd nm pp pq S rs rr rh rk rl rg rb rc i) (hg : kd i = 1 ∨ kd i = 4 → rg i = rv_b (on i)) (hs : al i = true → rs i = rv_F) (hk : kd i = 1) : rt_St kd nm lo al C E rs rr rc i := by
  have ha : al i = on i := rt_al_0 hal (by omega)
  have hc := (hE.2.1 hk).1
  have hg := hg (Or.inl hk)
  refine ⟨fun k h5 => ?_, fun s h6 => ?_⟩
  · rw [hc k h5, hg]
    cases h : on i with
    | false =>
      rw [ha, h, if_neg Bool.false_ne_true, hJ.1 k h5, rt_js1 hk, fa_one_and, rv_bF, rv_F_and]
      by_cases e : k = 0
      · subst e; rfl
      · rw [if_neg e]
    | true =>
      have hs := hs (by rw [ha, h])
      rw [ha, h, if_pos rfl, hJ.2.1 k h5, rt_jr0 (by omega), fa_one_and, rv_bT, rv_T_and, hs, ite_self]
  · rw [rt_em_0 hT (by omega), rt_lf_F (by omega), hJ.2.2.1 s h6, hJ.2.2.2 s h6, rt_er0 (by omega), rt_es0 (by omega) (by omega), rv_and_F, rv_and_F, ite_self]
theorem rt_st4 (hT : ∀ i, i < z → rt_Nd kd nm pp pq lo i) (hi : i < z) (hal : rt_Al kd pp pq on al i) (hwf : rt_Wf kd pp pq on al i) (hJ : rt_Ref kd nm pp pq on al S C E i)
    (hE : rt_NE kd nm pp pq S rs rr rh rk rl rg rb rc i) (hg : kd i = 1 ∨ kd i = 4 → rg i = rv_b (on i)) (hs : al i = true → rs i = rv_F)
    (ihp : (al (pp i) = true → rs (pp i) = rv_F) → rt_St kd nm lo al C E rs rr rc (pp i)) (hk : kd i = 4) : rt_St kd nm lo al C E rs rr rc i := by
  have ha : al i = (on i || al (pp i)) := rt_al_1 hal (by omega) (by omega)
  obtain ⟨e1, e2, -, -, hc, -⟩ := hE.2.2.2.1 hk
  have hg := hg (Or.inr hk)
  cases h : on i with
  | true =>
    have hp := hwf.2.1 hk h
    have ha' : al i = true := by rw [ha, h]; rfl
    have hs' := hs ha'
    rw [hg, h, hs', rv_F_or, rv_bT, rv_T_and] at e1
    obtain ⟨ic, ie⟩ := ihp (fun e => absurd (hp.symm.trans e) Bool.false_ne_true)
    refine ⟨fun k h5 => ?_, fun s h6 => ?_⟩
    · rw [ha', if_pos rfl, hJ.2.1 k h5, rt_jr4 hk, h, if_pos rfl, hc k h5]
      refine fa_loop_and (fun j h => ?_) k h5
      rw [ic j h, hp, if_neg Bool.false_ne_true, e1]
    · rw [ha', if_pos rfl, hJ.2.2.2 s h6, rt_er4 hk, h, if_pos rfl, rt_em_1 hT hi (by omega) (by omega), ie s h6, hp, if_neg Bool.false_ne_true, e1]
  | false =>
    rw [hg, h, rv_bF, rv_F_and, rv_or_F] at e1
    rw [h, Bool.false_or] at ha
    obtain ⟨ic, ie⟩ := ihp (fun e => by rw [e1]; exact hs (by rw [ha]; exact e))
    refine ⟨fun k h5 => ?_, fun s h6 => ?_⟩
    · rw [hc k h5, ha]
      cases hp : al (pp i) with
      | true =>
        rw [if_pos rfl, hJ.2.1 k h5, rt_jr4 hk, h, if_neg Bool.false_ne_true]
        refine fa_loop_and (fun j h => ?_) k h5
        rw [ic j h, hp, if_pos rfl, e2]
      | false =>
        rw [if_neg Bool.false_ne_true, hJ.1 k h5, rt_js4 hk]
        refine fa_loop_and (fun j h => ?_) k h5
        rw [ic j h, hp, if_neg Bool.false_ne_true, e1]
    · rw [rt_em_1 hT hi (by omega) (by omega), ie s h6, ha, hJ.2.2.2 s h6, hJ.2.2.1 s h6, rt_er4 hk, h, if_neg Bool.false_ne_true, rt_es4 (by omega) (by omega), e1, e2]
theorem rt_st5 (hT : ∀ i, i < z → rt_Nd kd nm pp pq lo i) (hi : i < z) (hal : rt_Al kd pp pq on al i) (hwf : rt_Wf kd pp pq on al i) (hJ : rt_Ref kd nm pp pq on al S C E i)
    (hE : rt_NE kd nm pp pq S rs rr rh rk rl rg rb rc i) (hs : al i = true → rs i = rv_F)
    (ihp : (al (pp i) = true → rs (pp i) = rv_F) → rt_St kd nm lo al C E rs rr rc (pp i)) (hk : kd i = 5) : rt_St kd nm lo al C E rs rr rc i := by
  have ha : al i = al (pp i) := by rw [rt_al_1 hal (by omega) (by omega), rt_on_f hwf (by omega) (by omega)]; rfl
  obtain ⟨e1, e2, -, hc⟩ := hE.2.2.2.2.1 hk
  obtain ⟨ic, ie⟩ := ihp (fun e => by rw [e1]; exact hs (by rw [ha]; exact e))
  refine ⟨fun k h5 => ?_, fun s h6 => ?_⟩
  · rw [hc k h5, ha]
    cases hp : al (pp i) with
    | true =>
      rw [if_pos rfl, hJ.2.1 k h5, rt_jr5 hk]
      refine fa_trap_and (fun j h => ?_) k h5
      rw [ic j h, hp, if_pos rfl, e2]
    | false =>
      rw [if_neg Bool.false_ne_true, hJ.1 k h5, rt_js5 hk]
      refine fa_trap_and (fun j h => ?_) k h5
      rw [ic j h, hp, if_neg Bool.false_ne_true, e1]
  · rw [rt_em_1 hT hi (by omega) (by omega), ie s h6, ha, hJ.2.2.2 s h6, hJ.2.2.1 s h6, rt_er5 hk, rt_es4 (by omega) (by omega), e1, e2]
theorem rt_st6 (hT : ∀ i, i < z → rt_Nd kd nm pp pq lo i) (hi : i < z) (hal : rt_Al kd pp pq on al i) (hwf : rt_Wf kd pp pq on al i) (hJ : rt_Ref kd nm pp pq on al S C E i)
    (hE : rt_NE kd nm pp pq S rs rr rh rk rl rg rb rc i) (hl : rl (pp i) = rv_b (al (pp i))) (hs : al i = true → rs i = rv_F)
    (ihp : (al (pp i) = true → rs (pp i) = rv_F) → rt_St kd nm lo al C E rs rr rc (pp i)) (hk : kd i = 6) : rt_St kd nm lo al C E rs rr rc i := by
  have ha : al i = al (pp i) := by rw [rt_al_1 hal (by omega) (by omega), rt_on_f hwf (by omega) (by omega)]; rfl
  obtain ⟨e1, e2, -, -, hc⟩ := hE.2.2.2.2.2.1 hk
  obtain ⟨ic, ie⟩ := ihp (fun e => by rw [e1]; exact hs (by rw [ha]; exact e))
  refine ⟨fun k h5 => ?_, fun s h6 => ?_⟩
  · rw [hc k h5, ha, ic 1 (by omega), ic k h5]
    cases hp : al (pp i) with
    | true =>
      rw [if_pos rfl, if_pos rfl, if_pos rfl, hJ.2.1 k h5, rt_jr6 hk, hl, hp, rv_bT, rv_and_T, e2]
      unfold fa_susp
      split
      · rw [rv_and_or, rv_and_assoc]
      · rw [rv_and_assoc]
    | false =>
      rw [if_neg Bool.false_ne_true, if_neg Bool.false_ne_true, if_neg Bool.false_ne_true, hJ.1 k h5, rt_js6 hk, hl, hp, rv_bF, rv_and_F, rv_or_F, e1]
      split
      · next h => rw [h]
      · rfl
  · rw [rt_em_1 hT hi (by omega) (by omega), ie s h6, ha, hJ.2.2.2 s h6, hJ.2.2.1 s h6, rt_er6 hk, rt_es4 (by omega) (by omega), e1, e2, rv_and_assoc]
theorem rt_seq_alg (x c0 c d : rv_V) (k : Nat) : (if k = 0 then rv_and (rv_and x c0) d else rv_or (rv_and x c) (rv_and (rv_and x c0) d)) = rv_and x (rv_or (if k = 0 then rv_F else c) (rv_and c0 d)) := by
  split
  · rw [rv_F_or, rv_and_assoc]
  · rw [rv_and_or, rv_and_assoc]
theorem rt_st7 (hT : ∀ i, i < z → rt_Nd kd nm pp pq lo i) (hi : i < z) (hal : rt_Al kd pp pq on al i) (hwf : rt_Wf kd pp pq on al i) (hJ : rt_Ref kd nm pp pq on al S C E i)
    (hE : rt_NE kd nm pp pq S rs rr rh rk rl rg rb rc i) (hs : al i = true → rs i = rv_F)
    (ihp : (al (pp i) = true → rs (pp i) = rv_F) → rt_St kd nm lo al C E rs rr rc (pp i))
    (ihq : (al (pq i) = true → rs (pq i) = rv_F) → rt_St kd nm lo al C E rs rr rc (pq i)) (hk : kd i = 7) : rt_St kd nm lo al C E rs rr rc i := by
  have ha : al i = (al (pp i) || al (pq i)) := by rw [rt_al_2 hal (by omega), rt_on_f hwf (by omega) (by omega)]; rfl
  obtain ⟨e1, e2, -, -, e3, e4, -, -, hc⟩ := hE.2.2.2.2.2.2.1 hk
  obtain ⟨pc, pe⟩ := ihp (fun e => by rw [e1]; exact hs (by rw [ha, e]; rfl))
  have p0 := pc 0 (by omega)
  rw [e1, e2] at pc pe p0
  cases hp : al (pp i) with
  | true =>
    have hq := hwf.2.2 (Or.inl hk) hp
    rw [hp, if_pos rfl] at p0
    obtain ⟨qc, qe⟩ := ihq (fun e => absurd (hq.symm.trans e) Bool.false_ne_true)
    rw [e3, p0] at qc qe
    rw [hp, Bool.true_or] at ha
    refine ⟨fun k h5 => ?_, fun s h6 => ?_⟩
    · have q0 := qc 0 (by omega)
      rw [hc k h5, pc k h5, qc k h5, q0, hp, hq, if_pos rfl, if_neg Bool.false_ne_true, if_neg Bool.false_ne_true, ha, if_pos rfl, hJ.2.1 k h5, rt_jr7 hk, hp, if_pos rfl]
      unfold fa_seq
      by_cases e : k = 0
      · subst e; exact rt_seq_alg _ _ _ _ 0
      · rw [if_neg e, if_neg e, rv_and_or, rv_and_assoc]
    · rw [rt_em_2 hT hi (by omega), pe s h6, qe s h6, hp, hq, if_pos rfl, if_neg Bool.false_ne_true, ha, if_pos rfl, hJ.2.2.2 s h6, rt_er7 hk, hp, if_pos rfl, rv_and_or, rv_and_assoc]
  | false =>
    rw [hp, if_neg Bool.false_ne_true] at p0
    rw [hp, Bool.false_or] at ha
    cases hq : al (pq i) with
    | true =>
      rw [hq] at ha
      have hs := hs ha
      rw [hs, rv_F_and] at p0
      obtain ⟨qc, qe⟩ := ihq (fun _ => e3.trans p0)
      refine ⟨fun k h5 => ?_, fun s h6 => ?_⟩
      · have q0 := qc 0 (by omega)
        rw [hc k h5, pc k h5, qc k h5, q0, hp, hq, if_pos rfl, if_pos rfl, if_neg Bool.false_ne_true, ha, if_pos rfl, hJ.2.1 k h5, rt_jr7 hk, hp, if_neg Bool.false_ne_true, hs, rv_F_and, rv_F_or, e4]
        split
        · next h => rw [h]
        · rfl
      · rw [rt_em_2 hT hi (by omega), pe s h6, qe s h6, hp, hq, if_pos rfl, if_neg Bool.false_ne_true, ha, if_pos rfl, hJ.2.2.2 s h6, rt_er7 hk, hp, if_neg Bool.false_ne_true, hs, rv_F_and, rv_F_or, e4]
    | false =>
      rw [hq] at ha
      obtain ⟨qc, qe⟩ := ihq (fun e => absurd (hq.symm.trans e) Bool.false_ne_true)
      rw [e3, p0] at qc qe
      refine ⟨fun k h5 => ?_, fun s h6 => ?_⟩
      · have q0 := qc 0 (by omega)
        rw [hc k h5, pc k h5, qc k h5, q0, hp, hq, if_neg Bool.false_ne_true, if_neg Bool.false_ne_true, if_neg Bool.false_ne_true, ha, if_neg Bool.false_ne_true, hJ.1 k h5, rt_js7 hk]
        unfold fa_seq
        by_cases e : k = 0
        · subst e; exact rt_seq_alg _ _ _ _ 0
        · rw [if_neg e, if_neg e, rv_and_or, rv_and_assoc]
      · rw [rt_em_2 hT hi (by omega), pe s h6, qe s h6, hp, hq, if_neg Bool.false_ne_true, if_neg Bool.false_ne_true, ha, if_neg Bool.false_ne_true, hJ.2.2.1 s h6, rt_es7 hk, rv_and_or, rv_and_assoc]
theorem rt_par_one (x : rv_V) (c : Nat → rv_V) (k : Nat) : rv_and (rv_and (rv_and x (rv_up rv_F c k)) x) (rv_or (rv_and x (c k)) rv_F) = rv_and x (c k) := by
  rw [rv_or_F, rv_and_comm (rv_and x (rv_up rv_F c k)) x, rv_and_abs, rv_and_and, rv_up_ge]
theorem rt_par_one' (x : rv_V) (c : Nat → rv_V) (k : Nat) : rv_and (rv_and x (rv_and x (rv_up rv_F c k))) (rv_or rv_F (rv_and x (c k))) = rv_and x (c k) := by
  rw [rv_F_or, rv_and_abs, rv_and_and, rv_up_ge]
theorem rt_up_x {x : rv_V} {c d : Nat → rv_V} (h : ∀ k, k < 5 → c k = rv_and x (d k)) {k : Nat} (h5 : k < 5) : rv_up rv_F c k = rv_and x (rv_up rv_F d k) := by
  rw [← rv_up_and, rv_and_F]; exact rv_up_cg rfl h k h5
theorem rt_up_0 {x : rv_V} {c : Nat → rv_V} (h : ∀ k, k < 5 → c k = rv_F) {k : Nat} (h5 : k < 5) : rv_up x c k = x := by
  rw [rv_up_cg rfl h k h5, rv_up_F0]
theorem rt_st8 (hT : ∀ i, i < z → rt_Nd kd nm pp pq lo i) (hi : i < z) (hal : rt_Al kd pp pq on al i) (hwf : rt_Wf kd pp pq on al i) (hJ : rt_Ref kd nm pp pq on al S C E i)
    (hE : rt_NE kd nm pp pq S rs rr rh rk rl rg rb rc i) (hl : rl i = rv_b (al i)) (hlp : rl (pp i) = rv_b (al (pp i))) (hlq : rl (pq i) = rv_b (al (pq i))) (hs : al i = true → rs i = rv_F)
    (ihp : (al (pp i) = true → rs (pp i) = rv_F) → rt_St kd nm lo al C E rs rr rc (pp i))
    (ihq : (al (pq i) = true → rs (pq i) = rv_F) → rt_St kd nm lo al C E rs rr rc (pq i)) (hk : kd i = 8) : rt_St kd nm lo al C E rs rr rc i := by
  have ha : al i = (al (pp i) || al (pq i)) := by rw [rt_al_2 hal (by omega), rt_on_f hwf (by omega) (by omega)]; rfl
  obtain ⟨e1, e2, -, e3, e4, -, -, hc⟩ := hE.2.2.2.2.2.2.2.1 hk
  obtain ⟨pc, pe⟩ := ihp (fun e => by rw [e1]; exact hs (by rw [ha, e]; rfl))
  obtain ⟨qc, qe⟩ := ihq (fun e => by rw [e3]; exact hs (by rw [ha, e, Bool.or_true]))
  rw [e1, e2] at pc pe
  rw [e3, e4] at qc qe
  cases hp : al (pp i) with
  | true =>
    have pe : ∀ s, s < 6 → rt_em kd nm lo rs s (pp i) = rv_and (rr i) (E (16 + pp i) s) := fun s h => by rw [pe s h, hp, if_pos rfl]
    rw [hp, Bool.true_or] at ha
    have hs := hs ha
    have pc : ∀ k, k < 5 → rc (pp i) k = rv_and (rr i) (C (16 + pp i) k) := fun k h => by rw [pc k h, hp, if_pos rfl]
    cases hq : al (pq i) with
    | true =>
      have qc : ∀ k, k < 5 → rc (pq i) k = rv_and (rr i) (C (16 + pq i) k) := fun k h => by rw [qc k h, hq, if_pos rfl]
      refine ⟨fun k h5 => ?_, fun s h6 => ?_⟩
      · rw [hc k h5, hl, ha, hlp, hp, hlq, hq, rv_bT, rv_not_T, rv_and_F, rt_up_x pc h5, rt_up_x qc h5, pc k h5, qc k h5, rt_par_alg, if_pos rfl, hJ.2.1 k h5, rt_jr8 hk, hp, hq, if_pos rfl, if_pos rfl]
        rfl
      · rw [rt_em_2 hT hi (by omega), pe s h6, qe s h6, hq, if_pos rfl, ha, if_pos rfl, hJ.2.2.2 s h6, rt_er8 hk, hp, hq, if_pos rfl, if_pos rfl, rv_and_or]
    | false =>
      have qc : ∀ k, k < 5 → rc (pq i) k = rv_F := fun k h => by rw [qc k h, hq, if_neg Bool.false_ne_true, hs, rv_F_and]
      refine ⟨fun k h5 => ?_, fun s h6 => ?_⟩
      · rw [hc k h5, hl, ha, hlp, hp, hlq, hq, rv_bT, rv_bF, rv_not_T, rv_not_F, rv_and_F, rv_T_and, rv_and_T, rt_up_x pc h5, rt_up_0 qc h5, pc k h5, qc k h5, rt_par_one, if_pos rfl, hJ.2.1 k h5, rt_jr8 hk, hp, hq, if_pos rfl, if_neg Bool.false_ne_true, fa_par_one_r]
      · rw [rt_em_2 hT hi (by omega), pe s h6, qe s h6, hq, if_neg Bool.false_ne_true, ha, if_pos rfl, hJ.2.2.2 s h6, rt_er8 hk, hp, hq, if_pos rfl, if_neg Bool.false_ne_true, hs, rv_F_and, rv_or_F, rv_or_F]
  | false =>
    have pe : ∀ s, s < 6 → rt_em kd nm lo rs s (pp i) = rv_and (rs i) (E (pp i) s) := fun s h => by rw [pe s h, hp, if_neg Bool.false_ne_true]
    rw [hp, Bool.false_or] at ha
    cases hq : al (pq i) with
    | true =>
      rw [hq] at ha
      have hs := hs ha
      have pc : ∀ k, k < 5 → rc (pp i) k = rv_F := fun k h => by rw [pc k h, hp, if_neg Bool.false_ne_true, hs, rv_F_and]
      have qc : ∀ k, k < 5 → rc (pq i) k = rv_and (rr i) (C (16 + pq i) k) := fun k h => by rw [qc k h, hq, if_pos rfl]
      refine ⟨fun k h5 => ?_, fun s h6 => ?_⟩
      · rw [hc k h5, hl, ha, hlp, hp, hlq, hq, rv_bT, rv_bF, rv_not_T, rv_not_F, rv_and_F, rv_T_and, rv_and_T, rt_up_0 pc h5, rt_up_x qc h5, pc k h5, qc k h5, rt_par_one', if_pos rfl, hJ.2.1 k h5, rt_jr8 hk, hp, hq, if_pos rfl, if_neg Bool.false_ne_true, fa_par_one_l]
      · rw [rt_em_2 hT hi (by omega), pe s h6, qe s h6, hq, if_pos rfl, ha, if_pos rfl, hJ.2.2.2 s h6, rt_er8 hk, hp, hq, if_neg Bool.false_ne_true, if_pos rfl, hs, rv_F_and, rv_F_or, rv_F_or]
    | false =>
      rw [hq] at ha
      have pc : ∀ k, k < 5 → rc (pp i) k = rv_and (rs i) (C (pp i) k) := fun k h => by rw [pc k h, hp, if_neg Bool.false_ne_true]
      have qc : ∀ k, k < 5 → rc (pq i) k = rv_and (rs i) (C (pq i) k) := fun k h => by rw [qc k h, hq, if_neg Bool.false_ne_true]
      refine ⟨fun k h5 => ?_, fun s h6 => ?_⟩
      · rw [hc k h5, hl, ha, hlp, hp, hlq, hq, rv_bF, rv_not_F, rv_F_and, rv_F_and, rt_up_x pc h5, rt_up_x qc h5, pc k h5, qc k h5, rt_par_alg, if_neg Bool.false_ne_true, hJ.1 k h5, rt_js8 hk]
        rfl
      · rw [rt_em_2 hT hi (by omega), pe s h6, qe s h6, hq, if_neg Bool.false_ne_true, ha, if_neg Bool.false_ne_true, hJ.2.2.1 s h6, rt_es8 hk, rv_and_or]
theorem rt_st9 (hT : ∀ i, i < z → rt_Nd kd nm pp pq lo i) (hi : i < z) (hal : rt_Al kd pp pq on al i) (hwf : rt_Wf kd pp pq on al i) (hJ : rt_Ref kd nm pp pq on al S C E i)
    (hE : rt_NE kd nm pp pq S rs rr rh rk rl rg rb rc i) (hs : al i = true → rs i = rv_F)
    (ihp : (al (pp i) = true → rs (pp i) = rv_F) → rt_St kd nm lo al C E rs rr rc (pp i))
    (ihq : (al (pq i) = true → rs (pq i) = rv_F) → rt_St kd nm lo al C E rs rr rc (pq i)) (hk : kd i = 9) : rt_St kd nm lo al C E rs rr rc i := by
  have ha : al i = (al (pp i) || al (pq i)) := by rw [rt_al_2 hal (by omega), rt_on_f hwf (by omega) (by omega)]; rfl
  obtain ⟨e1, e2, -, -, e3, e4, -, -, hc⟩ := hE.2.2.2.2.2.2.2.2 hk
  obtain ⟨pc, pe⟩ := ihp (fun e => by rw [e1, hs (by rw [ha, e]; rfl), rv_F_and])
  obtain ⟨qc, qe⟩ := ihq (fun e => by rw [e3, hs (by rw [ha, e, Bool.or_true]), rv_F_and])
  rw [e1, e2] at pc pe
  rw [e3, e4] at qc qe
  cases hp : al (pp i) with
  | true =>
    have hq := hwf.2.2 (Or.inr hk) hp
    rw [hp, Bool.true_or] at ha
    have hs := hs ha
    refine ⟨fun k h5 => ?_, fun s h6 => ?_⟩
    · rw [hc k h5, pc k h5, qc k h5, hp, hq, if_pos rfl, if_neg Bool.false_ne_true, ha, if_pos rfl, hJ.2.1 k h5, rt_jr9 hk, hp, if_pos rfl, hs, rv_F_and, rv_F_and, rv_or_F]
    · rw [rt_em_2 hT hi (by omega), pe s h6, qe s h6, hp, hq, if_pos rfl, if_neg Bool.false_ne_true, ha, if_pos rfl, hJ.2.2.2 s h6, rt_er9 hk, hp, if_pos rfl, hs, rv_F_and, rv_F_and, rv_or_F]
  | false =>
    rw [hp, Bool.false_or] at ha
    cases hq : al (pq i) with
    | true =>
      rw [hq] at ha
      have hs := hs ha
      refine ⟨fun k h5 => ?_, fun s h6 => ?_⟩
      · rw [hc k h5, pc k h5, qc k h5, hp, hq, if_pos rfl, if_neg Bool.false_ne_true, ha, if_pos rfl, hJ.2.1 k h5, rt_jr9 hk, hp, if_neg Bool.false_ne_true, hs, rv_F_and, rv_F_and, rv_F_or]
      · rw [rt_em_2 hT hi (by omega), pe s h6, qe s h6, hp, hq, if_pos rfl, if_neg Bool.false_ne_true, ha, if_pos rfl, hJ.2.2.2 s h6, rt_er9 hk, hp, if_neg Bool.false_ne_true, hs, rv_F_and, rv_F_and, rv_F_or]
    | false =>
      rw [hq] at ha
      refine ⟨fun k h5 => ?_, fun s h6 => ?_⟩
      · rw [hc k h5, pc k h5, qc k h5, hp, hq, if_neg Bool.false_ne_true, if_neg Bool.false_ne_true, ha, if_neg Bool.false_ne_true, hJ.1 k h5, rt_js9 hk]
        exact rt_tst_alg _ _ _ _
      · rw [rt_em_2 hT hi (by omega), pe s h6, qe s h6, hp, hq, if_neg Bool.false_ne_true, if_neg Bool.false_ne_true, ha, if_neg Bool.false_ne_true, hJ.2.2.1 s h6, rt_es9 hk]
        exact rt_tst_alg _ _ _ _
theorem rt_struct (hT : ∀ i, i < z → rt_Nd kd nm pp pq lo i) (hal : ∀ i, i < z → rt_Al kd pp pq on al i) (hwf : ∀ i, i < z → rt_Wf kd pp pq on al i) (hJ : ∀ i, i < z → rt_Ref kd nm pp pq on al S C E i)
    (hE : ∀ i, i < z → rt_NE kd nm pp pq S rs rr rh rk rl rg rb rc i) (hl : ∀ i, i < z → rl i = rv_b (al i)) (hg : ∀ i, i < z → kd i = 1 ∨ kd i = 4 → rg i = rv_b (on i)) :
    ∀ i, i < z → (al i = true → rs i = rv_F) → rt_St kd nm lo al C E rs rr rc i := by
  intro i
  induction i using Nat.strongRecOn with
  | ind i ih =>
    intro hi hs
    have T := hT i hi
    have k9 := T.1
    have t1 := T.2.2.2.2.2.2.2.1
    have t2 := T.2.2.2.2.2.2.2.2
    have lq : 7 ≤ kd i → lo (pq i) ≤ pq i := fun h => (hT (pq i) (by have := t2 h; omega)).2.2.2.1
    have hp : 4 ≤ kd i → pp i < i := by
      intro h
      by_cases h7 : kd i < 7
      · have := t1 h h7; omega
      · have := t2 (by omega); have := lq (by omega); omega
    have hq : 7 ≤ kd i → pq i < i := by intro h; have := t2 h; omega
    by_cases h02 : kd i = 0 ∨ kd i = 2
    · exact rt_st02 T (hal i hi) (hwf i hi) (hJ i hi) (hE i hi) h02
    by_cases h1 : kd i = 1
    · exact rt_st1 T (hal i hi) (hJ i hi) (hE i hi) (hg i hi) hs h1
    by_cases h3 : kd i = 3
    · exact rt_st3 T (hal i hi) (hwf i hi) (hJ i hi) (hE i hi) h3
    have p := hp (by omega)
    have ihp := ih (pp i) p (by omega)
    by_cases h4 : kd i = 4
    · exact rt_st4 hT hi (hal i hi) (hwf i hi) (hJ i hi) (hE i hi) (hg i hi) hs ihp h4
    by_cases h5 : kd i = 5
    · exact rt_st5 hT hi (hal i hi) (hwf i hi) (hJ i hi) (hE i hi) hs ihp h5
    by_cases h6 : kd i = 6
    · exact rt_st6 hT hi (hal i hi) (hwf i hi) (hJ i hi) (hE i hi) (hl _ (by omega)) hs ihp h6
    have q := hq (by omega)
    have ihq := ih (pq i) q (by omega)
    by_cases h7 : kd i = 7
    · exact rt_st7 hT hi (hal i hi) (hwf i hi) (hJ i hi) (hE i hi) hs ihp ihq h7
    by_cases h8 : kd i = 8
    · exact rt_st8 hT hi (hal i hi) (hwf i hi) (hJ i hi) (hE i hi) (hl _ hi) (hl _ (by omega)) (hl _ (by omega)) hs ihp ihq h8
    · exact rt_st9 hT hi (hal i hi) (hwf i hi) (hJ i hi) (hE i hi) hs ihp ihq (by omega)
end
end
section
/-! ===== X's state by naturals ===== -/
abbrev xs_f : Type := Nat → Nat
def xs_A (f : xs_f) : Nat → Int32 := fun j => nI (f j)
def xs_u (f : xs_f) (k x : Nat) : xs_f := fun j => if j = k then x else f j
theorem xs_us (f : xs_f) (k x : Nat) : xs_u f k x k = x := if_pos rfl
theorem xs_un {f : xs_f} {k x j : Nat} (h : j ≠ k) : xs_u f k x j = f j := if_neg h
theorem xs_A0 : (fun _ => 0 : Nat → Int32) = xs_A (fun _ => 0) := rfl
theorem xs_at {f : xs_f} {i : Nat} (h : i < 2 ^ 31) : xs_A f (nI i).toNatClampNeg = nI (f i) := by rw [nI_clamp h]; rfl
theorem xs_upd (f : xs_f) (k x : Nat) : upd (xs_A f) k (nI x) = xs_A (xs_u f k x) := by
  funext j; unfold upd xs_A xs_u; split <;> rfl
theorem xs_sh {x : Nat} (h : x < 32768) : (nI x).toInt16.toInt32 = nI x := by
  have e := nI_toInt (n := x) (by omega)
  exact lg_i2s_small (by omega) (by omega)
theorem xs_by {x : Nat} (h : x < 128) : (nI x).toInt8.toInt32 = nI x := by
  have e := nI_toInt (n := x) (by omega)
  exact lg_i2b_small (by omega) (by omega)
theorem xs_bo {x : Nat} (h : x < 2) : vp_nar .boolean (nI x) = nI x := by
  match x, h with
  | 0, _ => rfl
  | 1, _ => rfl
/-- a short is stored, a byte, a boolean -/
theorem xs_ps {f : xs_f} {k x : Nat} {i y : Int32} (hi : i = nI k) (hk : k < 2 ^ 31) (hy : y = nI x) (h : x < 32768) : upd (xs_A f) i.toNatClampNeg (vp_nar .short y.toInt16.toInt32) = xs_A (xs_u f k x) := by
  rw [hi, hy, nI_clamp hk, vp_nar_short, xs_sh h, xs_sh h, xs_upd]
theorem xs_ps' {f : xs_f} {k x : Nat} {i y : Int32} (hi : i = nI k) (hk : k < 2 ^ 31) (hy : y = nI x) (h : x < 32768) : upd (xs_A f) i.toNatClampNeg (vp_nar .short y) = xs_A (xs_u f k x) := by
  rw [hi, hy, nI_clamp hk, vp_nar_short, xs_sh h, xs_upd]
theorem xs_pb {f : xs_f} {k x : Nat} {i y : Int32} (hi : i = nI k) (hk : k < 2 ^ 31) (hy : y = nI x) (h : x < 128) : upd (xs_A f) i.toNatClampNeg (vp_nar .byte y.toInt8.toInt32) = xs_A (xs_u f k x) := by
  rw [hi, hy, nI_clamp hk, vp_nar_byte, xs_by h, xs_by h, xs_upd]
theorem xs_pb' {f : xs_f} {k x : Nat} {i y : Int32} (hi : i = nI k) (hk : k < 2 ^ 31) (hy : y = nI x) (h : x < 128) : upd (xs_A f) i.toNatClampNeg (vp_nar .byte y) = xs_A (xs_u f k x) := by
  rw [hi, hy, nI_clamp hk, vp_nar_byte, xs_by h, xs_upd]
theorem xs_pz {f : xs_f} {k x : Nat} {i y : Int32} (hi : i = nI k) (hk : k < 2 ^ 31) (hy : y = nI x) (h : x < 2) : upd (xs_A f) i.toNatClampNeg (vp_nar .boolean y) = xs_A (xs_u f k x) := by
  rw [hi, hy, nI_clamp hk, xs_bo h, xs_upd]
/-- program: size, kind, number, partP, partQ -/
abbrev xs_P : Type := Nat × xs_f × xs_f × xs_f × xs_f
/-- made, height, begun, over, ticked, count, stack, traps, value, on, status -/
abbrev xs_O : Type := Nat × Nat × Nat × Nat × Nat × Nat × xs_f × xs_f × xs_f × xs_f × xs_f
/-- selected, register -/
abbrev xs_L : Type := xs_f × xs_f
/-- gates, gate, inA, inB, fixed -/
abbrev xs_G : Type := Nat × xs_f × xs_f × xs_f × xs_f
/-- start, resume, hold, kill, code, becomes -/
abbrev xs_W : Type := xs_f × xs_f × xs_f × xs_f × xs_f × xs_f
/-- works, work, workOn -/
abbrev xs_K : Type := Nat × xs_f × xs_f
def xs (o : xs_O) (p : xs_P) (l : xs_L) (g : xs_G) (w : xs_W) (k : xs_K) : SX := ((nI p.1), (nI o.1), (nI o.2.1), (nI g.1), (nI k.1), (nI o.2.2.1), (nI o.2.2.2.1), (nI o.2.2.2.2.1), (nI o.2.2.2.2.2.1), (xs_A p.2.1), (xs_A p.2.2.1), (xs_A p.2.2.2.1), (xs_A p.2.2.2.2), (xs_A o.2.2.2.2.2.2.1), (xs_A o.2.2.2.2.2.2.2.1), (xs_A g.2.1), (xs_A g.2.2.1), (xs_A g.2.2.2.1), (xs_A g.2.2.2.2), (xs_A o.2.2.2.2.2.2.2.2.1), (xs_A w.1), (xs_A w.2.1), (xs_A w.2.2.1), (xs_A w.2.2.2.1), (xs_A w.2.2.2.2.1), (xs_A l.1), (xs_A l.2), (xs_A w.2.2.2.2.2), (xs_A o.2.2.2.2.2.2.2.2.2.1), (xs_A k.2.1), (xs_A k.2.2), (xs_A o.2.2.2.2.2.2.2.2.2.2))
/-! ===== gates ===== -/
def gq_fn (c : Nat) (x y : rv_V) : rv_V := if c = 1 then rv_and x y else if c = 2 then rv_or x y else rv_not x
/-- the gates are in order -/
def gq_ok (g : xs_G) : Prop := 10 ≤ g.1 ∧ g.1 ≤ 800 ∧ ∀ j, j < g.1 →
  g.2.1 j ≤ 3 ∧ g.2.2.2.2 j ≤ 1 ∧ (g.2.1 j = 3 → g.2.2.2.2 j = 1) ∧ (g.2.1 j ≠ 0 → 10 ≤ j ∧ g.2.2.1 j < g.1 ∧ g.2.2.2.1 j < g.1) ∧ (g.2.2.2.2 j = 1 → g.2.1 j ≠ 0) ∧ (4 ≤ j → g.2.2.2.1 j < g.1)
/-- R is a model of the fixed gates -/
def gq_md (g : xs_G) (R : Nat → rv_V) : Prop := R 0 = rv_F ∧ R 1 = rv_T ∧
  ∀ j, j < g.1 → g.2.2.2.2 j = 1 → R j = gq_fn (g.2.1 j) (R (g.2.2.1 j)) (R (g.2.2.2.1 j))
/-- more gates; those before are as they were (signals: but for what they are) -/
def gq_exw (g g' : xs_G) : Prop := g.1 ≤ g'.1 ∧
  (∀ j, j < g.1 → g'.2.1 j = g.2.1 j ∧ g'.2.2.1 j = g.2.2.1 j ∧ g'.2.2.2.2 j = g.2.2.2.2 j ∧ (10 ≤ j → g'.2.2.2.1 j = g.2.2.2.1 j)) ∧
  (∀ j, g.1 ≤ j → j < g'.1 → g'.2.1 j ≠ 0)
def gq_ext (g g' : xs_G) : Prop := gq_exw g g' ∧ ∀ j, j < g.1 → g'.2.2.2.1 j = g.2.2.2.1 j
theorem gq_exw_rf (g : xs_G) : gq_exw g g := ⟨Nat.le_refl _, fun _ _ => ⟨rfl, rfl, rfl, fun _ => rfl⟩, fun j h1 h2 => absurd h2 (by omega)⟩
theorem gq_ext_rf (g : xs_G) : gq_ext g g := ⟨gq_exw_rf g, fun _ _ => rfl⟩
theorem gq_exw_tr {g g' g'' : xs_G} (h : gq_exw g g') (k : gq_exw g' g'') : gq_exw g g'' := by
  refine ⟨Nat.le_trans h.1 k.1, fun j hj => ?_, fun j h1 h2 => ?_⟩
  · have a := h.2.1 j hj
    have b := k.2.1 j (Nat.lt_of_lt_of_le hj h.1)
    exact ⟨b.1.trans a.1, b.2.1.trans a.2.1, b.2.2.1.trans a.2.2.1, fun h10 => (b.2.2.2 h10).trans (a.2.2.2 h10)⟩
  · rcases Nat.lt_or_ge j g'.1 with h3 | h3
    · rw [(k.2.1 j h3).1]; exact h.2.2 j h1 h3
    · exact k.2.2 j h3 h2
theorem gq_ext_tr {g g' g'' : xs_G} (h : gq_ext g g') (k : gq_ext g' g'') : gq_ext g g'' :=
  ⟨gq_exw_tr h.1 k.1, fun j hj => (k.2 j (Nat.lt_of_lt_of_le hj h.1.1)).trans (h.2 j hj)⟩
theorem gq_md_of {g g' : xs_G} {R : Nat → rv_V} (hg : gq_ok g) (h : gq_exw g g') (m : gq_md g' R) : gq_md g R := by
  refine ⟨m.1, m.2.1, fun j hj hf => ?_⟩
  have a := h.2.1 j hj
  have b := hg.2.2 j hj
  have h10 := (b.2.2.2.1 (b.2.2.2.2.1 hf)).1
  have e := m.2.2 j (Nat.lt_of_lt_of_le hj h.1) (a.2.2.1.trans hf)
  rw [a.1, a.2.1, a.2.2.2 h10] at e
  exact e
/-- what an operation on the gates has done: r stands for f -/
def gq_op (g g' : xs_G) (r : Nat) (f : (Nat → rv_V) → rv_V) : Prop :=
  gq_ok g' ∧ gq_ext g g' ∧ g'.1 ≤ g.1 + 1 ∧ r < g'.1 ∧ ∀ R, gq_md g' R → R r = f R
theorem gq_op_same {g : xs_G} {r : Nat} {f : (Nat → rv_V) → rv_V} (hg : gq_ok g) (hr : r < g.1) (h : ∀ R, gq_md g R → R r = f R) : gq_op g g r f :=
  ⟨hg, gq_ext_rf g, by omega, hr, h⟩
/-- one gate more -/
def gq_put (g : xs_G) (c a b f : Nat) : xs_G := (g.1 + 1, xs_u g.2.1 g.1 c, xs_u g.2.2.1 g.1 a, xs_u g.2.2.2.1 g.1 b, xs_u g.2.2.2.2 g.1 f)
theorem gq_put_ext {g : xs_G} {c a b f : Nat} (hc : c ≠ 0) : gq_ext g (gq_put g c a b f) := by
  refine ⟨⟨Nat.le_succ _, fun j hj => ⟨xs_un (by omega), xs_un (by omega), xs_un (by omega), fun _ => xs_un (by omega)⟩, fun j h1 h2 => ?_⟩, fun j hj => xs_un (by omega)⟩
  have h2 : j < g.1 + 1 := h2
  have e : j = g.1 := by omega
  rw [e]
  show xs_u g.2.1 g.1 c g.1 ≠ 0
  rw [xs_us]; exact hc
theorem gq_put_ok {g : xs_G} {c a b f : Nat} (hg : gq_ok g) (hn : g.1 < 800) (hc : c ≤ 3) (hf : f ≤ 1) (h3 : c = 3 → f = 1) (hab : c ≠ 0 → a < g.1) (hb : b < g.1) (h1 : f = 1 → c ≠ 0) : gq_ok (gq_put g c a b f) := by
  have g10 := hg.1
  refine ⟨show 10 ≤ g.1 + 1 by omega, show g.1 + 1 ≤ 800 by omega, fun j hj => ?_⟩
  have hj : j < g.1 + 1 := hj
  show xs_u g.2.1 g.1 c j ≤ 3 ∧ xs_u g.2.2.2.2 g.1 f j ≤ 1 ∧ (xs_u g.2.1 g.1 c j = 3 → xs_u g.2.2.2.2 g.1 f j = 1) ∧ (xs_u g.2.1 g.1 c j ≠ 0 → 10 ≤ j ∧ xs_u g.2.2.1 g.1 a j < g.1 + 1 ∧ xs_u g.2.2.2.1 g.1 b j < g.1 + 1) ∧ (xs_u g.2.2.2.2 g.1 f j = 1 → xs_u g.2.1 g.1 c j ≠ 0) ∧ (4 ≤ j → xs_u g.2.2.2.1 g.1 b j < g.1 + 1)
  by_cases e : j = g.1
  · rw [e, xs_us, xs_us, xs_us, xs_us]
    exact ⟨hc, hf, h3, fun h => ⟨by omega, by have := hab h; omega, by omega⟩, h1, fun _ => by omega⟩
  · rw [xs_un e, xs_un e, xs_un e, xs_un e]
    obtain ⟨t1, t2, t3, t4, t5, t6⟩ := hg.2.2 j (by omega)
    exact ⟨t1, t2, t3, fun h => ⟨(t4 h).1, by have := (t4 h).2.1; omega, by have := (t4 h).2.2; omega⟩, t5, fun h => by have := t6 h; omega⟩
section
variable {o : xs_O} {p : xs_P} {l : xs_L} {g : xs_G} {w : xs_W} {k : xs_K}
theorem xs_newGate {post : Int32 → SX → Prop} {c a b f : Nat} {x y t v : Int32} (hn : g.1 < 800) (hx : x = nI c) (hc : c < 128) (hy : y = nI a) (ha : a < 32768) (ht : t = nI b) (hb : b < 32768) (hv : v = nI f) (hf : f < 2)
    (h : post (nI g.1) (xs o p l (gq_put g c a b f) w k)) : wpX_newGate post (xs o p l g w k) x y t v := by
  have hi : vp_in (nI g.1) 800 := vp_in_nI hn (by omega)
  have h31 : g.1 < 2 ^ 31 := by omega
  refine And.intro hi (nm_r (xs_pb rfl h31 hx hc) (And.intro hi (nm_r (xs_ps rfl h31 hy ha) (And.intro hi (nm_r (xs_ps rfl h31 ht hb) (And.intro hi (nm_r (xs_pz rfl h31 hv hf) (nm_r (nI_1 _) ?_))))))))
  rw [nI_pred]
  exact h
theorem xs_gateFor_l (hG : gq_ok g) (hn : g.1 < 800) {c a b : Nat} (hc0 : c ≠ 0) (hc : c ≤ 3) (ha : a < g.1) (hb : b < g.1) : ∀ d j, j + d = g.1 → ∃ r g', gq_op g g' r (fun R => gq_fn c (R a) (R b)) ∧
    ∀ post : Int32 → SX → Prop, post (nI r) (xs o p l g' w k) → wX_gateFor_3 post (nI c) (nI a) (nI b) (nI p.1) (nI o.1) (nI o.2.1) (nI g.1) (nI k.1) (nI o.2.2.1) (nI o.2.2.2.1) (nI o.2.2.2.2.1) (nI o.2.2.2.2.2.1) (xs_A p.2.1) (xs_A p.2.2.1) (xs_A p.2.2.2.1) (xs_A p.2.2.2.2) (xs_A o.2.2.2.2.2.2.1) (xs_A o.2.2.2.2.2.2.2.1) (xs_A g.2.1) (xs_A g.2.2.1) (xs_A g.2.2.2.1) (xs_A g.2.2.2.2) (xs_A o.2.2.2.2.2.2.2.2.1) (xs_A w.1) (xs_A w.2.1) (xs_A w.2.2.1) (xs_A w.2.2.2.1) (xs_A w.2.2.2.2.1) (xs_A l.1) (xs_A l.2) (xs_A w.2.2.2.2.2) (xs_A o.2.2.2.2.2.2.2.2.2.1) (xs_A k.2.1) (xs_A k.2.2) (xs_A o.2.2.2.2.2.2.2.2.2.2) (d + 1) (nI j) := by
  intro d
  induction d with
  | zero =>
    intro j hj
    refine ⟨g.1, gq_put g c a b 1, ⟨gq_put_ok hG hn hc (by omega) (fun _ => rfl) (fun _ => ha) hb (fun _ => hc0), gq_put_ext hc0, Nat.le_refl _, Nat.lt_succ_self _, fun R m => ?_⟩, fun post hp => ?_⟩
    · have e := m.2.2 g.1 (Nat.lt_succ_self _) (xs_us _ _ _)
      have e1 : (gq_put g c a b 1).2.1 g.1 = c := xs_us _ _ _
      have e2 : (gq_put g c a b 1).2.2.1 g.1 = a := xs_us _ _ _
      have e3 : (gq_put g c a b 1).2.2.2.1 g.1 = b := xs_us _ _ _
      rw [e1, e2, e3] at e
      exact e
    · exact br_t (nI_le (by omega) (by omega)) (xs_newGate (c := c) (a := a) (b := b) (f := 1) hn rfl (by omega) rfl (by omega) rfl (by omega) rfl (by omega) hp)
  | succ d ih =>
    intro j hj
    have hjn : j < g.1 := by omega
    have g800 := hG.2.1
    have J := hG.2.2 j hjn
    have hin : vp_in (nI j) 800 := vp_in_nI (by omega) (by omega)
    have n31 : j < 2 ^ 31 := by omega
    have le : ¬ nI g.1 ≤ nI j := nI_ge (by omega) (by omega)
    obtain ⟨r, g', H, K⟩ := ih (j + 1) (by omega)
    by_cases hf : g.2.2.2.2 j = 0
    · refine ⟨r, g', H, fun post hp => br_f le (And.intro hin (br_t ?_ (nm_r (nI_1 j) (K post hp))))⟩
      rw [xs_at n31, hf]; rfl
    have hf' : ¬ (xs_A g.2.2.2.2 (nI j).toNatClampNeg) = 0 := by rw [xs_at n31]; exact nI_ne0 (by omega) (by omega)
    by_cases h1 : g.2.1 j = c
    · have h1' : xs_A g.2.1 (nI j).toNatClampNeg = nI c := by rw [xs_at n31, h1]
      have J4 := J.2.2.2.1 (by omega)
      by_cases h2 : g.2.2.1 j = a
      · have h2' : xs_A g.2.2.1 (nI j).toNatClampNeg = nI a := by rw [xs_at n31, h2]
        by_cases h3 : g.2.2.2.1 j = b
        · have h3' : xs_A g.2.2.2.1 (nI j).toNatClampNeg = nI b := by rw [xs_at n31, h3]
          refine ⟨j, g, gq_op_same hG hjn (fun R m => ?_), fun post hp => br_f le (And.intro hin (br_f hf' (And.intro hin (br_t h1' (And.intro hin (br_t h2' (And.intro hin (br_t h3' hp))))))))⟩
          have e := m.2.2 j hjn (by omega)
          rw [h1, h2, h3] at e
          exact e
        · have h3' : ¬ xs_A g.2.2.2.1 (nI j).toNatClampNeg = nI b := by rw [xs_at n31, nI_eq (by omega) (by omega)]; exact h3
          exact ⟨r, g', H, fun post hp => br_f le (And.intro hin (br_f hf' (And.intro hin (br_t h1' (And.intro hin (br_t h2' (And.intro hin (br_f h3' (nm_r (nI_1 j) (K post hp))))))))))⟩
      · have h2' : ¬ xs_A g.2.2.1 (nI j).toNatClampNeg = nI a := by rw [xs_at n31, nI_eq (by omega) (by omega)]; exact h2
        exact ⟨r, g', H, fun post hp => br_f le (And.intro hin (br_f hf' (And.intro hin (br_t h1' (And.intro hin (br_f h2' (nm_r (nI_1 j) (K post hp))))))))⟩
    · have h1' : ¬ xs_A g.2.1 (nI j).toNatClampNeg = nI c := by rw [xs_at n31, nI_eq (by omega) (by omega)]; exact h1
      exact ⟨r, g', H, fun post hp => br_f le (And.intro hin (br_f hf' (And.intro hin (br_f h1' (nm_r (nI_1 j) (K post hp))))))⟩
theorem xs_gateFor (hG : gq_ok g) (hn : g.1 < 800) {c a b : Nat} (hc0 : c ≠ 0) (hc : c ≤ 3) (ha : a < g.1) (hb : b < g.1) : ∃ r g', gq_op g g' r (fun R => gq_fn c (R a) (R b)) ∧
    ∀ (post : Int32 → SX → Prop) (x y t : Int32), x = nI c → y = nI a → t = nI b → post (nI r) (xs o p l g' w k) → wpX_gateFor post (xs o p l g w k) x y t := by
  obtain ⟨r, g', H, K⟩ := xs_gateFor_l (o := o) (p := p) (l := l) (w := w) (k := k) hG hn hc0 hc ha hb g.1 0 (Nat.zero_add _)
  refine ⟨r, g', H, fun post x y t hx hy ht hp => ?_⟩
  subst hx hy ht
  exact ⟨g.1 + 1, K post hp⟩
end
end
section
/-! ===== and, or, not, setCode, setNext, emitOn, passIn, ask ===== -/
theorem xs_ne {x : Int32} {a : Nat} (b : Nat) (hx : x = nI a) (ha : a < 2 ^ 31) (hb : b < 2 ^ 31) (h : a ≠ b) : ¬ x = nI b := by
  rw [hx, nI_eq ha hb]; exact h
theorem xs_v {P : Int32 → Prop} {x y : Int32} (e : x = y) (h : P y) : P x := e ▸ h
section
variable {o : xs_O} {p : xs_P} {l : xs_L} {g : xs_G} {w : xs_W} {k : xs_K}
theorem xs_or (hG : gq_ok g) (hn : g.1 < 800) {a b : Nat} (ha : a < g.1) (hb : b < g.1) : ∃ r g', gq_op g g' r (fun R => rv_or (R a) (R b)) ∧
    ∀ (post : Int32 → SX → Prop) (x y : Int32), x = nI a → y = nI b → post (nI r) (xs o p l g' w k) → wpX_or post (xs o p l g w k) x y := by
  have a31 : a < 2 ^ 31 := by omega
  have b31 : b < 2 ^ 31 := by omega
  by_cases a1 : a = 1
  · refine ⟨1, g, gq_op_same hG (by omega) (fun R m => by rw [a1, m.2.1, rv_T_or]), fun post x y hx hy hp => ?_⟩
    subst a1; exact br_t hx hp
  by_cases b1 : b = 1
  · refine ⟨1, g, gq_op_same hG (by omega) (fun R m => by rw [b1, m.2.1, rv_or_T]), fun post x y hx hy hp => ?_⟩
    subst b1; exact br_f (xs_ne 1 hx a31 (by omega) a1) (br_t hy hp)
  by_cases a0 : a = 0
  · refine ⟨b, g, gq_op_same hG hb (fun R m => by rw [a0, m.1, rv_F_or]), fun post x y hx hy hp => ?_⟩
    subst a0 hy; exact br_f (xs_ne 1 hx a31 (by omega) a1) (br_f (xs_ne 1 rfl b31 (by omega) b1) (br_t hx hp))
  by_cases ab : a = b
  · refine ⟨b, g, gq_op_same hG hb (fun R m => by rw [ab, rv_or_self]), fun post x y hx hy hp => ?_⟩
    subst ab hy; exact br_f (xs_ne 1 hx a31 (by omega) a1) (br_f (xs_ne 1 rfl b31 (by omega) b1) (br_f (xs_ne 0 hx a31 (by omega) a0) (br_t hx hp)))
  by_cases b0 : b = 0
  · refine ⟨a, g, gq_op_same hG ha (fun R m => by rw [b0, m.1, rv_or_F]), fun post x y hx hy hp => ?_⟩
    subst hx
    exact br_f (xs_ne 1 rfl a31 (by omega) a1) (br_f (xs_ne 1 hy b31 (by omega) b1) (br_f (xs_ne 0 rfl a31 (by omega) a0) (br_f (fun h => ab ((nI_eq a31 b31).mp (h.trans hy))) (br_t (by rw [hy, b0]; rfl) hp))))
  by_cases le : b ≤ a
  · obtain ⟨r, g', H, K⟩ := xs_gateFor (o := o) (p := p) (l := l) (w := w) (k := k) hG hn (c := 2) (a := b) (b := a) (by omega) (by omega) hb ha
    refine ⟨r, g', ⟨H.1, H.2.1, H.2.2.1, H.2.2.2.1, fun R m => (H.2.2.2.2 R m).trans (rv_or_comm _ _)⟩, fun post x y hx hy hp => ?_⟩
    subst hx hy
    exact br_f (xs_ne 1 rfl a31 (by omega) a1) (br_f (xs_ne 1 rfl b31 (by omega) b1) (br_f (xs_ne 0 rfl a31 (by omega) a0) (br_f (xs_ne b rfl a31 b31 ab) (br_f (xs_ne 0 rfl b31 (by omega) b0) (br_t (nI_le le a31) (br_t (nI_le le a31) (K _ 2 (nI b) (nI a) rfl rfl rfl hp)))))))
  · obtain ⟨r, g', H, K⟩ := xs_gateFor (o := o) (p := p) (l := l) (w := w) (k := k) hG hn (c := 2) (a := a) (b := b) (by omega) (by omega) ha hb
    refine ⟨r, g', H, fun post x y hx hy hp => ?_⟩
    subst hx hy
    have le' : ¬ nI b ≤ nI a := nI_ge (by omega) b31
    exact br_f (xs_ne 1 rfl a31 (by omega) a1) (br_f (xs_ne 1 rfl b31 (by omega) b1) (br_f (xs_ne 0 rfl a31 (by omega) a0) (br_f (xs_ne b rfl a31 b31 ab) (br_f (xs_ne 0 rfl b31 (by omega) b0) (br_f le' (br_f le' (K _ 2 (nI a) (nI b) rfl rfl rfl hp)))))))
theorem xs_and (hG : gq_ok g) (hn : g.1 < 800) {a b : Nat} (ha : a < g.1) (hb : b < g.1) : ∃ r g', gq_op g g' r (fun R => rv_and (R a) (R b)) ∧
    ∀ (post : Int32 → SX → Prop) (x y : Int32), x = nI a → y = nI b → post (nI r) (xs o p l g' w k) → wpX_and post (xs o p l g w k) x y := by
  have a31 : a < 2 ^ 31 := by omega
  have b31 : b < 2 ^ 31 := by omega
  by_cases a0 : a = 0
  · refine ⟨0, g, gq_op_same hG (by omega) (fun R m => by rw [a0, m.1, rv_F_and]), fun post x y hx hy hp => ?_⟩
    subst a0; exact br_t hx hp
  by_cases b0 : b = 0
  · refine ⟨0, g, gq_op_same hG (by omega) (fun R m => by rw [b0, m.1, rv_and_F]), fun post x y hx hy hp => ?_⟩
    subst b0; exact br_f (xs_ne 0 hx a31 (by omega) a0) (br_t hy hp)
  by_cases a1 : a = 1
  · refine ⟨b, g, gq_op_same hG hb (fun R m => by rw [a1, m.2.1, rv_T_and]), fun post x y hx hy hp => ?_⟩
    subst a1 hy; exact br_f (xs_ne 0 hx a31 (by omega) a0) (br_f (xs_ne 0 rfl b31 (by omega) b0) (br_t hx hp))
  by_cases ab : a = b
  · refine ⟨b, g, gq_op_same hG hb (fun R m => by rw [ab, rv_and_self]), fun post x y hx hy hp => ?_⟩
    subst ab hy; exact br_f (xs_ne 0 hx a31 (by omega) a0) (br_f (xs_ne 0 rfl b31 (by omega) b0) (br_f (xs_ne 1 hx a31 (by omega) a1) (br_t hx hp)))
  by_cases b1 : b = 1
  · refine ⟨a, g, gq_op_same hG ha (fun R m => by rw [b1, m.2.1, rv_and_T]), fun post x y hx hy hp => ?_⟩
    subst hx
    exact br_f (xs_ne 0 rfl a31 (by omega) a0) (br_f (xs_ne 0 hy b31 (by omega) b0) (br_f (xs_ne 1 rfl a31 (by omega) a1) (br_f (fun h => ab ((nI_eq a31 b31).mp (h.trans hy))) (br_t (by rw [hy, b1]; rfl) hp))))
  by_cases le : b ≤ a
  · obtain ⟨r, g', H, K⟩ := xs_gateFor (o := o) (p := p) (l := l) (w := w) (k := k) hG hn (c := 1) (a := b) (b := a) (by omega) (by omega) hb ha
    refine ⟨r, g', ⟨H.1, H.2.1, H.2.2.1, H.2.2.2.1, fun R m => (H.2.2.2.2 R m).trans (rv_and_comm _ _)⟩, fun post x y hx hy hp => ?_⟩
    subst hx hy
    exact br_f (xs_ne 0 rfl a31 (by omega) a0) (br_f (xs_ne 0 rfl b31 (by omega) b0) (br_f (xs_ne 1 rfl a31 (by omega) a1) (br_f (xs_ne b rfl a31 b31 ab) (br_f (xs_ne 1 rfl b31 (by omega) b1) (br_t (nI_le le a31) (br_t (nI_le le a31) (K _ 1 (nI b) (nI a) rfl rfl rfl hp)))))))
  · obtain ⟨r, g', H, K⟩ := xs_gateFor (o := o) (p := p) (l := l) (w := w) (k := k) hG hn (c := 1) (a := a) (b := b) (by omega) (by omega) ha hb
    refine ⟨r, g', H, fun post x y hx hy hp => ?_⟩
    subst hx hy
    have le' : ¬ nI b ≤ nI a := nI_ge (by omega) b31
    exact br_f (xs_ne 0 rfl a31 (by omega) a0) (br_f (xs_ne 0 rfl b31 (by omega) b0) (br_f (xs_ne 1 rfl a31 (by omega) a1) (br_f (xs_ne b rfl a31 b31 ab) (br_f (xs_ne 1 rfl b31 (by omega) b1) (br_f le' (br_f le' (K _ 1 (nI a) (nI b) rfl rfl rfl hp)))))))
theorem xs_not (hG : gq_ok g) (hn : g.1 < 800) {a : Nat} (ha : a < g.1) : ∃ r g', gq_op g g' r (fun R => rv_not (R a)) ∧
    ∀ (post : Int32 → SX → Prop) (x : Int32), x = nI a → post (nI r) (xs o p l g' w k) → wpX_not post (xs o p l g w k) x := by
  have a31 : a < 2 ^ 31 := by omega
  by_cases a0 : a = 0
  · refine ⟨1, g, gq_op_same hG (by have := hG.1; omega) (fun R m => by rw [a0, m.1, m.2.1]; rfl), fun post x hx hp => ?_⟩
    subst a0; exact br_t hx hp
  by_cases a1 : a = 1
  · refine ⟨0, g, gq_op_same hG (by omega) (fun R m => by rw [a1, m.1, m.2.1]; rfl), fun post x hx hp => ?_⟩
    subst a1; exact br_f (xs_ne 0 hx a31 (by omega) a0) (br_t hx hp)
  have hin : vp_in (nI a) 800 := vp_in_nI (by omega) (by omega)
  have J := hG.2.2 a ha
  by_cases h3 : g.2.1 a = 3
  · have J4 := J.2.2.2.1 (by omega)
    refine ⟨g.2.2.1 a, g, gq_op_same hG J4.2.1 (fun R m => ?_), fun post x hx hp => ?_⟩
    · have e := m.2.2 a ha (J.2.2.1 h3)
      rw [h3] at e
      have e : R a = rv_not (R (g.2.2.1 a)) := e
      rw [e, rv_not_not]
    · subst hx
      exact br_f (xs_ne 0 rfl a31 (by omega) a0) (br_f (xs_ne 1 rfl a31 (by omega) a1) (And.intro hin (br_t (by rw [xs_at a31, h3]; rfl) (And.intro hin (xs_v (P := fun v => post v (xs o p l g w k)) (xs_at a31) hp)))))
  · obtain ⟨r, g', H, K⟩ := xs_gateFor (o := o) (p := p) (l := l) (w := w) (k := k) hG hn (c := 3) (a := a) (b := 0) (by omega) (by omega) ha (by omega)
    refine ⟨r, g', H, fun post x hx hp => ?_⟩
    subst hx
    exact br_f (xs_ne 0 rfl a31 (by omega) a0) (br_f (xs_ne 1 rfl a31 (by omega) a1) (And.intro hin (br_f (by rw [xs_at a31]; exact xs_ne 3 rfl (by omega) (by omega) h3) (K _ 3 (nI a) 0 rfl rfl rfl hp))))
theorem xs_setCode {post : SX → Prop} {i c r : Nat} {x y t : Int32} (hx : x = nI i) (hy : y = nI c) (ht : t = nI r) (hi : 5 * i + c < 80) (hr : r < 32768)
    (h : post (xs o p l g (w.1, w.2.1, w.2.2.1, w.2.2.2.1, xs_u w.2.2.2.2.1 (5 * i + c) r, w.2.2.2.2.2) k)) : wpX_setCode post (xs o p l g w k) x y t := by
  have e : (5 : Int32) * x + y = nI (5 * i + c) := by rw [hx, hy]; exact (congrArg (· + nI c) (pk_mul 5 i)).trans (nI_add _ _)
  exact And.intro (by rw [e]; exact vp_in_nI hi (by omega)) (nm_r (xs_ps e (by omega) ht hr) h)
theorem xs_codeOf {post : Int32 → Prop} {i c : Nat} {x y : Int32} (hx : x = nI i) (hy : y = nI c) (hi : 5 * i + c < 80)
    (h : post (nI (w.2.2.2.2.1 (5 * i + c)))) : wpX_codeOf post (xs o p l g w k) x y := by
  have e : (5 : Int32) * x + y = nI (5 * i + c) := by rw [hx, hy]; exact (congrArg (· + nI c) (pk_mul 5 i)).trans (nI_add _ _)
  exact And.intro (by rw [e]; exact vp_in_nI hi (by omega)) (xs_v (P := post) (by rw [e, xs_at (by omega)]) h)
theorem xs_ask {post : SX → Prop} {c i : Nat} {x y : Int32} (hx : x = nI c) (hy : y = nI i) (hk : k.1 < 64) (hc : c < 128) (hi : i < 128)
    (h : post (xs o p l g w (k.1 + 1, xs_u k.2.1 k.1 c, xs_u k.2.2 k.1 i))) : wpX_ask post (xs o p l g w k) x y := by
  have hin : vp_in (nI k.1) 64 := vp_in_nI hk (by omega)
  exact And.intro hin (nm_r (xs_pb rfl (by omega) hx hc) (And.intro hin (nm_r (xs_pb rfl (by omega) hy hi) (nm_r (nI_1 _) h))))
theorem xs_passIn {post : SX → Prop} {f t r : Nat} {x y v : Int32} (hx : x = nI f) (hy : y = nI t) (hv : v = nI r) (hf : f < 16) (ht : t < 16) (hr : r < 32768)
    (h1 : w.2.1 f < 32768) (h2 : w.2.2.1 f < 32768) (h3 : w.2.2.2.1 f < 32768)
    (h : post (xs o p l g (xs_u w.1 t r, xs_u w.2.1 t (w.2.1 f), xs_u w.2.2.1 t (w.2.2.1 f), xs_u w.2.2.2.1 t (w.2.2.2.1 f), w.2.2.2.2.1, w.2.2.2.2.2) k)) : wpX_passIn post (xs o p l g w k) x y v := by
  have ix : vp_in x 16 := by rw [hx]; exact vp_in_nI hf (by omega)
  have iy : vp_in y 16 := by rw [hy]; exact vp_in_nI ht (by omega)
  have f31 : f < 2 ^ 31 := by omega
  have t31 : t < 2 ^ 31 := by omega
  exact And.intro iy (nm_r (xs_ps hy t31 hv hr) (And.intro ix (And.intro iy (nm_r (xs_ps' hy t31 (by rw [hx, xs_at f31]) h1) (And.intro ix (And.intro iy (nm_r (xs_ps' hy t31 (by rw [hx, xs_at f31]) h2)
    (And.intro ix (And.intro iy (nm_r (xs_ps' hy t31 (by rw [hx, xs_at f31]) h3) h))))))))))
end
end
section
/-! ===== the least model ===== -/
noncomputable def gq_lf (Φ : (Nat → rv_V) → Nat → rv_V) (j : Nat) : rv_V :=
  (@decide (∀ Q : Nat → rv_V, (∀ i, rv_le (Φ Q i) (Q i)) → (Q j).1 = true) (Classical.propDecidable _),
   @decide (∀ Q : Nat → rv_V, (∀ i, rv_le (Φ Q i) (Q i)) → (Q j).2 = true) (Classical.propDecidable _))
theorem gq_lf_1 {Φ : (Nat → rv_V) → Nat → rv_V} {j : Nat} : (gq_lf Φ j).1 = true ↔ ∀ Q : Nat → rv_V, (∀ i, rv_le (Φ Q i) (Q i)) → (Q j).1 = true :=
  @decide_eq_true_iff _ (Classical.propDecidable _)
theorem gq_lf_2 {Φ : (Nat → rv_V) → Nat → rv_V} {j : Nat} : (gq_lf Φ j).2 = true ↔ ∀ Q : Nat → rv_V, (∀ i, rv_le (Φ Q i) (Q i)) → (Q j).2 = true :=
  @decide_eq_true_iff _ (Classical.propDecidable _)
theorem gq_lf_le {Φ : (Nat → rv_V) → Nat → rv_V} {Q : Nat → rv_V} (h : ∀ i, rv_le (Φ Q i) (Q i)) (j : Nat) : rv_le (gq_lf Φ j) (Q j) :=
  ⟨fun e => gq_lf_1.mp e Q h, fun e => gq_lf_2.mp e Q h⟩
theorem gq_lf_pre {Φ : (Nat → rv_V) → Nat → rv_V} (hm : ∀ P Q : Nat → rv_V, (∀ i, rv_le (P i) (Q i)) → ∀ i, rv_le (Φ P i) (Φ Q i)) (j : Nat) : rv_le (Φ (gq_lf Φ) j) (gq_lf Φ j) := by
  have a : ∀ Q : Nat → rv_V, (∀ i, rv_le (Φ Q i) (Q i)) → rv_le (Φ (gq_lf Φ) j) (Q j) := fun Q h => rv_le_tr (hm _ Q (gq_lf_le h) j) (h j)
  exact ⟨fun e => gq_lf_1.mpr fun Q h => (a Q h).1 e, fun e => gq_lf_2.mpr fun Q h => (a Q h).2 e⟩
theorem gq_lf_fix {Φ : (Nat → rv_V) → Nat → rv_V} (hm : ∀ P Q : Nat → rv_V, (∀ i, rv_le (P i) (Q i)) → ∀ i, rv_le (Φ P i) (Φ Q i)) (j : Nat) : gq_lf Φ j = Φ (gq_lf Φ) j :=
  rv_le_as (gq_lf_le (hm _ _ (gq_lf_pre hm)) j) (gq_lf_pre hm j)
theorem gq_lf_mono {Φ Ψ : (Nat → rv_V) → Nat → rv_V} (hm : ∀ P Q : Nat → rv_V, (∀ i, rv_le (P i) (Q i)) → ∀ i, rv_le (Ψ P i) (Ψ Q i)) (h : ∀ Q i, rv_le (Φ Q i) (Ψ Q i)) (j : Nat) : rv_le (gq_lf Φ j) (gq_lf Ψ j) :=
  gq_lf_le (fun i => rv_le_tr (h _ i) (gq_lf_pre hm i)) j
theorem gq_fn_le {c : Nat} {x y a b : rv_V} (h : rv_le x a) (k : rv_le y b) : rv_le (gq_fn c x y) (gq_fn c a b) := by
  unfold gq_fn
  split
  · exact rv_le_and h k
  · split
    · exact rv_le_or h k
    · exact rv_le_not h
/-- one step of all the gates; what is no gate is as src says -/
def gq_phi (g : xs_G) (src Q : Nat → rv_V) (j : Nat) : rv_V :=
  if j < g.1 ∧ g.2.1 j ≠ 0 then gq_fn (g.2.1 j) (Q (g.2.2.1 j)) (Q (g.2.2.2.1 j)) else src j
theorem gq_phi_m (g : xs_G) (src : Nat → rv_V) : ∀ P Q : Nat → rv_V, (∀ i, rv_le (P i) (Q i)) → ∀ i, rv_le (gq_phi g src P i) (gq_phi g src Q i) := by
  intro P Q h i
  unfold gq_phi
  split
  · exact gq_fn_le (h _) (h _)
  · exact rv_le_rf _
/-- R is a model of all gates, over the sources -/
def gq_full (g : xs_G) (src R : Nat → rv_V) : Prop := ∀ j, j < g.1 → R j = gq_phi g src R j
theorem gq_full_lf (g : xs_G) (src : Nat → rv_V) : gq_full g src (gq_lf (gq_phi g src)) := fun j _ => gq_lf_fix (gq_phi_m g src) j
theorem gq_full_g {g : xs_G} {src R : Nat → rv_V} (h : gq_full g src R) {j : Nat} (hj : j < g.1) (hk : g.2.1 j ≠ 0) : R j = gq_fn (g.2.1 j) (R (g.2.2.1 j)) (R (g.2.2.2.1 j)) := by
  have e := h j hj
  unfold gq_phi at e
  rw [if_pos ⟨hj, hk⟩] at e
  exact e
theorem gq_full_s {g : xs_G} {src R : Nat → rv_V} (h : gq_full g src R) {j : Nat} (hj : j < g.1) (hk : g.2.1 j = 0) : R j = src j := by
  have e := h j hj
  unfold gq_phi at e
  rw [if_neg (fun a => a.2 hk)] at e
  exact e
theorem gq_full_md {g : xs_G} {src R : Nat → rv_V} (hg : gq_ok g) (h : gq_full g src R) (h0 : src 0 = rv_F) (h1 : src 1 = rv_T) : gq_md g R := by
  have g10 := hg.1
  have z : ∀ j, j < 10 → g.2.1 j = 0 := by
    intro j hj
    by_cases e : g.2.1 j = 0
    · exact e
    · have := ((hg.2.2 j (by omega)).2.2.2.1 e).1; omega
  refine ⟨?_, ?_, fun j hj hf => gq_full_g h hj ((hg.2.2 j hj).2.2.2.2.1 hf)⟩
  · rw [gq_full_s h (by omega) (z 0 (by omega)), h0]
  · rw [gq_full_s h (by omega) (z 1 (by omega)), h1]
end
section
/-! ===== setNext, emitOn, and a statement without parts ===== -/
/-- as gq_op, with m gates at most -/
def gq_om (m : Nat) (g g' : xs_G) (r : Nat) (f : (Nat → rv_V) → rv_V) : Prop :=
  gq_ok g' ∧ gq_ext g g' ∧ g'.1 ≤ g.1 + m ∧ r < g'.1 ∧ ∀ R, gq_md g' R → R r = f R
def xs_wc (w : xs_W) (c : xs_f) : xs_W := (w.1, w.2.1, w.2.2.1, w.2.2.2.1, c, w.2.2.2.2.2)
def xs_wb (w : xs_W) (b : xs_f) : xs_W := (w.1, w.2.1, w.2.2.1, w.2.2.2.1, w.2.2.2.2.1, b)
/-- the other input of gate j is b now -/
def gq_sb (g : xs_G) (j b : Nat) : xs_G := (g.1, g.2.1, g.2.2.1, xs_u g.2.2.2.1 j b, g.2.2.2.2)
theorem gq_sb_ok {g : xs_G} {j b : Nat} (h : gq_ok g) (hb : b < g.1) : gq_ok (gq_sb g j b) := by
  refine ⟨h.1, h.2.1, fun i hi => ?_⟩
  have hi : i < g.1 := hi
  obtain ⟨t1, t2, t3, t4, t5, t6⟩ := h.2.2 i hi
  have e : 4 ≤ i → xs_u g.2.2.2.1 j b i < g.1 := by
    intro h4
    by_cases e : i = j
    · rw [e, xs_us]; exact hb
    · rw [xs_un e]; exact t6 h4
  exact ⟨t1, t2, t3, fun h => ⟨(t4 h).1, (t4 h).2.1, e (by have := (t4 h).1; omega)⟩, t5, e⟩
theorem gq_sb_md {g : xs_G} {j b : Nat} {R : Nat → rv_V} (hf : g.2.2.2.2 j ≠ 1) (m : gq_md (gq_sb g j b) R) : gq_md g R := by
  refine ⟨m.1, m.2.1, fun i hi h1 => ?_⟩
  have e := m.2.2 i hi h1
  have ne : i ≠ j := fun e => hf (e ▸ h1)
  have e2 : (gq_sb g j b).2.2.2.1 i = g.2.2.2.1 i := xs_un ne
  rw [e2] at e
  exact e
theorem gq_sb_exw {g : xs_G} {j b : Nat} (hj : j < 10) : gq_exw g (gq_sb g j b) :=
  ⟨Nat.le_refl _, fun i _ => ⟨rfl, rfl, rfl, fun h => xs_un (by omega)⟩, fun i h1 h2 => absurd h2 (Nat.not_lt.mpr h1)⟩
theorem gq_nf {g : xs_G} {j : Nat} (h : gq_ok g) (hj : j < 10) : g.2.2.2.2 j ≠ 1 := by
  intro e
  have J := h.2.2 j (by have := h.1; omega)
  have := (J.2.2.2.1 (J.2.2.2.2.1 e)).1
  omega
section
variable {o : xs_O} {p : xs_P} {l : xs_L} {g : xs_G} {w : xs_W} {k : xs_K}
theorem xs_setNext (hG : gq_ok g) (hn : g.1 + 2 ≤ 800) {i a : Nat} (hi : i < 16) (ha : a < g.1) (hk : w.2.2.2.1 i < g.1) : ∃ r g', gq_om 2 g g' r (fun R => rv_and (R a) (rv_not (R (w.2.2.2.1 i)))) ∧
    ∀ (post : SX → Prop) (x y : Int32), x = nI i → y = nI a → post (xs o p l g' (xs_wb w (xs_u w.2.2.2.2.2 i r)) k) → wpX_setNext post (xs o p l g w k) x y := by
  obtain ⟨r1, g1, H1, K1⟩ := xs_not (o := o) (p := p) (l := l) (w := w) (k := k) hG (by omega) hk
  have n1 := H1.2.2.1
  have x1 := H1.2.1.1.1
  obtain ⟨r2, g2, H2, K2⟩ := xs_and (o := o) (p := p) (l := l) (w := w) (k := k) H1.1 (by omega) (a := a) (b := r1) (by omega) H1.2.2.2.1
  have n2 := H2.2.2.1
  have m2 := H2.1.2.1
  have q2 := H2.2.2.2.1
  refine ⟨r2, g2, ⟨H2.1, gq_ext_tr H1.2.1 H2.2.1, by omega, H2.2.2.2.1, fun R m => ?_⟩, fun post x y hx hy hp => ?_⟩
  · have e2 : R r2 = rv_and (R a) (R r1) := H2.2.2.2.2 R m
    have e1 : R r1 = rv_not (R (w.2.2.2.1 i)) := H1.2.2.2.2 R (gq_md_of H1.1 H2.2.1.1 m)
    rw [e2, e1]
  · have hin : vp_in x 16 := by rw [hx]; exact vp_in_nI hi (by omega)
    exact And.intro hin (K1 _ _ (by rw [hx]; exact xs_at (by omega)) (K2 _ _ _ hy rfl (And.intro hin (nm_r (xs_ps hx (by omega) rfl (by omega)) hp))))
theorem xs_emitOn (hG : gq_ok g) (hn : g.1 < 800) {s a : Nat} (hs : s < 6) (ha : a < g.1) : ∃ g', gq_ok g' ∧ gq_exw g g' ∧ g'.1 ≤ g.1 + 1 ∧ (∀ t, t < 6 → t ≠ s → g'.2.2.2.1 (4 + t) = g.2.2.2.1 (4 + t)) ∧
    (∀ R, gq_md g' R → R (g'.2.2.2.1 (4 + s)) = rv_or (R (g.2.2.2.1 (4 + s))) (R a)) ∧
    ∀ (post : SX → Prop) (x y : Int32), x = nI s → y = nI a → post (xs o p l g' w k) → wpX_emitOn post (xs o p l g w k) x y := by
  have g10 := hG.1
  have hb := (hG.2.2 (4 + s) (by omega)).2.2.2.2.2 (by omega)
  obtain ⟨r, g1, H, K⟩ := xs_or (o := o) (p := p) (l := l) (w := w) (k := k) hG hn (a := g.2.2.2.1 (4 + s)) (b := a) hb ha
  have n1 := H.2.2.1
  have m1 := H.1.2.1
  have q1 := H.2.2.2.1
  refine ⟨gq_sb g1 (4 + s) r, gq_sb_ok H.1 q1, gq_exw_tr H.2.1.1 (gq_sb_exw (by omega)), n1, fun t ht ne => ?_, fun R m => ?_, fun post x y hx hy hp => ?_⟩
  · have e : (gq_sb g1 (4 + s) r).2.2.2.1 (4 + t) = g1.2.2.2.1 (4 + t) := xs_un (by omega)
    rw [e]; exact H.2.1.2 _ (by omega)
  · have e : (gq_sb g1 (4 + s) r).2.2.2.1 (4 + s) = r := xs_us _ _ _
    rw [e]
    exact H.2.2.2.2 R (gq_sb_md (gq_nf H.1 (by omega)) m)
  · have e : (4 : Int32) + x = nI (4 + s) := by rw [hx]; exact nI_add 4 s
    have hin : vp_in (4 + x) 800 := by rw [e]; exact vp_in_nI (by omega) (by omega)
    exact And.intro hin (nm_r (e' := nI (g.2.2.2.1 (4 + s))) (by rw [e, xs_at (by omega)]) (K _ _ _ rfl hy (And.intro hin (nm_r (xs_ps e (by omega) rfl (by omega)) hp))))
end
/-- f with 0 at a, .., a + m - 1 -/
def xs_z (f : xs_f) (a m : Nat) : xs_f := fun t => if a ≤ t ∧ t < a + m then 0 else f t
theorem xs_z0 (f : xs_f) (a : Nat) : xs_z f a 0 = f := by funext t; exact if_neg (by omega)
theorem xs_zs (f : xs_f) (a m : Nat) : xs_u (xs_z f a m) (a + m) 0 = xs_z f a (m + 1) := by
  funext t; unfold xs_u xs_z
  by_cases h : t = a + m
  · rw [if_pos h, if_pos (by omega)]
  · rw [if_neg h]
    by_cases h2 : a ≤ t ∧ t < a + m
    · rw [if_pos h2, if_pos (by omega)]
    · rw [if_neg h2, if_neg (by omega)]
section
variable {o : xs_O} {p : xs_P} {l : xs_L} {g : xs_G} {w : xs_W} {k : xs_K}
theorem xs_bs_loop {post : SX → Prop} {i : Nat} {x2 : Int32} {n : Nat} (hi : i < 16) (h : wX_beginSimple_9 post (nI i) x2 n (nI 5) (nI p.1) (nI o.1) (nI o.2.1) (nI g.1) (nI k.1) (nI o.2.2.1) (nI o.2.2.2.1) (nI o.2.2.2.2.1) (nI o.2.2.2.2.2.1) (xs_A p.2.1) (xs_A p.2.2.1) (xs_A p.2.2.2.1) (xs_A p.2.2.2.2) (xs_A o.2.2.2.2.2.2.1) (xs_A o.2.2.2.2.2.2.2.1) (xs_A g.2.1) (xs_A g.2.2.1) (xs_A g.2.2.2.1) (xs_A g.2.2.2.2) (xs_A o.2.2.2.2.2.2.2.2.1) (xs_A (xs_wc w (xs_z w.2.2.2.2.1 (5 * i) 5)).1) (xs_A (xs_wc w (xs_z w.2.2.2.2.1 (5 * i) 5)).2.1) (xs_A (xs_wc w (xs_z w.2.2.2.2.1 (5 * i) 5)).2.2.1) (xs_A (xs_wc w (xs_z w.2.2.2.2.1 (5 * i) 5)).2.2.2.1) (xs_A (xs_wc w (xs_z w.2.2.2.2.1 (5 * i) 5)).2.2.2.2.1) (xs_A l.1) (xs_A l.2) (xs_A (xs_wc w (xs_z w.2.2.2.2.1 (5 * i) 5)).2.2.2.2.2) (xs_A o.2.2.2.2.2.2.2.2.2.1) (xs_A k.2.1) (xs_A k.2.2) (xs_A o.2.2.2.2.2.2.2.2.2.2)) :
    ∀ d j, j + d = 5 → wX_beginSimple_9 post (nI i) x2 (n + d) (nI j) (nI p.1) (nI o.1) (nI o.2.1) (nI g.1) (nI k.1) (nI o.2.2.1) (nI o.2.2.2.1) (nI o.2.2.2.2.1) (nI o.2.2.2.2.2.1) (xs_A p.2.1) (xs_A p.2.2.1) (xs_A p.2.2.2.1) (xs_A p.2.2.2.2) (xs_A o.2.2.2.2.2.2.1) (xs_A o.2.2.2.2.2.2.2.1) (xs_A g.2.1) (xs_A g.2.2.1) (xs_A g.2.2.2.1) (xs_A g.2.2.2.2) (xs_A o.2.2.2.2.2.2.2.2.1) (xs_A (xs_wc w (xs_z w.2.2.2.2.1 (5 * i) j)).1) (xs_A (xs_wc w (xs_z w.2.2.2.2.1 (5 * i) j)).2.1) (xs_A (xs_wc w (xs_z w.2.2.2.2.1 (5 * i) j)).2.2.1) (xs_A (xs_wc w (xs_z w.2.2.2.2.1 (5 * i) j)).2.2.2.1) (xs_A (xs_wc w (xs_z w.2.2.2.2.1 (5 * i) j)).2.2.2.2.1) (xs_A l.1) (xs_A l.2) (xs_A (xs_wc w (xs_z w.2.2.2.2.1 (5 * i) j)).2.2.2.2.2) (xs_A o.2.2.2.2.2.2.2.2.2.1) (xs_A k.2.1) (xs_A k.2.2) (xs_A o.2.2.2.2.2.2.2.2.2.2) := by
  intro d
  induction d with
  | zero => intro j hj; have e : j = 5 := by omega
            subst e; exact h
  | succ d ih =>
    intro j hj
    refine br_f (nI_ge (b := 5) (by omega) (by omega)) (xs_setCode (o := o) (p := p) (l := l) (g := g) (w := xs_wc w (xs_z w.2.2.2.2.1 (5 * i) j)) (k := k) (i := i) (c := j) (r := 0) rfl rfl rfl (by omega) (by omega) (nm_r (nI_1 j) ?_))
    have := ih (j + 1) (by omega)
    rw [← xs_zs] at this
    exact this
end
end
section
/-! ===== what a subtree's walk leaves ===== -/
def xs_NE (p : xs_P) (R : Nat → rv_V) (l : xs_L) (w : xs_W) (j : Nat) : Prop :=
  rt_NE p.2.1 p.2.2.1 p.2.2.2.1 p.2.2.2.2 (fun s => R (4 + s)) (fun x => R (w.1 x)) (fun x => R (w.2.1 x)) (fun x => R (w.2.2.1 x)) (fun x => R (w.2.2.2.1 x))
    (fun x => R (l.1 x)) (fun x => R (l.2 x)) (fun x => R (w.2.2.2.2.2 x)) (fun x c => R (w.2.2.2.2.1 (5 * x + c))) j
/-- wires outside are as they were -/
def xs_Fr (a i : Nat) (w w' : xs_W) : Prop :=
  (∀ j, ¬ (a ≤ j ∧ j < i) → w'.1 j = w.1 j ∧ w'.2.1 j = w.2.1 j ∧ w'.2.2.1 j = w.2.2.1 j ∧ w'.2.2.2.1 j = w.2.2.2.1 j) ∧
  (∀ t, ¬ (5 * a ≤ t ∧ t < 5 * i + 5) → w'.2.2.2.2.1 t = w.2.2.2.2.1 t) ∧ (∀ j, ¬ (a ≤ j ∧ j ≤ i) → w'.2.2.2.2.2 j = w.2.2.2.2.2 j)
/-- the four wires into j are there -/
def xs_In (g : xs_G) (w : xs_W) (j : Nat) : Prop := w.1 j < g.1 ∧ w.2.1 j < g.1 ∧ w.2.2.1 j < g.1 ∧ w.2.2.2.1 j < g.1
def xs_Bd (p : xs_P) (g : xs_G) (w : xs_W) (j : Nat) : Prop :=
  xs_In g w j ∧ (∀ c, c < 5 → w.2.2.2.2.1 (5 * j + c) < g.1) ∧ (p.2.1 j = 1 ∨ p.2.1 j = 4 → w.2.2.2.2.2 j < g.1)
/-- the gate that kills the parts of j -/
def xs_KF (p : xs_P) (n : Nat) (g : xs_G) (w : xs_W) (j : Nat) : Prop := p.2.1 j = 5 ∨ p.2.1 j = 8 →
  n ≤ w.2.2.2.1 (p.2.2.2.1 j) ∧ w.2.2.2.1 (p.2.2.2.1 j) < g.1 ∧ g.2.1 (w.2.2.2.1 (p.2.2.2.1 j)) = 2 ∧ g.2.2.2.2 (w.2.2.2.1 (p.2.2.2.1 j)) = 0 ∧
  g.2.2.1 (w.2.2.2.1 (p.2.2.2.1 j)) = w.2.2.2.1 j ∧
  ∀ R, gq_md g R → R (g.2.2.2.1 (w.2.2.2.1 (p.2.2.2.1 j))) = if p.2.1 j = 5 then R (w.2.2.2.2.1 (5 * p.2.2.2.1 j + 2))
    else rv_or (rv_or (R (w.2.2.2.2.1 (5 * j + 2))) (R (w.2.2.2.2.1 (5 * j + 3)))) (R (w.2.2.2.2.1 (5 * j + 4)))
def xs_Post (p : xs_P) (lo : xs_f) (l : xs_L) (g g' : xs_G) (w w' : xs_W) (i : Nat) : Prop :=
  gq_ok g' ∧ gq_exw g g' ∧ g'.1 ≤ g.1 + 42 * (i + 1 - lo i) ∧ xs_Fr (lo i) i w w' ∧
  (∀ j, lo i ≤ j → j ≤ i → xs_Bd p g' w' j ∧ xs_KF p g.1 g' w' j) ∧
  ∀ R, gq_md g' R → (∀ j, lo i ≤ j → j ≤ i → xs_NE p R l w' j) ∧
    ∀ s, s < 6 → R (g'.2.2.2.1 (4 + s)) = rv_or (R (g.2.2.2.1 (4 + s))) (rt_em p.2.1 p.2.2.1 lo (fun x => R (w'.1 x)) s i)
theorem xs_In_up {g g' : xs_G} {w : xs_W} {j : Nat} (h : xs_In g w j) (e : g.1 ≤ g'.1) : xs_In g' w j :=
  ⟨Nat.lt_of_lt_of_le h.1 e, Nat.lt_of_lt_of_le h.2.1 e, Nat.lt_of_lt_of_le h.2.2.1 e, Nat.lt_of_lt_of_le h.2.2.2 e⟩
theorem xs_z_in {f : xs_f} {a m t : Nat} (h : a ≤ t ∧ t < a + m) : xs_z f a m t = 0 := if_pos h
theorem xs_z_out {f : xs_f} {a m t : Nat} (h : ¬ (a ≤ t ∧ t < a + m)) : xs_z f a m t = f t := if_neg h
section
variable {o : xs_O} {p : xs_P} {l : xs_L} {g : xs_G} {w : xs_W} {k : xs_K} {lo : xs_f} {i : Nat}
/-- into a statement without parts, to the head of the last turn of its first loop -/
theorem xs_leaf_in (hi : i < 16) (hk : p.2.1 i < 4) {post : SX → Prop} {x : Int32} (hx : x = nI i)
    (h : wX_beginSimple_9 post (nI i) (nI (p.2.1 i)) 1 (nI 5) (nI p.1) (nI o.1) (nI o.2.1) (nI g.1) (nI k.1) (nI o.2.2.1) (nI o.2.2.2.1) (nI o.2.2.2.2.1) (nI o.2.2.2.2.2.1) (xs_A p.2.1) (xs_A p.2.2.1) (xs_A p.2.2.2.1) (xs_A p.2.2.2.2) (xs_A o.2.2.2.2.2.2.1) (xs_A o.2.2.2.2.2.2.2.1) (xs_A g.2.1) (xs_A g.2.2.1) (xs_A g.2.2.2.1) (xs_A g.2.2.2.2) (xs_A o.2.2.2.2.2.2.2.2.1) (xs_A (xs_wc w (xs_z w.2.2.2.2.1 (5 * i) 5)).1) (xs_A (xs_wc w (xs_z w.2.2.2.2.1 (5 * i) 5)).2.1) (xs_A (xs_wc w (xs_z w.2.2.2.2.1 (5 * i) 5)).2.2.1) (xs_A (xs_wc w (xs_z w.2.2.2.2.1 (5 * i) 5)).2.2.2.1) (xs_A (xs_wc w (xs_z w.2.2.2.2.1 (5 * i) 5)).2.2.2.2.1) (xs_A l.1) (xs_A l.2) (xs_A (xs_wc w (xs_z w.2.2.2.2.1 (5 * i) 5)).2.2.2.2.2) (xs_A o.2.2.2.2.2.2.2.2.2.1) (xs_A k.2.1) (xs_A k.2.2) (xs_A o.2.2.2.2.2.2.2.2.2.2)) : wpX_begin post (xs o p l g w k) x := by
  have h32 : vp_in (nI i) 32 := vp_in_nI (by omega) (by omega)
  have hk' : ¬ (4 : Int32) ≤ nI (p.2.1 i) := nI_ge (b := 4) hk (by omega)
  subst hx
  have L := xs_bs_loop (o := o) (p := p) (l := l) (g := g) (w := w) (k := k) (post := post) (x2 := nI (p.2.1 i)) hi h 5 0 rfl
  rw [xs_z0] at L
  exact And.intro h32 (nm_r (e' := nI (p.2.1 i)) (xs_at (by omega)) (br_f hk' (And.intro h32 (nm_r (e' := nI (p.2.1 i)) (xs_at (by omega)) (Exists.intro 6 L)))))
/-- what is left to show of a statement without parts -/
theorem xs_leaf_post (hT : rt_Nd p.2.1 p.2.2.1 p.2.2.2.1 p.2.2.2.2 lo i) (hk : p.2.1 i < 4) {g' : xs_G} {w' : xs_W} (h1 : gq_ok g') (h2 : gq_exw g g') (h3 : g'.1 ≤ g.1 + 36)
    (hw : w'.1 = w.1 ∧ w'.2.1 = w.2.1 ∧ w'.2.2.1 = w.2.2.1 ∧ w'.2.2.2.1 = w.2.2.2.1) (hc : ∀ t, ¬ (5 * i ≤ t ∧ t < 5 * i + 5) → w'.2.2.2.2.1 t = w.2.2.2.2.1 t) (hb : ∀ j, j ≠ i → w'.2.2.2.2.2 j = w.2.2.2.2.2 j)
    (hin : xs_In g w i) (hcb : ∀ c, c < 5 → w'.2.2.2.2.1 (5 * i + c) < g'.1) (hbb : p.2.1 i = 1 → w'.2.2.2.2.2 i < g'.1)
    (hR : ∀ R, gq_md g' R → xs_NE p R l w' i ∧ ∀ s, s < 6 → R (g'.2.2.2.1 (4 + s)) = rv_or (R (g.2.2.2.1 (4 + s))) (rt_lf p.2.1 p.2.2.1 (fun x => R (w.1 x)) s i)) : xs_Post p lo l g g' w w' i := by
  have e := hT.2.2.2.2.2.2.1 hk
  refine ⟨h1, h2, by rw [e]; omega, ⟨fun j _ => by rw [hw.1, hw.2.1, hw.2.2.1, hw.2.2.2]; exact ⟨rfl, rfl, rfl, rfl⟩, fun t h => hc t (by rw [e] at h; exact h), fun j h => hb j (by rw [e] at h; omega)⟩, fun j j1 j2 => ?_, fun R m => ⟨fun j j1 j2 => ?_, fun s hs => ?_⟩⟩
  · have ej : j = i := by omega
    subst ej
    refine ⟨⟨?_, hcb, fun h => hbb (by omega)⟩, fun h => by omega⟩
    have := xs_In_up hin h2.1
    unfold xs_In at this ⊢
    rw [hw.1, hw.2.1, hw.2.2.1, hw.2.2.2]; exact this
  · have ej : j = i := by omega
    subst ej
    exact (hR R m).1
  · rw [(hR R m).2 s hs, rt_em_0 hT hk, hw.1]
theorem xs_leaf02 (hT : rt_Nd p.2.1 p.2.2.1 p.2.2.2.1 p.2.2.2.2 lo i) (hk : p.2.1 i = 0) (hi : i < 16) (hG : gq_ok g) (hn : g.1 + 36 ≤ 800) (hin : xs_In g w i) :
    ∃ g' w', xs_Post p lo l g g' w w' i ∧ ∀ (post : SX → Prop) (x : Int32), x = nI i → post (xs o p l g' w' k) → wpX_begin post (xs o p l g w k) x := by
  have h16 : vp_in (nI i) 16 := vp_in_nI hi (by omega)
  have g10 := hG.1
  refine ⟨g, xs_wc w (xs_u (xs_z w.2.2.2.2.1 (5 * i) 5) (5 * i + 0) (w.1 i)), xs_leaf_post hT (by omega) hG (gq_exw_rf g) (by omega) ⟨rfl, rfl, rfl, rfl⟩ (fun t h => ?_) (fun j _ => rfl) hin (fun c hc => ?_) (fun h => by omega) (fun R m => ⟨?_, fun s hs => ?_⟩), fun post x hx hp => ?_⟩
  · exact (xs_un (by omega)).trans (xs_z_out h)
  · show xs_u (xs_z w.2.2.2.2.1 (5 * i) 5) (5 * i + 0) (w.1 i) (5 * i + c) < g.1
    by_cases e : c = 0
    · rw [e, xs_us]; exact hin.1
    · rw [xs_un (by omega), xs_z_in (by omega)]; omega
  · refine ⟨fun _ c hc => ?_, fun h => by omega, fun h => by omega, fun h => by omega, fun h => by omega, fun h => by omega, fun h => by omega, fun h => by omega, fun h => by omega⟩
    show R (xs_u (xs_z w.2.2.2.2.1 (5 * i) 5) (5 * i + 0) (w.1 i) (5 * i + c)) = if c = 0 then R (w.1 i) else rv_F
    by_cases e : c = 0
    · rw [if_pos e, e, xs_us]
    · rw [if_neg e, xs_un (by omega), xs_z_in (by omega)]; exact m.1
  · rw [rt_lf_F (by omega), rv_or_F]
  · refine xs_leaf_in hi (by omega) hx (br_t (nI_le (a := 5) (by omega) (by omega)) (br_f ?_ (br_f ?_ (And.intro h16 (xs_setCode (i := i) (c := 0) (r := w.1 i) rfl rfl (xs_at (by omega)) (by omega) (by have := hG.2.1; have := hin.1; omega) (br_f ?_ hp))))))
    · rw [hk]; decide
    · rw [hk]; decide
    · rw [hk]; decide
end
end
section
/-! ===== emit, exit, pause ===== -/
section
variable {o : xs_O} {p : xs_P} {l : xs_L} {g : xs_G} {w : xs_W} {k : xs_K} {lo : xs_f} {i : Nat}
theorem xs_leaf3 (hT : rt_Nd p.2.1 p.2.2.1 p.2.2.2.1 p.2.2.2.2 lo i) (hk : p.2.1 i = 3) (hi : i < 16) (hG : gq_ok g) (hn : g.1 + 36 ≤ 800) (hin : xs_In g w i) :
    ∃ g' w', xs_Post p lo l g g' w w' i ∧ ∀ (post : SX → Prop) (x : Int32), x = nI i → post (xs o p l g' w' k) → wpX_begin post (xs o p l g w k) x := by
  have h16 : vp_in (nI i) 16 := vp_in_nI hi (by omega)
  have h32 : vp_in (nI i) 32 := vp_in_nI (by omega) (by omega)
  have g10 := hG.1
  have n3 := hT.2.2.1 hk
  refine ⟨g, xs_wc w (xs_u (xs_z w.2.2.2.2.1 (5 * i) 5) (5 * i + (p.2.2.1 i + 2)) (w.1 i)), xs_leaf_post hT (by omega) hG (gq_exw_rf g) (by omega) ⟨rfl, rfl, rfl, rfl⟩ (fun t h => ?_) (fun j _ => rfl) hin (fun c hc => ?_) (fun h => by omega) (fun R m => ⟨?_, fun s hs => ?_⟩), fun post x hx hp => ?_⟩
  · exact (xs_un (by omega)).trans (xs_z_out h)
  · show xs_u (xs_z w.2.2.2.2.1 (5 * i) 5) (5 * i + (p.2.2.1 i + 2)) (w.1 i) (5 * i + c) < g.1
    by_cases e : c = p.2.2.1 i + 2
    · rw [e, xs_us]; exact hin.1
    · rw [xs_un (by omega), xs_z_in (by omega)]; omega
  · refine ⟨fun h => by omega, fun h => by omega, fun _ c hc => ?_, fun h => by omega, fun h => by omega, fun h => by omega, fun h => by omega, fun h => by omega, fun h => by omega⟩
    show R (xs_u (xs_z w.2.2.2.2.1 (5 * i) 5) (5 * i + (p.2.2.1 i + 2)) (w.1 i) (5 * i + c)) = if c = p.2.2.1 i + 2 then R (w.1 i) else rv_F
    by_cases e : c = p.2.2.1 i + 2
    · rw [if_pos e, e, xs_us]
    · rw [if_neg e, xs_un (by omega), xs_z_in (by omega)]; exact m.1
  · rw [rt_lf_F (by omega), rv_or_F]
  · refine xs_leaf_in hi (by omega) hx (br_t (nI_le (a := 5) (by omega) (by omega)) (br_f ?_ (br_t ?_ (And.intro h32 (And.intro h16 (xs_setCode (i := i) (c := p.2.2.1 i + 2) (r := w.1 i) rfl ?_ (xs_at (by omega)) (by omega) (by have := hG.2.1; have := hin.1; omega) hp))))))
    · rw [hk]; decide
    · rw [hk]; decide
    · rw [xs_at (by omega)]; exact nI_add _ 2
theorem xs_leaf2 (hT : rt_Nd p.2.1 p.2.2.1 p.2.2.2.1 p.2.2.2.2 lo i) (hk : p.2.1 i = 2) (hi : i < 16) (hG : gq_ok g) (hn : g.1 + 36 ≤ 800) (hin : xs_In g w i) :
    ∃ g' w', xs_Post p lo l g g' w w' i ∧ ∀ (post : SX → Prop) (x : Int32), x = nI i → post (xs o p l g' w' k) → wpX_begin post (xs o p l g w k) x := by
  have h16 : vp_in (nI i) 16 := vp_in_nI hi (by omega)
  have h32 : vp_in (nI i) 32 := vp_in_nI (by omega) (by omega)
  have g10 := hG.1
  have n6 := hT.2.1
  obtain ⟨g1, H1, H2, H3, H4, H5, K⟩ := xs_emitOn (o := o) (p := p) (l := l) (w := xs_wc w (xs_u (xs_z w.2.2.2.2.1 (5 * i) 5) (5 * i + 0) (w.1 i))) (k := k) hG (by omega) (s := p.2.2.1 i) (a := w.1 i) n6 hin.1
  have x1 := H2.1
  refine ⟨g1, xs_wc w (xs_u (xs_z w.2.2.2.2.1 (5 * i) 5) (5 * i + 0) (w.1 i)), xs_leaf_post hT (by omega) H1 H2 (by omega) ⟨rfl, rfl, rfl, rfl⟩ (fun t h => ?_) (fun j _ => rfl) hin (fun c hc => ?_) (fun h => by omega) (fun R m => ⟨?_, fun s hs => ?_⟩), fun post x hx hp => ?_⟩
  · exact (xs_un (by omega)).trans (xs_z_out h)
  · show xs_u (xs_z w.2.2.2.2.1 (5 * i) 5) (5 * i + 0) (w.1 i) (5 * i + c) < g1.1
    by_cases e : c = 0
    · rw [e, xs_us]; have := hin.1; omega
    · rw [xs_un (by omega), xs_z_in (by omega)]; omega
  · refine ⟨fun _ c hc => ?_, fun h => by omega, fun h => by omega, fun h => by omega, fun h => by omega, fun h => by omega, fun h => by omega, fun h => by omega, fun h => by omega⟩
    show R (xs_u (xs_z w.2.2.2.2.1 (5 * i) 5) (5 * i + 0) (w.1 i) (5 * i + c)) = if c = 0 then R (w.1 i) else rv_F
    by_cases e : c = 0
    · rw [if_pos e, e, xs_us]
    · rw [if_neg e, xs_un (by omega), xs_z_in (by omega)]; exact m.1
  · unfold rt_lf
    by_cases e : s = p.2.2.1 i
    · rw [if_pos ⟨hk, e.symm⟩, e]; exact H5 R m
    · rw [if_neg (fun a => e a.2.symm), rv_or_F, H4 s hs e]
  · refine xs_leaf_in hi (by omega) hx (br_t (nI_le (a := 5) (by omega) (by omega)) (br_f ?_ (br_f ?_ (And.intro h16 (xs_setCode (i := i) (c := 0) (r := w.1 i) rfl rfl (xs_at (by omega)) (by omega) (by have := hG.2.1; have := hin.1; omega) (br_t ?_ (And.intro h32 (And.intro h16 (K _ _ _ (xs_at (by omega)) (xs_at (by omega)) hp)))))))))
    · rw [hk]; decide
    · rw [hk]; decide
    · rw [hk]; decide
theorem xs_leaf1 (hT : rt_Nd p.2.1 p.2.2.1 p.2.2.2.1 p.2.2.2.2 lo i) (hk : p.2.1 i = 1) (hi : i < 16) (hG : gq_ok g) (hn : g.1 + 36 ≤ 800) (hin : xs_In g w i) (hr : l.2 i < g.1) :
    ∃ g' w', xs_Post p lo l g g' w w' i ∧ ∀ (post : SX → Prop) (x : Int32), x = nI i → post (xs o p l g' w' k) → wpX_begin post (xs o p l g w k) x := by
  have h16 : vp_in (nI i) 16 := vp_in_nI hi (by omega)
  have i31 : i < 2 ^ 31 := by omega
  have g10 := hG.1
  obtain ⟨i1, i2, i3, i4⟩ := hin
  obtain ⟨r1, g1, H1, K1⟩ := xs_and (o := o) (p := p) (l := l) (w := xs_wc w (xs_z w.2.2.2.2.1 (5 * i) 5)) (k := k) hG (by omega) (a := l.2 i) (b := w.2.1 i) hr i2
  have n1 := H1.2.2.1; have x1 := H1.2.1.1.1; have q1 := H1.2.2.2.1
  obtain ⟨r2, g2, H2, K2⟩ := xs_and (o := o) (p := p) (l := l) (w := xs_wc w (xs_z w.2.2.2.2.1 (5 * i) 5)) (k := k) H1.1 (by omega) (a := w.2.2.1 i) (b := l.2 i) (by omega) (by omega)
  have n2 := H2.2.2.1; have x2 := H2.2.1.1.1; have q2 := H2.2.2.2.1
  obtain ⟨r3, g3, H3, K3⟩ := xs_or (o := o) (p := p) (l := l) (w := xs_wc w (xs_u (xs_u (xs_z w.2.2.2.2.1 (5 * i) 5) (5 * i + 0) r1) (5 * i + 1) (w.1 i))) (k := k) H2.1 (by omega) (a := w.1 i) (b := r2) (by omega) q2
  have n3 := H3.2.2.1; have x3 := H3.2.1.1.1; have q3 := H3.2.2.2.1
  obtain ⟨r4, g4, H4, K4⟩ := xs_setNext (o := o) (p := p) (l := l) (w := xs_wc w (xs_u (xs_u (xs_z w.2.2.2.2.1 (5 * i) 5) (5 * i + 0) r1) (5 * i + 1) (w.1 i))) (k := k) H3.1 (by omega) (i := i) (a := r3) hi q3 (show w.2.2.2.1 i < g3.1 by omega)
  have n4 := H4.2.2.1; have x4 := H4.2.1.1.1; have q4 := H4.2.2.2.1; have m4 := H4.1.2.1
  have ext := gq_ext_tr H1.2.1 (gq_ext_tr H2.2.1 (gq_ext_tr H3.2.1 H4.2.1))
  refine ⟨g4, _, xs_leaf_post (w := w) (w' := xs_wb (xs_wc w (xs_u (xs_u (xs_z w.2.2.2.2.1 (5 * i) 5) (5 * i + 0) r1) (5 * i + 1) (w.1 i))) (xs_u w.2.2.2.2.2 i r4)) hT (by omega) H4.1 ext.1 (by omega) ⟨rfl, rfl, rfl, rfl⟩ (fun t h => ?_) (fun j h => xs_un h) ⟨i1, i2, i3, i4⟩ (fun c hc => ?_) (fun h => ?_) (fun R m => ⟨?_, fun s hs => ?_⟩), fun post x hx hp => ?_⟩
  · exact (xs_un (by omega)).trans ((xs_un (by omega)).trans (xs_z_out h))
  · show (xs_u (xs_u (xs_z w.2.2.2.2.1 (5 * i) 5) (5 * i + 0) r1) (5 * i + 1) (w.1 i)) (5 * i + c) < g4.1
    by_cases e1 : c = 1
    · rw [e1, xs_us]; omega
    rw [xs_un (by omega)]
    by_cases e : c = 0
    · rw [e, xs_us]; omega
    · rw [xs_un (by omega), xs_z_in (by omega)]; omega
  · show xs_u w.2.2.2.2.2 i r4 i < g4.1
    rw [xs_us]; exact q4
  · have m3 := gq_md_of H3.1 H4.2.1.1 m
    have m2 := gq_md_of H2.1 H3.2.1.1 m3
    have m1 := gq_md_of H1.1 H2.2.1.1 m2
    have e4 : R r4 = rv_and (R r3) (rv_not (R (w.2.2.2.1 i))) := H4.2.2.2.2 R m
    have e3 : R r3 = rv_or (R (w.1 i)) (R r2) := H3.2.2.2.2 R m3
    have e2 : R r2 = rv_and (R (w.2.2.1 i)) (R (l.2 i)) := H2.2.2.2.2 R m2
    have e1 : R r1 = rv_and (R (l.2 i)) (R (w.2.1 i)) := H1.2.2.2.2 R m1
    refine ⟨fun h => by omega, fun _ => ⟨fun c hc => ?_, ?_⟩, fun h => by omega, fun h => by omega, fun h => by omega, fun h => by omega, fun h => by omega, fun h => by omega, fun h => by omega⟩
    · show R ((xs_u (xs_u (xs_z w.2.2.2.2.1 (5 * i) 5) (5 * i + 0) r1) (5 * i + 1) (w.1 i)) (5 * i + c)) = if c = 0 then rv_and (R (l.2 i)) (R (w.2.1 i)) else if c = 1 then R (w.1 i) else rv_F
      by_cases e : c = 1
      · rw [if_neg (by omega), if_pos e, e, xs_us]
      rw [xs_un (by omega)]
      by_cases e' : c = 0
      · rw [if_pos e', e', xs_us, e1]
      · rw [if_neg e', if_neg e, xs_un (by omega), xs_z_in (by omega)]; exact m.1
    · show R (xs_u w.2.2.2.2.2 i r4 i) = rv_and (rv_or (R (w.1 i)) (rv_and (R (w.2.2.1 i)) (R (l.2 i)))) (rv_not (R (w.2.2.2.1 i)))
      rw [xs_us, e4, e3, e2]
  · rw [rt_lf_F (by omega), rv_or_F, ext.2 (4 + s) (by omega)]
  · refine xs_leaf_in hi (by omega) hx (br_t (nI_le (a := 5) (by omega) (by omega)) (br_t ?_ (And.intro h16 (And.intro h16 (K1 _ _ _ (xs_at i31) (xs_at i31) (And.intro h16 (And.intro h16 (K2 _ _ _ (xs_at i31) (xs_at i31)
      (xs_setCode (i := i) (c := 0) (r := r1) rfl rfl rfl (by omega) (by omega) (And.intro h16 (xs_setCode (i := i) (c := 1) (r := w.1 i) rfl rfl (xs_at i31) (by omega) (by omega)
        (And.intro h16 (K3 _ _ _ (xs_at i31) rfl (K4 _ _ _ rfl rfl hp))))))))))))))
    rw [hk]; decide
/-- a statement without parts -/
theorem xs_leaf (hT : rt_Nd p.2.1 p.2.2.1 p.2.2.2.1 p.2.2.2.2 lo i) (hk : p.2.1 i < 4) (hi : i < 16) (hG : gq_ok g) (hn : g.1 + 36 ≤ 800) (hin : xs_In g w i) (hr : l.2 i < g.1) :
    ∃ g' w', xs_Post p lo l g g' w w' i ∧ ∀ (post : SX → Prop) (x : Int32), x = nI i → post (xs o p l g' w' k) → wpX_begin post (xs o p l g w k) x := by
  by_cases h0 : p.2.1 i = 0
  · exact xs_leaf02 hT h0 hi hG hn hin
  by_cases h1 : p.2.1 i = 1
  · exact xs_leaf1 hT h1 hi hG hn hin hr
  by_cases h2 : p.2.1 i = 2
  · exact xs_leaf2 hT h2 hi hG hn hin
  · exact xs_leaf3 hT (by omega) hi hG hn hin
end
end
section
/-! ===== begin, for a statement with parts ===== -/
theorem xs_at' {f : xs_f} {i v : Nat} (h : i < 2 ^ 31) (e : f i = v) : xs_A f (nI i).toNatClampNeg = nI v := by rw [xs_at h, e]
def xs_pi (w : xs_W) (f t r : Nat) : xs_W := (xs_u w.1 t r, xs_u w.2.1 t (w.2.1 f), xs_u w.2.2.1 t (w.2.2.1 f), xs_u w.2.2.2.1 t (w.2.2.2.1 f), w.2.2.2.2.1, w.2.2.2.2.2)
def xs_ka (k : xs_K) (c i : Nat) : xs_K := (k.1 + 1, xs_u k.2.1 k.1 c, xs_u k.2.2 k.1 i)
/-- the wires of part t are set, the others as they were -/
def xs_F1 (t : Nat) (w w1 : xs_W) : Prop :=
  (∀ j, j ≠ t → w1.1 j = w.1 j ∧ w1.2.1 j = w.2.1 j ∧ w1.2.2.1 j = w.2.2.1 j ∧ w1.2.2.2.1 j = w.2.2.2.1 j) ∧ w1.2.2.2.2.1 = w.2.2.2.2.1 ∧ w1.2.2.2.2.2 = w.2.2.2.2.2
def xs_bs (p : xs_P) (R : Nat → rv_V) (l : xs_L) (w : xs_W) (i : Nat) : rv_V :=
  if p.2.1 i = 4 then rv_or (R (w.1 i)) (rv_and (R (l.2 i)) (R (w.2.1 i))) else if p.2.1 i = 9 then rv_and (R (w.1 i)) (R (4 + p.2.2.1 i)) else R (w.1 i)
def xs_br (p : xs_P) (R : Nat → rv_V) (w : xs_W) (i : Nat) : rv_V :=
  if p.2.1 i = 6 then rv_and (R (w.2.1 i)) (rv_not (R (4 + p.2.2.1 i))) else R (w.2.1 i)
def xs_bh (p : xs_P) (R : Nat → rv_V) (w : xs_W) (i : Nat) : rv_V :=
  if p.2.1 i = 6 then rv_or (R (w.2.2.1 i)) (rv_and (R (w.2.1 i)) (R (4 + p.2.2.1 i))) else R (w.2.2.1 i)
def xs_Beg (p : xs_P) (l : xs_L) (g g1 : xs_G) (w w1 : xs_W) (i : Nat) : Prop :=
  gq_ok g1 ∧ gq_ext g g1 ∧ g1.1 ≤ g.1 + 4 ∧ xs_F1 (p.2.2.2.1 i) w w1 ∧ xs_In g1 w1 (p.2.2.2.1 i) ∧
  (p.2.1 i = 5 ∨ p.2.1 i = 8 → g.1 ≤ w1.2.2.2.1 (p.2.2.2.1 i) ∧ g1.2.1 (w1.2.2.2.1 (p.2.2.2.1 i)) = 2 ∧ g1.2.2.2.2 (w1.2.2.2.1 (p.2.2.2.1 i)) = 0 ∧ g1.2.2.1 (w1.2.2.2.1 (p.2.2.2.1 i)) = w.2.2.2.1 i) ∧
  (p.2.1 i ≠ 5 → p.2.1 i ≠ 8 → w1.2.2.2.1 (p.2.2.2.1 i) = w.2.2.2.1 i) ∧
  ∀ R, gq_md g1 R → R (w1.1 (p.2.2.2.1 i)) = xs_bs p R l w i ∧ R (w1.2.1 (p.2.2.2.1 i)) = xs_br p R w i ∧ R (w1.2.2.1 (p.2.2.2.1 i)) = xs_bh p R w i
theorem xs_pi_F1 (w : xs_W) (f t r : Nat) : xs_F1 t w (xs_pi w f t r) := ⟨fun _ h => ⟨xs_un h, xs_un h, xs_un h, xs_un h⟩, rfl, rfl⟩
section
variable {o : xs_O} {p : xs_P} {l : xs_L} {g : xs_G} {w : xs_W} {k : xs_K} {i : Nat}
theorem xs_beg4 (hk : p.2.1 i = 4) (hi : i < 16) (hp : p.2.2.2.1 i < i) (hG : gq_ok g) (hn : g.1 + 36 ≤ 800) (hin : xs_In g w i) (hr : l.2 i < g.1) (hK : k.1 < 64) :
    ∃ g1 w1, xs_Beg p l g g1 w w1 i ∧ ∀ post : SX → Prop, post (xs o p l g1 w1 (xs_ka k 0 (p.2.2.2.1 i))) → wX_begin_55 post (nI i) (nI (p.2.1 i)) (nI (p.2.2.2.1 i)) (nI p.1) (nI o.1) (nI o.2.1) (nI g.1) (nI k.1) (nI o.2.2.1) (nI o.2.2.2.1) (nI o.2.2.2.2.1) (nI o.2.2.2.2.2.1) (xs_A p.2.1) (xs_A p.2.2.1) (xs_A p.2.2.2.1) (xs_A p.2.2.2.2) (xs_A o.2.2.2.2.2.2.1) (xs_A o.2.2.2.2.2.2.2.1) (xs_A g.2.1) (xs_A g.2.2.1) (xs_A g.2.2.2.1) (xs_A g.2.2.2.2) (xs_A o.2.2.2.2.2.2.2.2.1) (xs_A (xs_pi w i (p.2.2.2.1 i) (w.1 i)).1) (xs_A (xs_pi w i (p.2.2.2.1 i) (w.1 i)).2.1) (xs_A (xs_pi w i (p.2.2.2.1 i) (w.1 i)).2.2.1) (xs_A (xs_pi w i (p.2.2.2.1 i) (w.1 i)).2.2.2.1) (xs_A (xs_pi w i (p.2.2.2.1 i) (w.1 i)).2.2.2.2.1) (xs_A l.1) (xs_A l.2) (xs_A (xs_pi w i (p.2.2.2.1 i) (w.1 i)).2.2.2.2.2) (xs_A o.2.2.2.2.2.2.2.2.2.1) (xs_A k.2.1) (xs_A k.2.2) (xs_A o.2.2.2.2.2.2.2.2.2.2) := by
  have h16 : vp_in (nI i) 16 := vp_in_nI hi (by omega)
  have p16 : vp_in (nI (p.2.2.2.1 i)) 16 := vp_in_nI (by omega) (by omega)
  have i31 : i < 2 ^ 31 := by omega
  obtain ⟨i1, i2, i3, i4⟩ := hin
  obtain ⟨r1, g1, H1, K1⟩ := xs_and (o := o) (p := p) (l := l) (w := xs_pi w i (p.2.2.2.1 i) (w.1 i)) (k := xs_ka k 0 (p.2.2.2.1 i)) hG (by omega) (a := l.2 i) (b := w.2.1 i) hr i2
  have n1 := H1.2.2.1; have x1 := H1.2.1.1.1; have q1 := H1.2.2.2.1
  obtain ⟨r2, g2, H2, K2⟩ := xs_or (o := o) (p := p) (l := l) (w := xs_pi w i (p.2.2.2.1 i) (w.1 i)) (k := xs_ka k 0 (p.2.2.2.1 i)) H1.1 (by omega) (a := w.1 i) (b := r1) (by omega) q1
  have n2 := H2.2.2.1; have x2 := H2.2.1.1.1; have q2 := H2.2.2.2.1; have m2 := H2.1.2.1
  refine ⟨g2, (xs_u (xs_u w.1 (p.2.2.2.1 i) (w.1 i)) (p.2.2.2.1 i) r2, (xs_pi w i (p.2.2.2.1 i) (w.1 i)).2), ⟨H2.1, gq_ext_tr H1.2.1 H2.2.1, by omega, ⟨fun j h => ⟨(xs_un h).trans (xs_un h), xs_un h, xs_un h, xs_un h⟩, rfl, rfl⟩, ⟨?_, ?_, ?_, ?_⟩, fun h => by omega, fun _ _ => xs_us _ _ _, fun R m => ?_⟩, fun post hp => ?_⟩
  · show xs_u _ _ _ _ < _; rw [xs_us]; exact q2
  · show xs_u _ _ _ _ < _; rw [xs_us]; omega
  · show xs_u _ _ _ _ < _; rw [xs_us]; omega
  · show xs_u _ _ _ _ < _; rw [xs_us]; omega
  · have e2 : R r2 = rv_or (R (w.1 i)) (R r1) := H2.2.2.2.2 R m
    have e1 : R r1 = rv_and (R (l.2 i)) (R (w.2.1 i)) := H1.2.2.2.2 R (gq_md_of H1.1 H2.2.1.1 m)
    show R (xs_u _ _ _ _) = _ ∧ R (xs_u _ _ _ _) = _ ∧ R (xs_u _ _ _ _) = _
    rw [xs_us, xs_us, xs_us]
    unfold xs_bs xs_br xs_bh
    rw [if_pos hk, if_neg (by omega), if_neg (by omega), e2, e1]
    exact ⟨rfl, rfl, rfl⟩
  · refine xs_ask (o := o) (p := p) (l := l) (g := g) (w := xs_pi w i (p.2.2.2.1 i) (w.1 i)) (k := k) (c := 0) (i := p.2.2.2.1 i) rfl rfl hK (by omega) (by omega) (br_t ?_ (And.intro h16 (And.intro h16 (K1 _ _ _ (xs_at i31) (xs_at' i31 (xs_un (by omega))) (And.intro h16 (K2 _ _ _ (xs_at' i31 (xs_un (by omega))) rfl
      (And.intro p16 (nm_r (xs_ps rfl (by omega) rfl (by omega)) hp))))))))
    rw [hk]; decide
theorem xs_beg6 (hk : p.2.1 i = 6) (hs : p.2.2.1 i < 6) (hi : i < 16) (hp : p.2.2.2.1 i < i) (hG : gq_ok g) (hn : g.1 + 36 ≤ 800) (hin : xs_In g w i) (hK : k.1 < 64) :
    ∃ g1 w1, xs_Beg p l g g1 w w1 i ∧ ∀ post : SX → Prop, post (xs o p l g1 w1 (xs_ka k 0 (p.2.2.2.1 i))) → wX_begin_55 post (nI i) (nI (p.2.1 i)) (nI (p.2.2.2.1 i)) (nI p.1) (nI o.1) (nI o.2.1) (nI g.1) (nI k.1) (nI o.2.2.1) (nI o.2.2.2.1) (nI o.2.2.2.2.1) (nI o.2.2.2.2.2.1) (xs_A p.2.1) (xs_A p.2.2.1) (xs_A p.2.2.2.1) (xs_A p.2.2.2.2) (xs_A o.2.2.2.2.2.2.1) (xs_A o.2.2.2.2.2.2.2.1) (xs_A g.2.1) (xs_A g.2.2.1) (xs_A g.2.2.2.1) (xs_A g.2.2.2.2) (xs_A o.2.2.2.2.2.2.2.2.1) (xs_A (xs_pi w i (p.2.2.2.1 i) (w.1 i)).1) (xs_A (xs_pi w i (p.2.2.2.1 i) (w.1 i)).2.1) (xs_A (xs_pi w i (p.2.2.2.1 i) (w.1 i)).2.2.1) (xs_A (xs_pi w i (p.2.2.2.1 i) (w.1 i)).2.2.2.1) (xs_A (xs_pi w i (p.2.2.2.1 i) (w.1 i)).2.2.2.2.1) (xs_A l.1) (xs_A l.2) (xs_A (xs_pi w i (p.2.2.2.1 i) (w.1 i)).2.2.2.2.2) (xs_A o.2.2.2.2.2.2.2.2.2.1) (xs_A k.2.1) (xs_A k.2.2) (xs_A o.2.2.2.2.2.2.2.2.2.2) := by
  have h16 : vp_in (nI i) 16 := vp_in_nI hi (by omega)
  have h32 : vp_in (nI i) 32 := vp_in_nI (by omega) (by omega)
  have p16 : vp_in (nI (p.2.2.2.1 i)) 16 := vp_in_nI (by omega) (by omega)
  have i31 : i < 2 ^ 31 := by omega
  have g10 := hG.1
  obtain ⟨i1, i2, i3, i4⟩ := hin
  have es : (4 : Int32) + xs_A p.2.2.1 (nI i).toNatClampNeg = nI (4 + p.2.2.1 i) := by rw [xs_at i31]; exact nI_add 4 _
  obtain ⟨r1, g1, H1, K1⟩ := xs_and (o := o) (p := p) (l := l) (w := xs_pi w i (p.2.2.2.1 i) (w.1 i)) (k := xs_ka k 0 (p.2.2.2.1 i)) hG (by omega) (a := w.2.1 i) (b := 4 + p.2.2.1 i) i2 (by omega)
  have n1 := H1.2.2.1; have x1 := H1.2.1.1.1; have q1 := H1.2.2.2.1
  obtain ⟨r2, g2, H2, K2⟩ := xs_not (o := o) (p := p) (l := l) (w := xs_pi w i (p.2.2.2.1 i) (w.1 i)) (k := xs_ka k 0 (p.2.2.2.1 i)) H1.1 (by omega) (a := 4 + p.2.2.1 i) (by omega)
  have n2 := H2.2.2.1; have x2 := H2.2.1.1.1; have q2 := H2.2.2.2.1
  obtain ⟨r3, g3, H3, K3⟩ := xs_and (o := o) (p := p) (l := l) (w := xs_pi w i (p.2.2.2.1 i) (w.1 i)) (k := xs_ka k 0 (p.2.2.2.1 i)) H2.1 (by omega) (a := w.2.1 i) (b := r2) (by omega) q2
  have n3 := H3.2.2.1; have x3 := H3.2.1.1.1; have q3 := H3.2.2.2.1; have m3 := H3.1.2.1
  obtain ⟨r4, g4, H4, K4⟩ := xs_or (o := o) (p := p) (l := l) (w := ((xs_pi w i (p.2.2.2.1 i) (w.1 i)).1, xs_u (xs_pi w i (p.2.2.2.1 i) (w.1 i)).2.1 (p.2.2.2.1 i) r3, (xs_pi w i (p.2.2.2.1 i) (w.1 i)).2.2)) (k := xs_ka k 0 (p.2.2.2.1 i)) H3.1 (by omega) (a := w.2.2.1 i) (b := r1) (by omega) (by omega)
  have n4 := H4.2.2.1; have x4 := H4.2.1.1.1; have q4 := H4.2.2.2.1; have m4 := H4.1.2.1
  refine ⟨g4, ((xs_pi w i (p.2.2.2.1 i) (w.1 i)).1, xs_u (xs_pi w i (p.2.2.2.1 i) (w.1 i)).2.1 (p.2.2.2.1 i) r3, xs_u (xs_pi w i (p.2.2.2.1 i) (w.1 i)).2.2.1 (p.2.2.2.1 i) r4, (xs_pi w i (p.2.2.2.1 i) (w.1 i)).2.2.2),
    ⟨H4.1, gq_ext_tr H1.2.1 (gq_ext_tr H2.2.1 (gq_ext_tr H3.2.1 H4.2.1)), by omega, ⟨fun j h => ⟨xs_un h, (xs_un h).trans (xs_un h), (xs_un h).trans (xs_un h), xs_un h⟩, rfl, rfl⟩, ⟨?_, ?_, ?_, ?_⟩, fun h => by omega, fun _ _ => xs_us _ _ _, fun R m => ?_⟩, fun post hp => ?_⟩
  · show xs_u _ _ _ _ < _; rw [xs_us]; omega
  · show xs_u _ _ _ _ < _; rw [xs_us]; omega
  · show xs_u _ _ _ _ < _; rw [xs_us]; omega
  · show xs_u _ _ _ _ < _; rw [xs_us]; omega
  · have m3 := gq_md_of H3.1 H4.2.1.1 m
    have m2 := gq_md_of H2.1 H3.2.1.1 m3
    have m1 := gq_md_of H1.1 H2.2.1.1 m2
    have e4 : R r4 = rv_or (R (w.2.2.1 i)) (R r1) := H4.2.2.2.2 R m
    have e3 : R r3 = rv_and (R (w.2.1 i)) (R r2) := H3.2.2.2.2 R m3
    have e2 : R r2 = rv_not (R (4 + p.2.2.1 i)) := H2.2.2.2.2 R m2
    have e1 : R r1 = rv_and (R (w.2.1 i)) (R (4 + p.2.2.1 i)) := H1.2.2.2.2 R m1
    show R (xs_u _ _ _ _) = _ ∧ R (xs_u _ _ _ _) = _ ∧ R (xs_u _ _ _ _) = _
    rw [xs_us, xs_us, xs_us]
    unfold xs_bs xs_br xs_bh
    rw [if_neg (by omega), if_neg (by omega), if_pos hk, if_pos hk, e4, e3, e2, e1]
    exact ⟨rfl, rfl, rfl⟩
  · refine xs_ask (o := o) (p := p) (l := l) (g := g) (w := xs_pi w i (p.2.2.2.1 i) (w.1 i)) (k := k) (c := 0) (i := p.2.2.2.1 i) rfl rfl hK (by omega) (by omega) (br_f ?_ (br_t ?_ (And.intro h32 (nm_r es (And.intro h16 (K1 _ _ _ (xs_at' i31 (xs_un (by omega))) rfl
      (K2 _ _ rfl (And.intro h16 (K3 _ _ _ (xs_at' i31 (xs_un (by omega))) rfl (And.intro p16 (nm_r (xs_ps rfl (by omega) rfl (by omega)) (And.intro h16 (K4 _ _ _ (xs_at' i31 (xs_un (by omega))) rfl
      (And.intro p16 (nm_r (xs_ps rfl (by omega) rfl (by omega)) hp)))))))))))))))
    · rw [hk]; decide
    · rw [hk]; decide
theorem xs_beg9 (hk : p.2.1 i = 9) (hs : p.2.2.1 i < 6) (hi : i < 16) (hp : p.2.2.2.1 i < i) (hG : gq_ok g) (hn : g.1 + 36 ≤ 800) (hin : xs_In g w i) (hK : k.1 < 64) :
    ∃ g1 w1, xs_Beg p l g g1 w w1 i ∧ ∀ post : SX → Prop, post (xs o p l g1 w1 (xs_ka k 0 (p.2.2.2.1 i))) → wX_begin_55 post (nI i) (nI (p.2.1 i)) (nI (p.2.2.2.1 i)) (nI p.1) (nI o.1) (nI o.2.1) (nI g.1) (nI k.1) (nI o.2.2.1) (nI o.2.2.2.1) (nI o.2.2.2.2.1) (nI o.2.2.2.2.2.1) (xs_A p.2.1) (xs_A p.2.2.1) (xs_A p.2.2.2.1) (xs_A p.2.2.2.2) (xs_A o.2.2.2.2.2.2.1) (xs_A o.2.2.2.2.2.2.2.1) (xs_A g.2.1) (xs_A g.2.2.1) (xs_A g.2.2.2.1) (xs_A g.2.2.2.2) (xs_A o.2.2.2.2.2.2.2.2.1) (xs_A (xs_pi w i (p.2.2.2.1 i) (w.1 i)).1) (xs_A (xs_pi w i (p.2.2.2.1 i) (w.1 i)).2.1) (xs_A (xs_pi w i (p.2.2.2.1 i) (w.1 i)).2.2.1) (xs_A (xs_pi w i (p.2.2.2.1 i) (w.1 i)).2.2.2.1) (xs_A (xs_pi w i (p.2.2.2.1 i) (w.1 i)).2.2.2.2.1) (xs_A l.1) (xs_A l.2) (xs_A (xs_pi w i (p.2.2.2.1 i) (w.1 i)).2.2.2.2.2) (xs_A o.2.2.2.2.2.2.2.2.2.1) (xs_A k.2.1) (xs_A k.2.2) (xs_A o.2.2.2.2.2.2.2.2.2.2) := by
  have h16 : vp_in (nI i) 16 := vp_in_nI hi (by omega)
  have h32 : vp_in (nI i) 32 := vp_in_nI (by omega) (by omega)
  have p16 : vp_in (nI (p.2.2.2.1 i)) 16 := vp_in_nI (by omega) (by omega)
  have i31 : i < 2 ^ 31 := by omega
  have g10 := hG.1
  obtain ⟨i1, i2, i3, i4⟩ := hin
  have es : (4 : Int32) + xs_A p.2.2.1 (nI i).toNatClampNeg = nI (4 + p.2.2.1 i) := by rw [xs_at i31]; exact nI_add 4 _
  obtain ⟨r1, g1, H1, K1⟩ := xs_and (o := o) (p := p) (l := l) (w := xs_pi w i (p.2.2.2.1 i) (w.1 i)) (k := xs_ka k 0 (p.2.2.2.1 i)) hG (by omega) (a := w.1 i) (b := 4 + p.2.2.1 i) i1 (by omega)
  have n1 := H1.2.2.1; have x1 := H1.2.1.1.1; have q1 := H1.2.2.2.1; have m1 := H1.1.2.1
  refine ⟨g1, (xs_u (xs_u w.1 (p.2.2.2.1 i) (w.1 i)) (p.2.2.2.1 i) r1, (xs_pi w i (p.2.2.2.1 i) (w.1 i)).2), ⟨H1.1, H1.2.1, by omega, ⟨fun j h => ⟨(xs_un h).trans (xs_un h), xs_un h, xs_un h, xs_un h⟩, rfl, rfl⟩, ⟨?_, ?_, ?_, ?_⟩, fun h => by omega, fun _ _ => xs_us _ _ _, fun R m => ?_⟩, fun post hp => ?_⟩
  · show xs_u _ _ _ _ < _; rw [xs_us]; omega
  · show xs_u _ _ _ _ < _; rw [xs_us]; omega
  · show xs_u _ _ _ _ < _; rw [xs_us]; omega
  · show xs_u _ _ _ _ < _; rw [xs_us]; omega
  · have e1 : R r1 = rv_and (R (w.1 i)) (R (4 + p.2.2.1 i)) := H1.2.2.2.2 R m
    show R (xs_u _ _ _ _) = _ ∧ R (xs_u _ _ _ _) = _ ∧ R (xs_u _ _ _ _) = _
    rw [xs_us, xs_us, xs_us]
    unfold xs_bs xs_br xs_bh
    rw [if_neg (by omega), if_pos hk, if_neg (by omega), if_neg (by omega), e1]
    exact ⟨rfl, rfl, rfl⟩
  · refine xs_ask (o := o) (p := p) (l := l) (g := g) (w := xs_pi w i (p.2.2.2.1 i) (w.1 i)) (k := k) (c := 0) (i := p.2.2.2.1 i) rfl rfl hK (by omega) (by omega) (br_f ?_ (br_f ?_ (br_t ?_ (And.intro h16 (And.intro h32 (K1 _ _ _ (xs_at' i31 (xs_un (by omega))) es
      (And.intro p16 (nm_r (xs_ps rfl (by omega) rfl (by omega)) hp))))))))
    · rw [hk]; decide
    · rw [hk]; decide
    · rw [hk]; decide
theorem xs_beg7 (hk : p.2.1 i = 7) (hi : i < 16) (hp : p.2.2.2.1 i < i) (hG : gq_ok g) (hin : xs_In g w i) (hK : k.1 < 64) :
    ∃ g1 w1, xs_Beg p l g g1 w w1 i ∧ ∀ post : SX → Prop, post (xs o p l g1 w1 (xs_ka k 0 (p.2.2.2.1 i))) → wX_begin_55 post (nI i) (nI (p.2.1 i)) (nI (p.2.2.2.1 i)) (nI p.1) (nI o.1) (nI o.2.1) (nI g.1) (nI k.1) (nI o.2.2.1) (nI o.2.2.2.1) (nI o.2.2.2.2.1) (nI o.2.2.2.2.2.1) (xs_A p.2.1) (xs_A p.2.2.1) (xs_A p.2.2.2.1) (xs_A p.2.2.2.2) (xs_A o.2.2.2.2.2.2.1) (xs_A o.2.2.2.2.2.2.2.1) (xs_A g.2.1) (xs_A g.2.2.1) (xs_A g.2.2.2.1) (xs_A g.2.2.2.2) (xs_A o.2.2.2.2.2.2.2.2.1) (xs_A (xs_pi w i (p.2.2.2.1 i) (w.1 i)).1) (xs_A (xs_pi w i (p.2.2.2.1 i) (w.1 i)).2.1) (xs_A (xs_pi w i (p.2.2.2.1 i) (w.1 i)).2.2.1) (xs_A (xs_pi w i (p.2.2.2.1 i) (w.1 i)).2.2.2.1) (xs_A (xs_pi w i (p.2.2.2.1 i) (w.1 i)).2.2.2.2.1) (xs_A l.1) (xs_A l.2) (xs_A (xs_pi w i (p.2.2.2.1 i) (w.1 i)).2.2.2.2.2) (xs_A o.2.2.2.2.2.2.2.2.2.1) (xs_A k.2.1) (xs_A k.2.2) (xs_A o.2.2.2.2.2.2.2.2.2.2) := by
  obtain ⟨i1, i2, i3, i4⟩ := hin
  refine ⟨g, xs_pi w i (p.2.2.2.1 i) (w.1 i), ⟨hG, gq_ext_rf g, by omega, xs_pi_F1 _ _ _ _, ⟨?_, ?_, ?_, ?_⟩, fun h => by omega, fun _ _ => xs_us _ _ _, fun R m => ?_⟩, fun post hp => ?_⟩
  · show xs_u _ _ _ _ < _; rw [xs_us]; omega
  · show xs_u _ _ _ _ < _; rw [xs_us]; omega
  · show xs_u _ _ _ _ < _; rw [xs_us]; omega
  · show xs_u _ _ _ _ < _; rw [xs_us]; omega
  · show R (xs_u _ _ _ _) = _ ∧ R (xs_u _ _ _ _) = _ ∧ R (xs_u _ _ _ _) = _
    rw [xs_us, xs_us, xs_us]
    unfold xs_bs xs_br xs_bh
    rw [if_neg (by omega), if_neg (by omega), if_neg (by omega), if_neg (by omega)]
    exact ⟨rfl, rfl, rfl⟩
  · refine xs_ask (o := o) (p := p) (l := l) (g := g) (w := xs_pi w i (p.2.2.2.1 i) (w.1 i)) (k := k) (c := 0) (i := p.2.2.2.1 i) rfl rfl hK (by omega) (by omega) (br_f ?_ (br_f ?_ (br_f ?_ (br_f ?_ (br_f ?_ hp)))))
    · rw [hk]; decide
    · rw [hk]; decide
    · rw [hk]; decide
    · rw [hk]; decide
    · rw [hk]; decide
theorem xs_beg58 (hk : p.2.1 i = 5 ∨ p.2.1 i = 8) (hi : i < 16) (hp : p.2.2.2.1 i < i) (hG : gq_ok g) (hn : g.1 + 36 ≤ 800) (hin : xs_In g w i) (hK : k.1 < 64) :
    ∃ g1 w1, xs_Beg p l g g1 w w1 i ∧ ∀ post : SX → Prop, post (xs o p l g1 w1 (xs_ka k 0 (p.2.2.2.1 i))) → wX_begin_55 post (nI i) (nI (p.2.1 i)) (nI (p.2.2.2.1 i)) (nI p.1) (nI o.1) (nI o.2.1) (nI g.1) (nI k.1) (nI o.2.2.1) (nI o.2.2.2.1) (nI o.2.2.2.2.1) (nI o.2.2.2.2.2.1) (xs_A p.2.1) (xs_A p.2.2.1) (xs_A p.2.2.2.1) (xs_A p.2.2.2.2) (xs_A o.2.2.2.2.2.2.1) (xs_A o.2.2.2.2.2.2.2.1) (xs_A g.2.1) (xs_A g.2.2.1) (xs_A g.2.2.2.1) (xs_A g.2.2.2.2) (xs_A o.2.2.2.2.2.2.2.2.1) (xs_A (xs_pi w i (p.2.2.2.1 i) (w.1 i)).1) (xs_A (xs_pi w i (p.2.2.2.1 i) (w.1 i)).2.1) (xs_A (xs_pi w i (p.2.2.2.1 i) (w.1 i)).2.2.1) (xs_A (xs_pi w i (p.2.2.2.1 i) (w.1 i)).2.2.2.1) (xs_A (xs_pi w i (p.2.2.2.1 i) (w.1 i)).2.2.2.2.1) (xs_A l.1) (xs_A l.2) (xs_A (xs_pi w i (p.2.2.2.1 i) (w.1 i)).2.2.2.2.2) (xs_A o.2.2.2.2.2.2.2.2.2.1) (xs_A k.2.1) (xs_A k.2.2) (xs_A o.2.2.2.2.2.2.2.2.2.2) := by
  obtain ⟨i1, i2, i3, i4⟩ := hin
  have h16 : vp_in (nI i) 16 := vp_in_nI hi (by omega)
  have p16 : vp_in (nI (p.2.2.2.1 i)) 16 := vp_in_nI (by omega) (by omega)
  have i31 : i < 2 ^ 31 := by omega
  have g10 := hG.1
  have e1 : (gq_put g 2 (w.2.2.2.1 i) 0 0).1 = g.1 + 1 := rfl
  refine ⟨gq_put g 2 (w.2.2.2.1 i) 0 0, (xs_u w.1 (p.2.2.2.1 i) (w.1 i), xs_u w.2.1 (p.2.2.2.1 i) (w.2.1 i), xs_u w.2.2.1 (p.2.2.2.1 i) (w.2.2.1 i), xs_u (xs_u w.2.2.2.1 (p.2.2.2.1 i) (w.2.2.2.1 i)) (p.2.2.2.1 i) g.1, w.2.2.2.2.1, w.2.2.2.2.2),
    ⟨gq_put_ok hG (by omega) (by omega) (by omega) (by omega) (fun _ => i4) (by omega) (by omega), gq_put_ext (by omega), by omega, ⟨fun j h => ⟨xs_un h, xs_un h, xs_un h, (xs_un h).trans (xs_un h)⟩, rfl, rfl⟩, ⟨?_, ?_, ?_, ?_⟩, fun _ => ?_, fun h h' => absurd hk (by omega), fun R m => ?_⟩, fun post hp => ?_⟩
  · show xs_u _ _ _ _ < _; rw [xs_us]; omega
  · show xs_u _ _ _ _ < _; rw [xs_us]; omega
  · show xs_u _ _ _ _ < _; rw [xs_us]; omega
  · show xs_u _ _ _ _ < _; rw [xs_us]; omega
  · show g.1 ≤ xs_u (xs_u w.2.2.2.1 (p.2.2.2.1 i) (w.2.2.2.1 i)) (p.2.2.2.1 i) g.1 (p.2.2.2.1 i) ∧ (gq_put g 2 (w.2.2.2.1 i) 0 0).2.1 (xs_u (xs_u w.2.2.2.1 (p.2.2.2.1 i) (w.2.2.2.1 i)) (p.2.2.2.1 i) g.1 (p.2.2.2.1 i)) = 2 ∧
      (gq_put g 2 (w.2.2.2.1 i) 0 0).2.2.2.2 (xs_u (xs_u w.2.2.2.1 (p.2.2.2.1 i) (w.2.2.2.1 i)) (p.2.2.2.1 i) g.1 (p.2.2.2.1 i)) = 0 ∧ (gq_put g 2 (w.2.2.2.1 i) 0 0).2.2.1 (xs_u (xs_u w.2.2.2.1 (p.2.2.2.1 i) (w.2.2.2.1 i)) (p.2.2.2.1 i) g.1 (p.2.2.2.1 i)) = w.2.2.2.1 i
    rw [xs_us]
    exact ⟨Nat.le_refl _, xs_us _ _ _, xs_us _ _ _, xs_us _ _ _⟩
  · show R (xs_u _ _ _ _) = _ ∧ R (xs_u _ _ _ _) = _ ∧ R (xs_u _ _ _ _) = _
    rw [xs_us, xs_us, xs_us]
    unfold xs_bs xs_br xs_bh
    rw [if_neg (by omega), if_neg (by omega), if_neg (by omega), if_neg (by omega)]
    exact ⟨rfl, rfl, rfl⟩
  · have B : wX_begin_230 post (nI i) (nI (p.2.2.2.1 i)) (nI p.1) (nI o.1) (nI o.2.1) (nI g.1) (nI (xs_ka k 0 (p.2.2.2.1 i)).1) (nI o.2.2.1) (nI o.2.2.2.1) (nI o.2.2.2.2.1) (nI o.2.2.2.2.2.1) (xs_A p.2.1) (xs_A p.2.2.1) (xs_A p.2.2.2.1) (xs_A p.2.2.2.2) (xs_A o.2.2.2.2.2.2.1) (xs_A o.2.2.2.2.2.2.2.1) (xs_A g.2.1) (xs_A g.2.2.1) (xs_A g.2.2.2.1) (xs_A g.2.2.2.2) (xs_A o.2.2.2.2.2.2.2.2.1) (xs_A (xs_pi w i (p.2.2.2.1 i) (w.1 i)).1) (xs_A (xs_pi w i (p.2.2.2.1 i) (w.1 i)).2.1) (xs_A (xs_pi w i (p.2.2.2.1 i) (w.1 i)).2.2.1) (xs_A (xs_pi w i (p.2.2.2.1 i) (w.1 i)).2.2.2.1) (xs_A (xs_pi w i (p.2.2.2.1 i) (w.1 i)).2.2.2.2.1) (xs_A l.1) (xs_A l.2) (xs_A (xs_pi w i (p.2.2.2.1 i) (w.1 i)).2.2.2.2.2) (xs_A o.2.2.2.2.2.2.2.2.2.1) (xs_A (xs_ka k 0 (p.2.2.2.1 i)).2.1) (xs_A (xs_ka k 0 (p.2.2.2.1 i)).2.2) (xs_A o.2.2.2.2.2.2.2.2.2.2) :=
      And.intro h16 (xs_newGate (o := o) (p := p) (l := l) (g := g) (w := xs_pi w i (p.2.2.2.1 i) (w.1 i)) (k := xs_ka k 0 (p.2.2.2.1 i)) (c := 2) (a := w.2.2.2.1 i) (b := 0) (f := 0) (by omega) rfl (by omega) (xs_at' i31 (xs_un (by omega))) (by omega) rfl (by omega) rfl (by omega)
        (And.intro p16 (nm_r (xs_ps rfl (by omega) rfl (by omega)) hp)))
    rcases hk with hk | hk
    · refine xs_ask (o := o) (p := p) (l := l) (g := g) (w := xs_pi w i (p.2.2.2.1 i) (w.1 i)) (k := k) (c := 0) (i := p.2.2.2.1 i) rfl rfl hK (by omega) (by omega) (br_f ?_ (br_f ?_ (br_f ?_ (br_t ?_ B))))
      · rw [hk]; decide
      · rw [hk]; decide
      · rw [hk]; decide
      · rw [hk]; decide
    · refine xs_ask (o := o) (p := p) (l := l) (g := g) (w := xs_pi w i (p.2.2.2.1 i) (w.1 i)) (k := k) (c := 0) (i := p.2.2.2.1 i) rfl rfl hK (by omega) (by omega) (br_f ?_ (br_f ?_ (br_f ?_ (br_f ?_ (br_t ?_ B)))))
      · rw [hk]; decide
      · rw [hk]; decide
      · rw [hk]; decide
      · rw [hk]; decide
      · rw [hk]; decide
end
end
section
/-! ===== begin as a whole; between ===== -/
section
variable {o : xs_O} {p : xs_P} {l : xs_L} {g : xs_G} {w : xs_W} {k : xs_K} {i : Nat}
theorem xs_beg (h4 : 4 ≤ p.2.1 i) (h9 : p.2.1 i ≤ 9) (hs : p.2.2.1 i < 6) (hi : i < 16) (hp : p.2.2.2.1 i < i) (hG : gq_ok g) (hn : g.1 + 36 ≤ 800) (hin : xs_In g w i) (hr : l.2 i < g.1) (hK : k.1 < 64) :
    ∃ g1 w1, xs_Beg p l g g1 w w1 i ∧ ∀ post : SX → Prop, post (xs o p l g1 w1 (xs_ka k 0 (p.2.2.2.1 i))) → wX_begin_55 post (nI i) (nI (p.2.1 i)) (nI (p.2.2.2.1 i)) (nI p.1) (nI o.1) (nI o.2.1) (nI g.1) (nI k.1) (nI o.2.2.1) (nI o.2.2.2.1) (nI o.2.2.2.2.1) (nI o.2.2.2.2.2.1) (xs_A p.2.1) (xs_A p.2.2.1) (xs_A p.2.2.2.1) (xs_A p.2.2.2.2) (xs_A o.2.2.2.2.2.2.1) (xs_A o.2.2.2.2.2.2.2.1) (xs_A g.2.1) (xs_A g.2.2.1) (xs_A g.2.2.2.1) (xs_A g.2.2.2.2) (xs_A o.2.2.2.2.2.2.2.2.1) (xs_A (xs_pi w i (p.2.2.2.1 i) (w.1 i)).1) (xs_A (xs_pi w i (p.2.2.2.1 i) (w.1 i)).2.1) (xs_A (xs_pi w i (p.2.2.2.1 i) (w.1 i)).2.2.1) (xs_A (xs_pi w i (p.2.2.2.1 i) (w.1 i)).2.2.2.1) (xs_A (xs_pi w i (p.2.2.2.1 i) (w.1 i)).2.2.2.2.1) (xs_A l.1) (xs_A l.2) (xs_A (xs_pi w i (p.2.2.2.1 i) (w.1 i)).2.2.2.2.2) (xs_A o.2.2.2.2.2.2.2.2.2.1) (xs_A k.2.1) (xs_A k.2.2) (xs_A o.2.2.2.2.2.2.2.2.2.2) := by
  by_cases e4 : p.2.1 i = 4
  · exact xs_beg4 e4 hi hp hG hn hin hr hK
  by_cases e6 : p.2.1 i = 6
  · exact xs_beg6 e6 hs hi hp hG hn hin hK
  by_cases e9 : p.2.1 i = 9
  · exact xs_beg9 e9 hs hi hp hG hn hin hK
  by_cases e7 : p.2.1 i = 7
  · exact xs_beg7 e7 hi hp hG hin hK
  · exact xs_beg58 (by omega) hi hp hG hn hin hK
theorem xs_begin1 (h4 : 4 ≤ p.2.1 i) (h7 : p.2.1 i < 7) (hs : p.2.2.1 i < 6) (hi : i < 16) (hp : p.2.2.2.1 i < i) (hG : gq_ok g) (hn : g.1 + 36 ≤ 800) (hin : xs_In g w i) (hr : l.2 i < g.1) (hK : k.1 + 2 < 64) :
    ∃ g1 w1, xs_Beg p l g g1 w w1 i ∧ ∀ (post : SX → Prop) (x : Int32), x = nI i → post (xs o p l g1 w1 (xs_ka (xs_ka k 2 i) 0 (p.2.2.2.1 i))) → wpX_begin post (xs o p l g w k) x := by
  obtain ⟨g1, w1, H, K⟩ := xs_beg (o := o) (k := xs_ka k 2 i) h4 (by omega) hs hi hp hG hn hin hr (show k.1 + 1 < 64 by omega)
  obtain ⟨i1, i2, i3, i4⟩ := hin
  refine ⟨g1, w1, H, fun post x hx hpost => ?_⟩
  subst hx
  have h16 : vp_in (nI i) 16 := vp_in_nI hi (by omega)
  have h32 : vp_in (nI i) 32 := vp_in_nI (by omega) (by omega)
  exact And.intro h32 (nm_r (e' := nI (p.2.1 i)) (xs_at (by omega)) (br_t (nI_le (a := 4) h4 (by omega)) (And.intro h32 (nm_r (e' := nI (p.2.2.2.1 i)) (xs_at (by omega)) (And.intro h16
    (xs_passIn (f := i) (t := p.2.2.2.1 i) (r := w.1 i) rfl rfl (xs_at (by omega)) hi (by omega) (by omega) (by omega) (by omega) (by omega)
      (xs_ask (w := xs_pi w i (p.2.2.2.1 i) (w.1 i)) (c := 2) (i := i) rfl rfl (by omega) (by omega) (by omega) (br_t (nI_lt (b := 7) h7 (by omega)) (K post hpost)))))))))
theorem xs_begin2 (h7 : 7 ≤ p.2.1 i) (h9 : p.2.1 i ≤ 9) (hs : p.2.2.1 i < 6) (hi : i < 16) (hp : p.2.2.2.1 i < i) (hG : gq_ok g) (hn : g.1 + 36 ≤ 800) (hin : xs_In g w i) (hr : l.2 i < g.1) (hK : k.1 + 3 < 64) :
    ∃ g1 w1, xs_Beg p l g g1 w w1 i ∧ ∀ (post : SX → Prop) (x : Int32), x = nI i → post (xs o p l g1 w1 (xs_ka (xs_ka (xs_ka k 2 i) 1 i) 0 (p.2.2.2.1 i))) → wpX_begin post (xs o p l g w k) x := by
  obtain ⟨g1, w1, H, K⟩ := xs_beg (o := o) (k := xs_ka (xs_ka k 2 i) 1 i) (by omega) h9 hs hi hp hG hn hin hr (show k.1 + 1 + 1 < 64 by omega)
  obtain ⟨i1, i2, i3, i4⟩ := hin
  refine ⟨g1, w1, H, fun post x hx hpost => ?_⟩
  subst hx
  have h16 : vp_in (nI i) 16 := vp_in_nI hi (by omega)
  have h32 : vp_in (nI i) 32 := vp_in_nI (by omega) (by omega)
  exact And.intro h32 (nm_r (e' := nI (p.2.1 i)) (xs_at (by omega)) (br_t (nI_le (a := 4) (by omega) (by omega)) (And.intro h32 (nm_r (e' := nI (p.2.2.2.1 i)) (xs_at (by omega)) (And.intro h16
    (xs_passIn (f := i) (t := p.2.2.2.1 i) (r := w.1 i) rfl rfl (xs_at (by omega)) hi (by omega) (by omega) (by omega) (by omega) (by omega)
      (xs_ask (w := xs_pi w i (p.2.2.2.1 i) (w.1 i)) (c := 2) (i := i) rfl rfl (by omega) (by omega) (by omega) (br_f (nI_nlt (b := 7) h7 (by omega))
        (xs_ask (w := xs_pi w i (p.2.2.2.1 i) (w.1 i)) (k := xs_ka k 2 i) (c := 1) (i := i) rfl rfl (show k.1 + 1 < 64 by omega) (by omega) (by omega) (K post hpost))))))))))
/-- the wires into the second part -/
def xs_qs (p : xs_P) (R : Nat → rv_V) (w : xs_W) (i : Nat) : rv_V :=
  if p.2.1 i = 7 then R (w.2.2.2.2.1 (5 * p.2.2.2.1 i + 0)) else if p.2.1 i = 9 then rv_and (R (w.1 i)) (rv_not (R (4 + p.2.2.1 i))) else R (w.1 i)
def xs_Btw (p : xs_P) (g g1 : xs_G) (w w1 : xs_W) (i : Nat) : Prop :=
  gq_ok g1 ∧ gq_ext g g1 ∧ g1.1 ≤ g.1 + 2 ∧ xs_F1 (p.2.2.2.2 i) w w1 ∧ xs_In g1 w1 (p.2.2.2.2 i) ∧
  w1.2.2.2.1 (p.2.2.2.2 i) = (if p.2.1 i = 8 then w.2.2.2.1 (p.2.2.2.1 i) else w.2.2.2.1 i) ∧
  ∀ R, gq_md g1 R → R (w1.1 (p.2.2.2.2 i)) = xs_qs p R w i ∧ R (w1.2.1 (p.2.2.2.2 i)) = R (w.2.1 i) ∧ R (w1.2.2.1 (p.2.2.2.2 i)) = R (w.2.2.1 i)
theorem xs_btw_k {post : SX → Prop} {r : Nat} {x : Int32} (hx : x = nI r) (hi : i < 16) (hq : p.2.2.2.2 i < 16) (hk : p.2.1 i ≠ 8) (h9 : p.2.1 i ≤ 9) (hr : r < 32768) (i2 : w.2.1 i < 32768) (i3 : w.2.2.1 i < 32768) (i4 : w.2.2.2.1 i < 32768) (hK : k.1 < 64)
    (h : post (xs o p l g (xs_pi w i (p.2.2.2.2 i) r) (xs_ka k 0 (p.2.2.2.2 i)))) : wX_between_81 post (nI i) (nI (p.2.1 i)) (nI (p.2.2.2.1 i)) (nI (p.2.2.2.2 i)) x (nI p.1) (nI o.1) (nI o.2.1) (nI g.1) (nI k.1) (nI o.2.2.1) (nI o.2.2.2.1) (nI o.2.2.2.2.1) (nI o.2.2.2.2.2.1) (xs_A p.2.1) (xs_A p.2.2.1) (xs_A p.2.2.2.1) (xs_A p.2.2.2.2) (xs_A o.2.2.2.2.2.2.1) (xs_A o.2.2.2.2.2.2.2.1) (xs_A g.2.1) (xs_A g.2.2.1) (xs_A g.2.2.2.1) (xs_A g.2.2.2.2) (xs_A o.2.2.2.2.2.2.2.2.1) (xs_A w.1) (xs_A w.2.1) (xs_A w.2.2.1) (xs_A w.2.2.2.1) (xs_A w.2.2.2.2.1) (xs_A l.1) (xs_A l.2) (xs_A w.2.2.2.2.2) (xs_A o.2.2.2.2.2.2.2.2.2.1) (xs_A k.2.1) (xs_A k.2.2) (xs_A o.2.2.2.2.2.2.2.2.2.2) :=
  xs_passIn (o := o) (p := p) (l := l) (g := g) (w := w) (k := k) (f := i) (t := p.2.2.2.2 i) (r := r) rfl rfl hx hi hq hr i2 i3 i4
    (br_f (xs_ne 8 rfl (by omega) (by omega) hk) (xs_ask (w := xs_pi w i (p.2.2.2.2 i) r) (c := 0) (i := p.2.2.2.2 i) rfl rfl hK (by omega) (by omega) h))
theorem xs_btw7 (hk : p.2.1 i = 7) (hi : i < 16) (hp : p.2.2.2.1 i < 16) (hq : p.2.2.2.2 i < 16) (hG : gq_ok g) (hin : xs_In g w i) (hc : w.2.2.2.2.1 (5 * p.2.2.2.1 i + 0) < g.1) (hK : k.1 < 64) :
    ∃ g1 w1, xs_Btw p g g1 w w1 i ∧ ∀ (post : SX → Prop) (x : Int32), x = nI i → post (xs o p l g1 w1 (xs_ka k 0 (p.2.2.2.2 i))) → wpX_between post (xs o p l g w k) x := by
  obtain ⟨i1, i2, i3, i4⟩ := hin
  have g8 := hG.2.1
  have h16 : vp_in (nI i) 16 := vp_in_nI hi (by omega)
  have h32 : vp_in (nI i) 32 := vp_in_nI (by omega) (by omega)
  refine ⟨g, xs_pi w i (p.2.2.2.2 i) (w.2.2.2.2.1 (5 * p.2.2.2.1 i + 0)), ⟨hG, gq_ext_rf g, by omega, xs_pi_F1 _ _ _ _, ⟨?_, ?_, ?_, ?_⟩, ?_, fun R m => ?_⟩, fun post x hx h => ?_⟩
  · show xs_u _ _ _ _ < _; rw [xs_us]; omega
  · show xs_u _ _ _ _ < _; rw [xs_us]; omega
  · show xs_u _ _ _ _ < _; rw [xs_us]; omega
  · show xs_u _ _ _ _ < _; rw [xs_us]; omega
  · rw [if_neg (by omega)]; exact xs_us _ _ _
  · show R (xs_u _ _ _ _) = _ ∧ R (xs_u _ _ _ _) = _ ∧ R (xs_u _ _ _ _) = _
    rw [xs_us, xs_us, xs_us]
    unfold xs_qs
    rw [if_pos hk]
    exact ⟨rfl, rfl, rfl⟩
  · subst hx
    refine And.intro h32 (nm_r (e' := nI (p.2.1 i)) (xs_at (by omega)) (And.intro h32 (nm_r (e' := nI (p.2.2.2.1 i)) (xs_at (by omega)) (And.intro h32 (nm_r (e' := nI (p.2.2.2.2 i)) (xs_at (by omega)) (And.intro h16 (nm_r (e' := nI (w.1 i)) (xs_at (by omega)) (br_t ?_
      (xs_codeOf (i := p.2.2.2.1 i) (c := 0) rfl rfl (by omega) (xs_btw_k rfl hi hq (by omega) (by omega) (by omega) (by omega) (by omega) (by omega) hK h))))))))))
    rw [hk]; rfl
theorem xs_btw9 (hk : p.2.1 i = 9) (hs : p.2.2.1 i < 6) (hi : i < 16) (hp : p.2.2.2.1 i < 16) (hq : p.2.2.2.2 i < 16) (hG : gq_ok g) (hn : g.1 + 36 ≤ 800) (hin : xs_In g w i) (hK : k.1 < 64) :
    ∃ g1 w1, xs_Btw p g g1 w w1 i ∧ ∀ (post : SX → Prop) (x : Int32), x = nI i → post (xs o p l g1 w1 (xs_ka k 0 (p.2.2.2.2 i))) → wpX_between post (xs o p l g w k) x := by
  obtain ⟨i1, i2, i3, i4⟩ := hin
  have g10 := hG.1
  have g8 := hG.2.1
  have i31 : i < 2 ^ 31 := by omega
  have h16 : vp_in (nI i) 16 := vp_in_nI hi (by omega)
  have h32 : vp_in (nI i) 32 := vp_in_nI (by omega) (by omega)
  have es : (4 : Int32) + xs_A p.2.2.1 (nI i).toNatClampNeg = nI (4 + p.2.2.1 i) := by rw [xs_at i31]; exact nI_add 4 _
  obtain ⟨r1, g1, H1, K1⟩ := xs_not (o := o) (p := p) (l := l) (w := w) (k := k) hG (by omega) (a := 4 + p.2.2.1 i) (by omega)
  have n1 := H1.2.2.1; have x1 := H1.2.1.1.1; have q1 := H1.2.2.2.1
  obtain ⟨r2, g2, H2, K2⟩ := xs_and (o := o) (p := p) (l := l) (w := w) (k := k) H1.1 (by omega) (a := w.1 i) (b := r1) (by omega) q1
  have n2 := H2.2.2.1; have x2 := H2.2.1.1.1; have q2 := H2.2.2.2.1; have m2 := H2.1.2.1
  refine ⟨g2, xs_pi w i (p.2.2.2.2 i) r2, ⟨H2.1, gq_ext_tr H1.2.1 H2.2.1, by omega, xs_pi_F1 _ _ _ _, ⟨?_, ?_, ?_, ?_⟩, ?_, fun R m => ?_⟩, fun post x hx h => ?_⟩
  · show xs_u _ _ _ _ < _; rw [xs_us]; omega
  · show xs_u _ _ _ _ < _; rw [xs_us]; omega
  · show xs_u _ _ _ _ < _; rw [xs_us]; omega
  · show xs_u _ _ _ _ < _; rw [xs_us]; omega
  · rw [if_neg (by omega)]; exact xs_us _ _ _
  · have e2 : R r2 = rv_and (R (w.1 i)) (R r1) := H2.2.2.2.2 R m
    have e1 : R r1 = rv_not (R (4 + p.2.2.1 i)) := H1.2.2.2.2 R (gq_md_of H1.1 H2.2.1.1 m)
    show R (xs_u _ _ _ _) = _ ∧ R (xs_u _ _ _ _) = _ ∧ R (xs_u _ _ _ _) = _
    rw [xs_us, xs_us, xs_us]
    unfold xs_qs
    rw [if_neg (by omega), if_pos hk, e2, e1]
    exact ⟨rfl, rfl, rfl⟩
  · subst hx
    refine And.intro h32 (nm_r (e' := nI (p.2.1 i)) (xs_at (by omega)) (And.intro h32 (nm_r (e' := nI (p.2.2.2.1 i)) (xs_at (by omega)) (And.intro h32 (nm_r (e' := nI (p.2.2.2.2 i)) (xs_at (by omega)) (And.intro h16 (nm_r (e' := nI (w.1 i)) (xs_at (by omega)) (br_f ?_ (br_t ?_
      (And.intro h32 (K1 _ _ es (And.intro h16 (K2 _ _ _ (xs_at i31) rfl (xs_btw_k rfl hi hq (by omega) (by omega) (by omega) (by omega) (by omega) (by omega) hK h))))))))))))))
    · rw [hk]; decide
    · rw [hk]; decide
theorem xs_btw8 (hk : p.2.1 i = 8) (hi : i < 16) (hp : p.2.2.2.1 i < 16) (hq : p.2.2.2.2 i < 16) (hpq : p.2.2.2.1 i ≠ p.2.2.2.2 i) (hG : gq_ok g) (hin : xs_In g w i) (hc : w.2.2.2.1 (p.2.2.2.1 i) < g.1) (hK : k.1 < 64) :
    ∃ g1 w1, xs_Btw p g g1 w w1 i ∧ ∀ (post : SX → Prop) (x : Int32), x = nI i → post (xs o p l g1 w1 (xs_ka k 0 (p.2.2.2.2 i))) → wpX_between post (xs o p l g w k) x := by
  obtain ⟨i1, i2, i3, i4⟩ := hin
  have g8 := hG.2.1
  have h16 : vp_in (nI i) 16 := vp_in_nI hi (by omega)
  have p16 : vp_in (nI (p.2.2.2.1 i)) 16 := vp_in_nI hp (by omega)
  have q16 : vp_in (nI (p.2.2.2.2 i)) 16 := vp_in_nI hq (by omega)
  have h32 : vp_in (nI i) 32 := vp_in_nI (by omega) (by omega)
  refine ⟨g, (xs_u w.1 (p.2.2.2.2 i) (w.1 i), xs_u w.2.1 (p.2.2.2.2 i) (w.2.1 i), xs_u w.2.2.1 (p.2.2.2.2 i) (w.2.2.1 i), xs_u (xs_u w.2.2.2.1 (p.2.2.2.2 i) (w.2.2.2.1 i)) (p.2.2.2.2 i) (w.2.2.2.1 (p.2.2.2.1 i)), w.2.2.2.2.1, w.2.2.2.2.2),
    ⟨hG, gq_ext_rf g, by omega, ⟨fun j h => ⟨xs_un h, xs_un h, xs_un h, (xs_un h).trans (xs_un h)⟩, rfl, rfl⟩, ⟨?_, ?_, ?_, ?_⟩, ?_, fun R m => ?_⟩, fun post x hx h => ?_⟩
  · show xs_u _ _ _ _ < _; rw [xs_us]; omega
  · show xs_u _ _ _ _ < _; rw [xs_us]; omega
  · show xs_u _ _ _ _ < _; rw [xs_us]; omega
  · show xs_u _ _ _ _ < _; rw [xs_us]; omega
  · rw [if_pos hk]; exact xs_us _ _ _
  · show R (xs_u _ _ _ _) = _ ∧ R (xs_u _ _ _ _) = _ ∧ R (xs_u _ _ _ _) = _
    rw [xs_us, xs_us, xs_us]
    unfold xs_qs
    rw [if_neg (by omega), if_neg (by omega)]
    exact ⟨rfl, rfl, rfl⟩
  · subst hx
    refine And.intro h32 (nm_r (e' := nI (p.2.1 i)) (xs_at (by omega)) (And.intro h32 (nm_r (e' := nI (p.2.2.2.1 i)) (xs_at (by omega)) (And.intro h32 (nm_r (e' := nI (p.2.2.2.2 i)) (xs_at (by omega)) (And.intro h16 (nm_r (e' := nI (w.1 i)) (xs_at (by omega)) (br_f ?_ (br_f ?_
      (xs_passIn (o := o) (p := p) (l := l) (g := g) (w := w) (k := k) (f := i) (t := p.2.2.2.2 i) (r := w.1 i) rfl rfl rfl hi hq (by omega) (by omega) (by omega) (by omega)
        (br_t ?_ (And.intro p16 (And.intro q16 (nm_r (xs_ps' rfl (by omega) (xs_at' (by omega) (xs_un hpq)) (by omega))
          (xs_ask (w := (xs_u w.1 (p.2.2.2.2 i) (w.1 i), xs_u w.2.1 (p.2.2.2.2 i) (w.2.1 i), xs_u w.2.2.1 (p.2.2.2.2 i) (w.2.2.1 i), xs_u (xs_u w.2.2.2.1 (p.2.2.2.2 i) (w.2.2.2.1 i)) (p.2.2.2.2 i) (w.2.2.2.1 (p.2.2.2.1 i)), w.2.2.2.2.1, w.2.2.2.2.2)) (c := 0) (i := p.2.2.2.2 i) rfl rfl hK (by omega) (by omega) h)))))))))))))))
    · rw [hk]; decide
    · rw [hk]; decide
    · rw [hk]; decide
theorem xs_between (h7 : 7 ≤ p.2.1 i) (h9 : p.2.1 i ≤ 9) (hs : p.2.2.1 i < 6) (hi : i < 16) (hp : p.2.2.2.1 i < 16) (hq : p.2.2.2.2 i < 16) (hpq : p.2.2.2.1 i ≠ p.2.2.2.2 i) (hG : gq_ok g) (hn : g.1 + 36 ≤ 800) (hin : xs_In g w i)
    (hc : w.2.2.2.2.1 (5 * p.2.2.2.1 i + 0) < g.1) (hc' : w.2.2.2.1 (p.2.2.2.1 i) < g.1) (hK : k.1 < 64) :
    ∃ g1 w1, xs_Btw p g g1 w w1 i ∧ ∀ (post : SX → Prop) (x : Int32), x = nI i → post (xs o p l g1 w1 (xs_ka k 0 (p.2.2.2.2 i))) → wpX_between post (xs o p l g w k) x := by
  by_cases e7 : p.2.1 i = 7
  · exact xs_btw7 e7 hi hp hq hG hin hc hK
  by_cases e8 : p.2.1 i = 8
  · exact xs_btw8 e8 hi hp hq hpq hG hin hc' hK
  · exact xs_btw9 (by omega) hs hi hp hq hG hn hin hK
end
end
section
/-! ===== finish ===== -/
/-- f with b, .., b + m - 1 copied to a, .. -/
def xs_cp (f : xs_f) (a b m : Nat) : xs_f := fun t => if a ≤ t ∧ t < a + m then f (b + (t - a)) else f t
theorem xs_cp0 (f : xs_f) (a b : Nat) : xs_cp f a b 0 = f := by funext t; exact if_neg (by omega)
theorem xs_cp_out {f : xs_f} {a b m t : Nat} (h : ¬ (a ≤ t ∧ t < a + m)) : xs_cp f a b m t = f t := if_neg h
theorem xs_cp_in {f : xs_f} {a b m c : Nat} (h : c < m) : xs_cp f a b m (a + c) = f (b + c) := by
  unfold xs_cp; rw [if_pos (by omega)]; congr 1; omega
theorem xs_cps (f : xs_f) (a b m : Nat) : xs_u (xs_cp f a b m) (a + m) (f (b + m)) = xs_cp f a b (m + 1) := by
  funext t; unfold xs_u xs_cp
  by_cases h : t = a + m
  · rw [if_pos h, if_pos (by omega)]; congr 1; omega
  · rw [if_neg h]
    by_cases h2 : a ≤ t ∧ t < a + m
    · rw [if_pos h2, if_pos (by omega)]
    · rw [if_neg h2, if_neg (by omega)]
/-- the codes of i out of its parts' -/
def xs_fc (p : xs_P) (R : Nat → rv_V) (l : xs_L) (w : xs_W) (i c : Nat) : rv_V :=
  if p.2.1 i = 4 then fa_loop (fun c => R (w.2.2.2.2.1 (5 * p.2.2.2.1 i + c))) c
  else if p.2.1 i = 5 then fa_trap (fun c => R (w.2.2.2.2.1 (5 * p.2.2.2.1 i + c))) c
  else if p.2.1 i = 6 then (if c = 1 then rv_or (R (w.2.2.2.2.1 (5 * p.2.2.2.1 i + 1))) (rv_and (rv_and (R (w.2.1 i)) (R (4 + p.2.2.1 i))) (R (l.1 (p.2.2.2.1 i)))) else R (w.2.2.2.2.1 (5 * p.2.2.2.1 i + c)))
  else if p.2.1 i = 7 then (if c = 0 then R (w.2.2.2.2.1 (5 * p.2.2.2.2 i + 0)) else rv_or (R (w.2.2.2.2.1 (5 * p.2.2.2.1 i + c))) (R (w.2.2.2.2.1 (5 * p.2.2.2.2 i + c))))
  else if p.2.1 i = 8 then rv_and (rv_and (rv_up (rv_and (rv_and (R (l.1 i)) (R (w.2.1 i))) (rv_not (R (l.1 (p.2.2.2.1 i))))) (fun c => R (w.2.2.2.2.1 (5 * p.2.2.2.1 i + c))) c)
      (rv_up (rv_and (rv_and (R (l.1 i)) (R (w.2.1 i))) (rv_not (R (l.1 (p.2.2.2.2 i))))) (fun c => R (w.2.2.2.2.1 (5 * p.2.2.2.2 i + c))) c)) (rv_or (R (w.2.2.2.2.1 (5 * p.2.2.2.1 i + c))) (R (w.2.2.2.2.1 (5 * p.2.2.2.2 i + c))))
  else rv_or (R (w.2.2.2.2.1 (5 * p.2.2.2.1 i + c))) (R (w.2.2.2.2.1 (5 * p.2.2.2.2 i + c)))
def xs_Fin (p : xs_P) (l : xs_L) (g g1 : xs_G) (w w1 : xs_W) (i : Nat) : Prop :=
  gq_ok g1 ∧ g.1 ≤ g1.1 ∧ g1.1 ≤ g.1 + 36 ∧
  (∀ j, j < g.1 → g1.2.1 j = g.2.1 j ∧ g1.2.2.1 j = g.2.2.1 j ∧ g1.2.2.2.2 j = g.2.2.2.2 j ∧ ((p.2.1 i = 5 ∨ p.2.1 i = 8 → j ≠ w.2.2.2.1 (p.2.2.2.1 i)) → g1.2.2.2.1 j = g.2.2.2.1 j)) ∧
  (∀ j, g.1 ≤ j → j < g1.1 → g1.2.1 j ≠ 0) ∧
  (w1.1 = w.1 ∧ w1.2.1 = w.2.1 ∧ w1.2.2.1 = w.2.2.1 ∧ w1.2.2.2.1 = w.2.2.2.1) ∧
  (∀ t, ¬ (5 * i ≤ t ∧ t < 5 * i + 5) → w1.2.2.2.2.1 t = w.2.2.2.2.1 t) ∧ (∀ j, j ≠ i → w1.2.2.2.2.2 j = w.2.2.2.2.2 j) ∧
  (∀ c, c < 5 → w1.2.2.2.2.1 (5 * i + c) < g1.1) ∧ (p.2.1 i = 4 → w1.2.2.2.2.2 i < g1.1) ∧
  ∀ R, gq_md g1 R → gq_md g R ∧ (∀ c, c < 5 → R (w1.2.2.2.2.1 (5 * i + c)) = xs_fc p R l w i c) ∧
    (p.2.1 i = 4 → R (w1.2.2.2.2.2 i) = rv_and (rv_or (R (w.2.2.2.2.1 (5 * p.2.2.2.1 i + 0))) (rv_and (R (w.2.2.1 i)) (R (l.2 i)))) (rv_not (R (w.2.2.2.1 i)))) ∧
    (p.2.1 i = 5 → R (g1.2.2.2.1 (w.2.2.2.1 (p.2.2.2.1 i))) = R (w.2.2.2.2.1 (5 * p.2.2.2.1 i + 2))) ∧
    (p.2.1 i = 8 → R (g1.2.2.2.1 (w.2.2.2.1 (p.2.2.2.1 i))) = rv_or (rv_or (R (w1.2.2.2.2.1 (5 * i + 2))) (R (w1.2.2.2.2.1 (5 * i + 3)))) (R (w1.2.2.2.2.1 (5 * i + 4))))
/-- where the gates are only more -/
theorem xs_Fin_ext {p : xs_P} {l : xs_L} {g g1 : xs_G} {w w1 : xs_W} {i : Nat} (hG : gq_ok g) (h5 : p.2.1 i ≠ 5) (h8 : p.2.1 i ≠ 8) (h1 : gq_ok g1) (h2 : gq_ext g g1) (h3 : g1.1 ≤ g.1 + 36)
    (hw : w1.1 = w.1 ∧ w1.2.1 = w.2.1 ∧ w1.2.2.1 = w.2.2.1 ∧ w1.2.2.2.1 = w.2.2.2.1) (hc : ∀ t, ¬ (5 * i ≤ t ∧ t < 5 * i + 5) → w1.2.2.2.2.1 t = w.2.2.2.2.1 t) (hb : ∀ j, j ≠ i → w1.2.2.2.2.2 j = w.2.2.2.2.2 j)
    (hcb : ∀ c, c < 5 → w1.2.2.2.2.1 (5 * i + c) < g1.1) (hbb : p.2.1 i = 4 → w1.2.2.2.2.2 i < g1.1)
    (hR : ∀ R, gq_md g1 R → (∀ c, c < 5 → R (w1.2.2.2.2.1 (5 * i + c)) = xs_fc p R l w i c) ∧
      (p.2.1 i = 4 → R (w1.2.2.2.2.2 i) = rv_and (rv_or (R (w.2.2.2.2.1 (5 * p.2.2.2.1 i + 0))) (rv_and (R (w.2.2.1 i)) (R (l.2 i)))) (rv_not (R (w.2.2.2.1 i))))) : xs_Fin p l g g1 w w1 i :=
  ⟨h1, h2.1.1, h3, fun j hj => ⟨(h2.1.2.1 j hj).1, (h2.1.2.1 j hj).2.1, (h2.1.2.1 j hj).2.2.1, fun _ => h2.2 j hj⟩, h2.1.2.2, hw, hc, hb, hcb, hbb,
    fun R m => ⟨gq_md_of hG h2.1 m, (hR R m).1, (hR R m).2, fun h => absurd h h5, fun h => absurd h h8⟩⟩
/-- where a kill gate gets its second input -/
theorem xs_Fin_sb {p : xs_P} {l : xs_L} {g ge : xs_G} {w w1 : xs_W} {i r : Nat} (hG : gq_ok g) (hk : p.2.1 i = 5 ∨ p.2.1 i = 8) (h1 : gq_ok ge) (h2 : gq_ext g ge) (h3 : ge.1 ≤ g.1 + 36) (hr : r < ge.1) (hkg : w.2.2.2.1 (p.2.2.2.1 i) < g.1) (hf : g.2.2.2.2 (w.2.2.2.1 (p.2.2.2.1 i)) = 0)
    (hw : w1.1 = w.1 ∧ w1.2.1 = w.2.1 ∧ w1.2.2.1 = w.2.2.1 ∧ w1.2.2.2.1 = w.2.2.2.1) (hc : ∀ t, ¬ (5 * i ≤ t ∧ t < 5 * i + 5) → w1.2.2.2.2.1 t = w.2.2.2.2.1 t) (hb : ∀ j, j ≠ i → w1.2.2.2.2.2 j = w.2.2.2.2.2 j)
    (hcb : ∀ c, c < 5 → w1.2.2.2.2.1 (5 * i + c) < ge.1)
    (hR : ∀ R, gq_md ge R → (∀ c, c < 5 → R (w1.2.2.2.2.1 (5 * i + c)) = xs_fc p R l w i c) ∧ (p.2.1 i = 5 → R r = R (w.2.2.2.2.1 (5 * p.2.2.2.1 i + 2))) ∧
      (p.2.1 i = 8 → R r = rv_or (rv_or (R (w1.2.2.2.2.1 (5 * i + 2))) (R (w1.2.2.2.2.1 (5 * i + 3)))) (R (w1.2.2.2.2.1 (5 * i + 4))))) : xs_Fin p l g (gq_sb ge (w.2.2.2.1 (p.2.2.2.1 i)) r) w w1 i := by
  have hf' : ge.2.2.2.2 (w.2.2.2.1 (p.2.2.2.1 i)) ≠ 1 := by rw [(h2.1.2.1 _ hkg).2.2.1, hf]; omega
  have eb : (gq_sb ge (w.2.2.2.1 (p.2.2.2.1 i)) r).2.2.2.1 (w.2.2.2.1 (p.2.2.2.1 i)) = r := xs_us _ _ _
  refine ⟨gq_sb_ok h1 hr, h2.1.1, h3, fun j hj => ⟨(h2.1.2.1 j hj).1, (h2.1.2.1 j hj).2.1, (h2.1.2.1 j hj).2.2.1, fun h => ?_⟩, h2.1.2.2, hw, hc, hb, hcb, fun h => by omega, fun R m => ?_⟩
  · exact (xs_un (h hk)).trans (h2.2 j hj)
  · have m' := gq_sb_md hf' m
    refine ⟨gq_md_of hG h2.1 m', (hR R m').1, fun h => by omega, fun h => ?_, fun h => ?_⟩
    · rw [eb]; exact (hR R m').2.1 h
    · rw [eb]; exact (hR R m').2.2 h
section
variable {o : xs_O} {p : xs_P} {l : xs_L} {g : xs_G} {w : xs_W} {k : xs_K} {i : Nat}
theorem xs_fo_loop {post : SX → Prop} {x2 : Int32} {q n : Nat} (hi : i < 16) (hq : q < i) (hb : ∀ c, c < 5 → w.2.2.2.2.1 (5 * q + c) < 32768)
    (h : wX_finishOne_17 post (nI i) x2 (nI q) n (nI 5) (nI p.1) (nI o.1) (nI o.2.1) (nI g.1) (nI k.1) (nI o.2.2.1) (nI o.2.2.2.1) (nI o.2.2.2.2.1) (nI o.2.2.2.2.2.1) (xs_A p.2.1) (xs_A p.2.2.1) (xs_A p.2.2.2.1) (xs_A p.2.2.2.2) (xs_A o.2.2.2.2.2.2.1) (xs_A o.2.2.2.2.2.2.2.1) (xs_A g.2.1) (xs_A g.2.2.1) (xs_A g.2.2.2.1) (xs_A g.2.2.2.2) (xs_A o.2.2.2.2.2.2.2.2.1) (xs_A (xs_wc w (xs_cp w.2.2.2.2.1 (5 * i) (5 * q) 5)).1) (xs_A (xs_wc w (xs_cp w.2.2.2.2.1 (5 * i) (5 * q) 5)).2.1) (xs_A (xs_wc w (xs_cp w.2.2.2.2.1 (5 * i) (5 * q) 5)).2.2.1) (xs_A (xs_wc w (xs_cp w.2.2.2.2.1 (5 * i) (5 * q) 5)).2.2.2.1) (xs_A (xs_wc w (xs_cp w.2.2.2.2.1 (5 * i) (5 * q) 5)).2.2.2.2.1) (xs_A l.1) (xs_A l.2) (xs_A (xs_wc w (xs_cp w.2.2.2.2.1 (5 * i) (5 * q) 5)).2.2.2.2.2) (xs_A o.2.2.2.2.2.2.2.2.2.1) (xs_A k.2.1) (xs_A k.2.2) (xs_A o.2.2.2.2.2.2.2.2.2.2)) :
    ∀ d j, j + d = 5 → wX_finishOne_17 post (nI i) x2 (nI q) (n + d) (nI j) (nI p.1) (nI o.1) (nI o.2.1) (nI g.1) (nI k.1) (nI o.2.2.1) (nI o.2.2.2.1) (nI o.2.2.2.2.1) (nI o.2.2.2.2.2.1) (xs_A p.2.1) (xs_A p.2.2.1) (xs_A p.2.2.2.1) (xs_A p.2.2.2.2) (xs_A o.2.2.2.2.2.2.1) (xs_A o.2.2.2.2.2.2.2.1) (xs_A g.2.1) (xs_A g.2.2.1) (xs_A g.2.2.2.1) (xs_A g.2.2.2.2) (xs_A o.2.2.2.2.2.2.2.2.1) (xs_A (xs_wc w (xs_cp w.2.2.2.2.1 (5 * i) (5 * q) j)).1) (xs_A (xs_wc w (xs_cp w.2.2.2.2.1 (5 * i) (5 * q) j)).2.1) (xs_A (xs_wc w (xs_cp w.2.2.2.2.1 (5 * i) (5 * q) j)).2.2.1) (xs_A (xs_wc w (xs_cp w.2.2.2.2.1 (5 * i) (5 * q) j)).2.2.2.1) (xs_A (xs_wc w (xs_cp w.2.2.2.2.1 (5 * i) (5 * q) j)).2.2.2.2.1) (xs_A l.1) (xs_A l.2) (xs_A (xs_wc w (xs_cp w.2.2.2.2.1 (5 * i) (5 * q) j)).2.2.2.2.2) (xs_A o.2.2.2.2.2.2.2.2.2.1) (xs_A k.2.1) (xs_A k.2.2) (xs_A o.2.2.2.2.2.2.2.2.2.2) := by
  intro d
  induction d with
  | zero => intro j hj; have e : j = 5 := by omega
            subst e; exact h
  | succ d ih =>
    intro j hj
    have e : xs_cp w.2.2.2.2.1 (5 * i) (5 * q) j (5 * q + j) = w.2.2.2.2.1 (5 * q + j) := xs_cp_out (by omega)
    have hb := hb j (by omega)
    have L := ih (j + 1) (by omega)
    rw [← xs_cps] at L
    refine br_f (nI_ge (b := 5) (by omega) (by omega)) (xs_codeOf (o := o) (p := p) (l := l) (g := g) (w := xs_wc w (xs_cp w.2.2.2.2.1 (5 * i) (5 * q) j)) (k := k) (i := q) (c := j) rfl rfl (by omega)
      (xs_setCode (o := o) (p := p) (l := l) (g := g) (w := xs_wc w (xs_cp w.2.2.2.2.1 (5 * i) (5 * q) j)) (k := k) (i := i) (c := j) (r := w.2.2.2.2.1 (5 * q + j)) rfl rfl (congrArg nI e) (by omega) hb (nm_r (nI_1 j) L)))
/-- into finish of a statement with one part, behind the copying of its codes -/
theorem xs_fo_in (h4 : 4 ≤ p.2.1 i) (h7 : p.2.1 i < 7) (hi : i < 16) (hq : p.2.2.2.1 i < i) (hb : ∀ c, c < 5 → w.2.2.2.2.1 (5 * p.2.2.2.1 i + c) < 32768) {post : SX → Prop} {x : Int32} (hx : x = nI i)
    (h : wX_finishOne_17 post (nI i) (nI (p.2.1 i)) (nI (p.2.2.2.1 i)) 1 (nI 5) (nI p.1) (nI o.1) (nI o.2.1) (nI g.1) (nI k.1) (nI o.2.2.1) (nI o.2.2.2.1) (nI o.2.2.2.2.1) (nI o.2.2.2.2.2.1) (xs_A p.2.1) (xs_A p.2.2.1) (xs_A p.2.2.2.1) (xs_A p.2.2.2.2) (xs_A o.2.2.2.2.2.2.1) (xs_A o.2.2.2.2.2.2.2.1) (xs_A g.2.1) (xs_A g.2.2.1) (xs_A g.2.2.2.1) (xs_A g.2.2.2.2) (xs_A o.2.2.2.2.2.2.2.2.1) (xs_A (xs_wc w (xs_cp w.2.2.2.2.1 (5 * i) (5 * p.2.2.2.1 i) 5)).1) (xs_A (xs_wc w (xs_cp w.2.2.2.2.1 (5 * i) (5 * p.2.2.2.1 i) 5)).2.1) (xs_A (xs_wc w (xs_cp w.2.2.2.2.1 (5 * i) (5 * p.2.2.2.1 i) 5)).2.2.1) (xs_A (xs_wc w (xs_cp w.2.2.2.2.1 (5 * i) (5 * p.2.2.2.1 i) 5)).2.2.2.1) (xs_A (xs_wc w (xs_cp w.2.2.2.2.1 (5 * i) (5 * p.2.2.2.1 i) 5)).2.2.2.2.1) (xs_A l.1) (xs_A l.2) (xs_A (xs_wc w (xs_cp w.2.2.2.2.1 (5 * i) (5 * p.2.2.2.1 i) 5)).2.2.2.2.2) (xs_A o.2.2.2.2.2.2.2.2.2.1) (xs_A k.2.1) (xs_A k.2.2) (xs_A o.2.2.2.2.2.2.2.2.2.2)) : wpX_finish post (xs o p l g w k) x := by
  have h32 : vp_in (nI i) 32 := vp_in_nI (by omega) (by omega)
  subst hx
  have L := xs_fo_loop (o := o) (p := p) (l := l) (g := g) (w := w) (k := k) (post := post) (x2 := nI (p.2.1 i)) hi hq hb h 5 0 rfl
  rw [xs_cp0] at L
  exact And.intro h32 (nm_r (e' := nI (p.2.1 i)) (xs_at (by omega)) (br_f (nI_ge (b := 7) h7 (by omega)) (And.intro h32 (nm_r (e' := nI (p.2.1 i)) (xs_at (by omega)) (And.intro h32 (nm_r (e' := nI (p.2.2.2.1 i)) (xs_at (by omega)) (Exists.intro 6 L)))))))
theorem xs_fin4 (hk : p.2.1 i = 4) (hi : i < 16) (hq : p.2.2.2.1 i < i) (hG : gq_ok g) (hn : g.1 + 36 ≤ 800) (hin : xs_In g w i) (hr : l.2 i < g.1) (hb : ∀ c, c < 5 → w.2.2.2.2.1 (5 * p.2.2.2.1 i + c) < g.1) :
    ∃ g1 w1, xs_Fin p l g g1 w w1 i ∧ ∀ (post : SX → Prop) (x : Int32), x = nI i → post (xs o p l g1 w1 k) → wpX_finish post (xs o p l g w k) x := by
  obtain ⟨i1, i2, i3, i4⟩ := hin
  have h16 : vp_in (nI i) 16 := vp_in_nI hi (by omega)
  have i31 : i < 2 ^ 31 := by omega
  have b0 := hb 0 (by omega)
  have b1 := hb 1 (by omega)
  have g10 := hG.1
  have ec : (5 : Int32) * nI (p.2.2.2.1 i) + 1 = nI (5 * p.2.2.2.1 i + 1) := (congrArg (· + nI 1) (pk_mul 5 _)).trans (nI_add _ _)
  obtain ⟨r1, g1, H1, K1⟩ := xs_or (o := o) (p := p) (l := l) (w := xs_wc w (xs_cp w.2.2.2.2.1 (5 * i) (5 * p.2.2.2.1 i) 5)) (k := k) hG (by omega) (a := w.2.2.2.2.1 (5 * p.2.2.2.1 i + 1)) (b := w.2.2.2.2.1 (5 * p.2.2.2.1 i + 0)) b1 b0
  have n1 := H1.2.2.1; have x1 := H1.2.1.1.1; have q1 := H1.2.2.2.1
  obtain ⟨r2, g2, H2, K2⟩ := xs_and (o := o) (p := p) (l := l) (w := xs_wc w (xs_cp w.2.2.2.2.1 (5 * i) (5 * p.2.2.2.1 i) 5)) (k := k) H1.1 (by omega) (a := w.2.2.1 i) (b := l.2 i) (by omega) (by omega)
  have n2 := H2.2.2.1; have x2 := H2.2.1.1.1; have q2 := H2.2.2.2.1
  obtain ⟨r3, g3, H3, K3⟩ := xs_or (o := o) (p := p) (l := l) (w := xs_wc w (xs_cp w.2.2.2.2.1 (5 * i) (5 * p.2.2.2.1 i) 5)) (k := k) H2.1 (by omega) (a := w.2.2.2.2.1 (5 * p.2.2.2.1 i + 0)) (b := r2) (by omega) q2
  have n3 := H3.2.2.1; have x3 := H3.2.1.1.1; have q3 := H3.2.2.2.1
  obtain ⟨r4, g4, H4, K4⟩ := xs_setNext (o := o) (p := p) (l := l) (w := xs_wc w (xs_u (xs_u (xs_cp w.2.2.2.2.1 (5 * i) (5 * p.2.2.2.1 i) 5) (5 * i + 0) 0) (5 * i + 1) r1)) (k := k) H3.1 (by omega) (i := i) (a := r3) hi q3 (show w.2.2.2.1 i < g3.1 by omega)
  have n4 := H4.2.2.1; have x4 := H4.2.1.1.1; have q4 := H4.2.2.2.1; have m4 := H4.1.2.1
  refine ⟨g4, xs_wb (xs_wc w (xs_u (xs_u (xs_cp w.2.2.2.2.1 (5 * i) (5 * p.2.2.2.1 i) 5) (5 * i + 0) 0) (5 * i + 1) r1)) (xs_u w.2.2.2.2.2 i r4),
    xs_Fin_ext hG (by omega) (by omega) H4.1 (gq_ext_tr H1.2.1 (gq_ext_tr H2.2.1 (gq_ext_tr H3.2.1 H4.2.1))) (by omega) ⟨rfl, rfl, rfl, rfl⟩ (fun t h => ?_) (fun j h => xs_un h) (fun c hc => ?_) (fun h => ?_) (fun R m => ⟨fun c hc => ?_, fun _ => ?_⟩), fun post x hx hp => ?_⟩
  · exact (xs_un (by omega)).trans ((xs_un (by omega)).trans (xs_cp_out h))
  · show (xs_u (xs_u (xs_cp w.2.2.2.2.1 (5 * i) (5 * p.2.2.2.1 i) 5) (5 * i + 0) 0) (5 * i + 1) r1) (5 * i + c) < g4.1
    have b := hb c hc
    by_cases e1 : c = 1
    · rw [e1, xs_us]; omega
    rw [xs_un (by omega)]
    by_cases e : c = 0
    · rw [e, xs_us]; omega
    · rw [xs_un (by omega), xs_cp_in hc]; omega
  · show xs_u w.2.2.2.2.2 i r4 i < g4.1
    rw [xs_us]; exact q4
  · have m3 := gq_md_of H3.1 H4.2.1.1 m
    have m2 := gq_md_of H2.1 H3.2.1.1 m3
    have m1 := gq_md_of H1.1 H2.2.1.1 m2
    have e1 : R r1 = rv_or (R (w.2.2.2.2.1 (5 * p.2.2.2.1 i + 1))) (R (w.2.2.2.2.1 (5 * p.2.2.2.1 i + 0))) := H1.2.2.2.2 R m1
    show R ((xs_u (xs_u (xs_cp w.2.2.2.2.1 (5 * i) (5 * p.2.2.2.1 i) 5) (5 * i + 0) 0) (5 * i + 1) r1) (5 * i + c)) = _
    unfold xs_fc fa_loop
    rw [if_pos hk]
    by_cases e : c = 1
    · rw [if_neg (by omega), if_pos e, e, xs_us, e1]
    rw [xs_un (by omega)]
    by_cases e' : c = 0
    · rw [if_pos e', e', xs_us]; exact m.1
    · rw [if_neg e', if_neg e, xs_un (by omega), xs_cp_in hc]
  · have m3 := gq_md_of H3.1 H4.2.1.1 m
    have e4 : R r4 = rv_and (R r3) (rv_not (R (w.2.2.2.1 i))) := H4.2.2.2.2 R m
    have e3 : R r3 = rv_or (R (w.2.2.2.2.1 (5 * p.2.2.2.1 i + 0))) (R r2) := H3.2.2.2.2 R m3
    have e2 : R r2 = rv_and (R (w.2.2.1 i)) (R (l.2 i)) := H2.2.2.2.2 R (gq_md_of H2.1 H3.2.1.1 m3)
    show R (xs_u w.2.2.2.2.2 i r4 i) = _
    rw [xs_us, e4, e3, e2]
  · refine xs_fo_in (by omega) (by omega) hi hq (fun c hc => by have := hb c hc; omega) hx (br_t (nI_le (a := 5) (by omega) (by omega)) (xs_codeOf (i := p.2.2.2.1 i) (c := 0) rfl rfl (by omega) (br_t ?_ (And.intro ?_
      (K1 _ _ _ ?_ ?_ (And.intro h16 (And.intro h16 (K2 _ _ _ (xs_at i31) (xs_at i31) (K3 _ _ _ ?_ rfl (xs_setCode (i := i) (c := 0) (r := 0) rfl rfl rfl (by omega) (by omega) (xs_setCode (i := i) (c := 1) (r := r1) rfl rfl rfl (by omega) (by omega) (K4 _ _ _ rfl rfl hp))))))))))))
    · rw [hk]; decide
    · rw [ec]; exact vp_in_nI (by omega) (by omega)
    · rw [ec]; exact xs_at' (by omega) (xs_cp_out (by omega))
    · exact congrArg nI (xs_cp_out (by omega))
    · exact congrArg nI (xs_cp_out (by omega))
theorem xs_fin6 (hk : p.2.1 i = 6) (hs : p.2.2.1 i < 6) (hi : i < 16) (hq : p.2.2.2.1 i < i) (hG : gq_ok g) (hn : g.1 + 36 ≤ 800) (hin : xs_In g w i) (hl : l.1 (p.2.2.2.1 i) < g.1) (hb : ∀ c, c < 5 → w.2.2.2.2.1 (5 * p.2.2.2.1 i + c) < g.1) :
    ∃ g1 w1, xs_Fin p l g g1 w w1 i ∧ ∀ (post : SX → Prop) (x : Int32), x = nI i → post (xs o p l g1 w1 k) → wpX_finish post (xs o p l g w k) x := by
  obtain ⟨i1, i2, i3, i4⟩ := hin
  have h16 : vp_in (nI i) 16 := vp_in_nI hi (by omega)
  have q16 : vp_in (nI (p.2.2.2.1 i)) 16 := vp_in_nI (by omega) (by omega)
  have h32 : vp_in (nI i) 32 := vp_in_nI (by omega) (by omega)
  have i31 : i < 2 ^ 31 := by omega
  have b1 := hb 1 (by omega)
  have g10 := hG.1
  have es : (4 : Int32) + xs_A p.2.2.1 (nI i).toNatClampNeg = nI (4 + p.2.2.1 i) := by rw [xs_at i31]; exact nI_add 4 _
  have ec : (5 : Int32) * nI (p.2.2.2.1 i) + 1 = nI (5 * p.2.2.2.1 i + 1) := (congrArg (· + nI 1) (pk_mul 5 _)).trans (nI_add _ _)
  obtain ⟨r1, g1, H1, K1⟩ := xs_and (o := o) (p := p) (l := l) (w := xs_wc w (xs_cp w.2.2.2.2.1 (5 * i) (5 * p.2.2.2.1 i) 5)) (k := k) hG (by omega) (a := w.2.1 i) (b := 4 + p.2.2.1 i) i2 (by omega)
  have n1 := H1.2.2.1; have x1 := H1.2.1.1.1; have q1 := H1.2.2.2.1
  obtain ⟨r2, g2, H2, K2⟩ := xs_and (o := o) (p := p) (l := l) (w := xs_wc w (xs_cp w.2.2.2.2.1 (5 * i) (5 * p.2.2.2.1 i) 5)) (k := k) H1.1 (by omega) (a := r1) (b := l.1 (p.2.2.2.1 i)) q1 (by omega)
  have n2 := H2.2.2.1; have x2 := H2.2.1.1.1; have q2 := H2.2.2.2.1
  obtain ⟨r3, g3, H3, K3⟩ := xs_or (o := o) (p := p) (l := l) (w := xs_wc w (xs_cp w.2.2.2.2.1 (5 * i) (5 * p.2.2.2.1 i) 5)) (k := k) H2.1 (by omega) (a := w.2.2.2.2.1 (5 * p.2.2.2.1 i + 1)) (b := r2) (by omega) q2
  have n3 := H3.2.2.1; have x3 := H3.2.1.1.1; have q3 := H3.2.2.2.1; have m3 := H3.1.2.1
  refine ⟨g3, xs_wc w (xs_u (xs_cp w.2.2.2.2.1 (5 * i) (5 * p.2.2.2.1 i) 5) (5 * i + 1) r3),
    xs_Fin_ext hG (by omega) (by omega) H3.1 (gq_ext_tr H1.2.1 (gq_ext_tr H2.2.1 H3.2.1)) (by omega) ⟨rfl, rfl, rfl, rfl⟩ (fun t h => ?_) (fun j h => rfl) (fun c hc => ?_) (fun h => by omega) (fun R m => ⟨fun c hc => ?_, fun h => by omega⟩), fun post x hx hp => ?_⟩
  · exact (xs_un (by omega)).trans (xs_cp_out h)
  · show (xs_u (xs_cp w.2.2.2.2.1 (5 * i) (5 * p.2.2.2.1 i) 5) (5 * i + 1) r3) (5 * i + c) < g3.1
    have b := hb c hc
    by_cases e1 : c = 1
    · rw [e1, xs_us]; omega
    · rw [xs_un (by omega), xs_cp_in hc]; omega
  · have m2 := gq_md_of H2.1 H3.2.1.1 m
    have m1 := gq_md_of H1.1 H2.2.1.1 m2
    have e3 : R r3 = rv_or (R (w.2.2.2.2.1 (5 * p.2.2.2.1 i + 1))) (R r2) := H3.2.2.2.2 R m
    have e2 : R r2 = rv_and (R r1) (R (l.1 (p.2.2.2.1 i))) := H2.2.2.2.2 R m2
    have e1 : R r1 = rv_and (R (w.2.1 i)) (R (4 + p.2.2.1 i)) := H1.2.2.2.2 R m1
    show R ((xs_u (xs_cp w.2.2.2.2.1 (5 * i) (5 * p.2.2.2.1 i) 5) (5 * i + 1) r3) (5 * i + c)) = _
    unfold xs_fc
    rw [if_neg (by omega), if_neg (by omega), if_pos hk]
    by_cases e : c = 1
    · rw [if_pos e, e, xs_us, e3, e2, e1]
    · rw [if_neg e, xs_un (by omega), xs_cp_in hc]
  · refine xs_fo_in (by omega) (by omega) hi hq (fun c hc => by have := hb c hc; omega) hx (br_t (nI_le (a := 5) (by omega) (by omega)) (xs_codeOf (i := p.2.2.2.1 i) (c := 0) rfl rfl (by omega) (br_f ?_ (br_f ?_ (And.intro h16 (And.intro h32
      (K1 _ _ _ (xs_at i31) es (And.intro q16 (K2 _ _ _ rfl (xs_at (by omega)) (And.intro ?_ (K3 _ _ _ ?_ rfl (xs_setCode (i := i) (c := 1) (r := r3) rfl rfl rfl (by omega) (by omega) hp))))))))))))
    · rw [hk]; decide
    · rw [hk]; decide
    · rw [ec]; exact vp_in_nI (by omega) (by omega)
    · rw [ec]; exact xs_at' (by omega) (xs_cp_out (by omega))
end
end
section
/-! ===== finish of a trap; of a sequence and a test ===== -/
section
variable {o : xs_O} {p : xs_P} {l : xs_L} {g : xs_G} {w : xs_W} {k : xs_K} {i : Nat}
theorem xs_fin5 (hk : p.2.1 i = 5) (hi : i < 16) (hq : p.2.2.2.1 i < i) (hG : gq_ok g) (hn : g.1 + 36 ≤ 800) (hb : ∀ c, c < 5 → w.2.2.2.2.1 (5 * p.2.2.2.1 i + c) < g.1)
    (hkg : w.2.2.2.1 (p.2.2.2.1 i) < g.1) (hf : g.2.2.2.2 (w.2.2.2.1 (p.2.2.2.1 i)) = 0) :
    ∃ g1 w1, xs_Fin p l g g1 w w1 i ∧ ∀ (post : SX → Prop) (x : Int32), x = nI i → post (xs o p l g1 w1 k) → wpX_finish post (xs o p l g w k) x := by
  have q16 : vp_in (nI (p.2.2.2.1 i)) 16 := vp_in_nI (by omega) (by omega)
  have b0 := hb 0 (by omega)
  have b2 := hb 2 (by omega)
  have b3 := hb 3 (by omega)
  have b4 := hb 4 (by omega)
  have g10 := hG.1
  have ec : ∀ c, (5 : Int32) * nI (p.2.2.2.1 i) + nI c + 1 = nI (5 * p.2.2.2.1 i + (c + 1)) := fun c => by
    have e : (5 : Int32) * nI (p.2.2.2.1 i) + nI c = nI (5 * p.2.2.2.1 i + c) := (congrArg (· + nI c) (pk_mul 5 _)).trans (nI_add _ _)
    rw [e]; exact nI_1 _
  obtain ⟨r1, g1, H1, K1⟩ := xs_or (o := o) (p := p) (l := l) (w := xs_wc w (xs_cp w.2.2.2.2.1 (5 * i) (5 * p.2.2.2.1 i) 5)) (k := k) hG (by omega) (a := w.2.2.2.2.1 (5 * p.2.2.2.1 i + 0)) (b := w.2.2.2.2.1 (5 * p.2.2.2.1 i + 2)) b0 b2
  have n1 := H1.2.2.1; have x1 := H1.2.1.1.1; have q1 := H1.2.2.2.1; have m1 := H1.1.2.1
  refine ⟨gq_sb g1 (w.2.2.2.1 (p.2.2.2.1 i)) (w.2.2.2.2.1 (5 * p.2.2.2.1 i + 2)),
    xs_wc w (xs_u (xs_u (xs_u (xs_u (xs_cp w.2.2.2.2.1 (5 * i) (5 * p.2.2.2.1 i) 5) (5 * i + 0) r1) (5 * i + 2) (w.2.2.2.2.1 (5 * p.2.2.2.1 i + 3))) (5 * i + 3) (w.2.2.2.2.1 (5 * p.2.2.2.1 i + 4))) (5 * i + 4) 0),
    xs_Fin_sb hG (Or.inl hk) H1.1 H1.2.1 (by omega) (by omega) hkg hf ⟨rfl, rfl, rfl, rfl⟩ (fun t h => ?_) (fun j h => rfl) (fun c hc => ?_) (fun R m => ⟨fun c hc => ?_, fun _ => rfl, fun h => by omega⟩), fun post x hx hp => ?_⟩
  · exact (xs_un (by omega)).trans ((xs_un (by omega)).trans ((xs_un (by omega)).trans ((xs_un (by omega)).trans (xs_cp_out h))))
  · show (xs_u (xs_u (xs_u (xs_u (xs_cp w.2.2.2.2.1 (5 * i) (5 * p.2.2.2.1 i) 5) (5 * i + 0) r1) (5 * i + 2) (w.2.2.2.2.1 (5 * p.2.2.2.1 i + 3))) (5 * i + 3) (w.2.2.2.2.1 (5 * p.2.2.2.1 i + 4))) (5 * i + 4) 0) (5 * i + c) < g1.1
    have b := hb c hc
    by_cases e4 : c = 4
    · rw [e4, xs_us]; omega
    rw [xs_un (by omega)]
    by_cases e3 : c = 3
    · rw [e3, xs_us]; omega
    rw [xs_un (by omega)]
    by_cases e2 : c = 2
    · rw [e2, xs_us]; omega
    rw [xs_un (by omega)]
    by_cases e1 : c = 0
    · rw [e1, xs_us]; omega
    · rw [xs_un (by omega), xs_cp_in hc]; omega
  · have e1 : R r1 = rv_or (R (w.2.2.2.2.1 (5 * p.2.2.2.1 i + 0))) (R (w.2.2.2.2.1 (5 * p.2.2.2.1 i + 2))) := H1.2.2.2.2 R m
    show R ((xs_u (xs_u (xs_u (xs_u (xs_cp w.2.2.2.2.1 (5 * i) (5 * p.2.2.2.1 i) 5) (5 * i + 0) r1) (5 * i + 2) (w.2.2.2.2.1 (5 * p.2.2.2.1 i + 3))) (5 * i + 3) (w.2.2.2.2.1 (5 * p.2.2.2.1 i + 4))) (5 * i + 4) 0) (5 * i + c)) = _
    unfold xs_fc fa_trap
    rw [if_neg (by omega), if_pos hk]
    by_cases e4 : c = 4
    · subst e4; rw [xs_us]; exact m.1
    rw [xs_un (by omega)]
    by_cases e3 : c = 3
    · subst e3; rw [xs_us]; rfl
    rw [xs_un (by omega)]
    by_cases e2 : c = 2
    · subst e2; rw [xs_us]; rfl
    rw [xs_un (by omega)]
    by_cases e0 : c = 0
    · subst e0; rw [xs_us, e1]; rfl
    · have e : c = 1 := by omega
      subst e
      rw [xs_un (by omega), xs_cp_in hc]; rfl
  · have cpo : ∀ c, c < 5 → xs_cp w.2.2.2.2.1 (5 * i) (5 * p.2.2.2.1 i) 5 (5 * p.2.2.2.1 i + c) = w.2.2.2.2.1 (5 * p.2.2.2.1 i + c) := fun c hc => xs_cp_out (by omega)
    refine xs_fo_in (by omega) (by omega) hi hq (fun c hc => by have := hb c hc; omega) hx (br_t (nI_le (a := 5) (by omega) (by omega)) (xs_codeOf (i := p.2.2.2.1 i) (c := 0) rfl rfl (by omega) (br_f ?_ (br_t ?_
      (xs_codeOf (i := p.2.2.2.1 i) (c := 2) rfl rfl (by omega) (K1 _ _ _ (congrArg nI (cpo 0 (by omega))) (congrArg nI (cpo 2 (by omega))) (xs_setCode (i := i) (c := 0) (r := r1) rfl rfl rfl (by omega) (by omega)
      (Exists.intro 4 (br_f ?_ (br_f ?_ (And.intro ?_ (xs_setCode (w := xs_wc w (xs_u (xs_cp w.2.2.2.2.1 (5 * i) (5 * p.2.2.2.1 i) 5) (5 * i + 0) r1)) (i := i) (c := 2) (r := w.2.2.2.2.1 (5 * p.2.2.2.1 i + 3)) rfl rfl ?_ (by omega) (by omega) (nm_r (nI_1 2)
      (br_f ?_ (br_f ?_ (And.intro ?_ (xs_setCode (w := xs_wc w (xs_u (xs_u (xs_cp w.2.2.2.2.1 (5 * i) (5 * p.2.2.2.1 i) 5) (5 * i + 0) r1) (5 * i + 2) (w.2.2.2.2.1 (5 * p.2.2.2.1 i + 3)))) (i := i) (c := 3) (r := w.2.2.2.2.1 (5 * p.2.2.2.1 i + 4)) rfl rfl ?_ (by omega) (by omega) (nm_r (nI_1 3)
      (br_f ?_ (br_t ?_ (xs_setCode (w := xs_wc w (xs_u (xs_u (xs_u (xs_cp w.2.2.2.2.1 (5 * i) (5 * p.2.2.2.1 i) 5) (5 * i + 0) r1) (5 * i + 2) (w.2.2.2.2.1 (5 * p.2.2.2.1 i + 3))) (5 * i + 3) (w.2.2.2.2.1 (5 * p.2.2.2.1 i + 4)))) (i := i) (c := 4) (r := 0) rfl rfl rfl (by omega) (by omega) (nm_r (nI_1 4)
      (br_t ?_ (And.intro q16 (And.intro ?_ (nm_r ?_ hp))))))))))))))))))))))))))
    · rw [hk]; decide
    · rw [hk]; decide
    · decide
    · decide
    · rw [show ((5 : Int32) * nI (p.2.2.2.1 i) + 2 + 1) = _ from ec 2]; exact vp_in_nI (by omega) (by omega)
    · rw [show ((5 : Int32) * nI (p.2.2.2.1 i) + 2 + 1) = _ from ec 2]; exact xs_at' (by omega) ((xs_un (by omega)).trans (cpo 3 (by omega)))
    · decide
    · decide
    · rw [show ((5 : Int32) * nI (p.2.2.2.1 i) + nI 3 + 1) = _ from ec 3]; exact vp_in_nI (by omega) (by omega)
    · rw [show ((5 : Int32) * nI (p.2.2.2.1 i) + nI 3 + 1) = _ from ec 3]; exact xs_at' (by omega) ((xs_un (by omega)).trans ((xs_un (by omega)).trans (cpo 4 (by omega))))
    · decide
    · decide
    · decide
    · show vp_in (xs_A w.2.2.2.1 (nI (p.2.2.2.1 i)).toNatClampNeg) 800
      rw [xs_at (by omega)]; exact vp_in_nI (by omega) (by omega)
    · exact xs_ps (xs_at (by omega)) (by omega) (congrArg nI (cpo 2 (by omega))) (by omega)
theorem xs_fc79 {R : Nat → rv_V} {c : Nat} (hk : p.2.1 i = 7 ∨ p.2.1 i = 9) : xs_fc p R l w i c = if p.2.1 i = 7 ∧ c = 0 then R (w.2.2.2.2.1 (5 * p.2.2.2.2 i + 0)) else rv_or (R (w.2.2.2.2.1 (5 * p.2.2.2.1 i + c))) (R (w.2.2.2.2.1 (5 * p.2.2.2.2 i + c))) := by
  unfold xs_fc
  rw [if_neg (by omega), if_neg (by omega), if_neg (by omega)]
  by_cases e7 : p.2.1 i = 7
  · rw [if_pos e7]
    by_cases e0 : c = 0
    · rw [if_pos e0, if_pos ⟨e7, e0⟩]
    · rw [if_neg e0, if_neg (fun h => e0 h.2)]
  · rw [if_neg e7, if_neg (by omega), if_neg (fun h => e7 h.1)]
/-- codes of a sequence or a test, from j on -/
theorem xs_fi_loop (hk : p.2.1 i = 7 ∨ p.2.1 i = 9) (hi : i < 16) (hp : p.2.2.2.1 i < i) (hq : p.2.2.2.2 i < i) : ∀ d j, j + d = 5 → ∀ (g : xs_G) (w : xs_W), gq_ok g → g.1 + d ≤ 800 →
    (∀ c, c < 5 → w.2.2.2.2.1 (5 * p.2.2.2.1 i + c) < g.1) → (∀ c, c < 5 → w.2.2.2.2.1 (5 * p.2.2.2.2 i + c) < g.1) →
    ∃ g1 cd, gq_ok g1 ∧ gq_ext g g1 ∧ g1.1 ≤ g.1 + d ∧ (∀ t, ¬ (5 * i + j ≤ t ∧ t < 5 * i + 5) → cd t = w.2.2.2.2.1 t) ∧ (∀ c, j ≤ c → c < 5 → cd (5 * i + c) < g1.1) ∧
      (∀ R, gq_md g1 R → ∀ c, j ≤ c → c < 5 → R (cd (5 * i + c)) = xs_fc p R l w i c) ∧
      ∀ post : SX → Prop, post (xs o p l g1 (xs_wc w cd) k) → wX_finish_37 post (nI i) (nI (p.2.1 i)) (d + 1) (nI j) (nI p.1) (nI o.1) (nI o.2.1) (nI g.1) (nI k.1) (nI o.2.2.1) (nI o.2.2.2.1) (nI o.2.2.2.2.1) (nI o.2.2.2.2.2.1) (xs_A p.2.1) (xs_A p.2.2.1) (xs_A p.2.2.2.1) (xs_A p.2.2.2.2) (xs_A o.2.2.2.2.2.2.1) (xs_A o.2.2.2.2.2.2.2.1) (xs_A g.2.1) (xs_A g.2.2.1) (xs_A g.2.2.2.1) (xs_A g.2.2.2.2) (xs_A o.2.2.2.2.2.2.2.2.1) (xs_A w.1) (xs_A w.2.1) (xs_A w.2.2.1) (xs_A w.2.2.2.1) (xs_A w.2.2.2.2.1) (xs_A l.1) (xs_A l.2) (xs_A w.2.2.2.2.2) (xs_A o.2.2.2.2.2.2.2.2.2.1) (xs_A k.2.1) (xs_A k.2.2) (xs_A o.2.2.2.2.2.2.2.2.2.2) := by
  have h32 : vp_in (nI i) 32 := vp_in_nI (by omega) (by omega)
  intro d
  induction d with
  | zero =>
    intro j hj g w hG hn hbp hbq
    exact ⟨g, w.2.2.2.2.1, hG, gq_ext_rf g, by omega, fun t _ => rfl, fun c h1 h2 => by omega, fun R m c h1 h2 => by omega, fun post hpo => br_t (nI_le (a := 5) (by omega) (by omega)) hpo⟩
  | succ d ih =>
    intro j hj g w hG hn hbp hbq
    have bp := hbp j (by omega)
    have bq := hbq j (by omega)
    obtain ⟨r, g1, H, K⟩ := xs_or (o := o) (p := p) (l := l) (w := w) (k := k) hG (by omega) (a := w.2.2.2.2.1 (5 * p.2.2.2.1 i + j)) (b := w.2.2.2.2.1 (5 * p.2.2.2.2 i + j)) bp bq
    have n1 := H.2.2.1; have x1 := H.2.1.1.1; have q1 := H.2.2.2.1; have m1 := H.1.2.1
    have key : ∀ v, v < g1.1 → (∀ R, gq_md g1 R → R v = xs_fc p R l w i j) → ∃ g2 cd, gq_ok g2 ∧ gq_ext g g2 ∧ g2.1 ≤ g.1 + (d + 1) ∧ (∀ t, ¬ (5 * i + j ≤ t ∧ t < 5 * i + 5) → cd t = w.2.2.2.2.1 t) ∧ (∀ c, j ≤ c → c < 5 → cd (5 * i + c) < g2.1) ∧
        (∀ R, gq_md g2 R → ∀ c, j ≤ c → c < 5 → R (cd (5 * i + c)) = xs_fc p R l w i c) ∧
        ∀ post : SX → Prop, post (xs o p l g2 (xs_wc w cd) k) → wX_finish_98 post (wX_finish_37 post (nI i) (nI (p.2.1 i)) (d + 1)) (nI i) (nI (p.2.1 i)) (nI j) (nI v) (nI j) (nI i) (nI p.1) (nI o.1) (nI o.2.1) (nI g1.1) (nI k.1) (nI o.2.2.1) (nI o.2.2.2.1) (nI o.2.2.2.2.1) (nI o.2.2.2.2.2.1) (xs_A p.2.1) (xs_A p.2.2.1) (xs_A p.2.2.2.1) (xs_A p.2.2.2.2) (xs_A o.2.2.2.2.2.2.1) (xs_A o.2.2.2.2.2.2.2.1) (xs_A g1.2.1) (xs_A g1.2.2.1) (xs_A g1.2.2.2.1) (xs_A g1.2.2.2.2) (xs_A o.2.2.2.2.2.2.2.2.1) (xs_A w.1) (xs_A w.2.1) (xs_A w.2.2.1) (xs_A w.2.2.2.1) (xs_A w.2.2.2.2.1) (xs_A l.1) (xs_A l.2) (xs_A w.2.2.2.2.2) (xs_A o.2.2.2.2.2.2.2.2.2.1) (xs_A k.2.1) (xs_A k.2.2) (xs_A o.2.2.2.2.2.2.2.2.2.2) := by
      intro v hv hR
      have ep : ∀ c, c < 5 → (xs_u w.2.2.2.2.1 (5 * i + j) v) (5 * p.2.2.2.1 i + c) = w.2.2.2.2.1 (5 * p.2.2.2.1 i + c) := fun c hc => xs_un (by omega)
      have eq : ∀ c, c < 5 → (xs_u w.2.2.2.2.1 (5 * i + j) v) (5 * p.2.2.2.2 i + c) = w.2.2.2.2.1 (5 * p.2.2.2.2 i + c) := fun c hc => xs_un (by omega)
      obtain ⟨g2, cd, G1, G2, G3, G4, G5, G6, G7⟩ := ih (j + 1) (by omega) g1 (xs_wc w (xs_u w.2.2.2.2.1 (5 * i + j) v)) H.1 (by omega)
        (fun c hc => by show (xs_u w.2.2.2.2.1 (5 * i + j) v) (5 * p.2.2.2.1 i + c) < g1.1; rw [ep c hc]; have := hbp c hc; omega) (fun c hc => by show (xs_u w.2.2.2.2.1 (5 * i + j) v) (5 * p.2.2.2.2 i + c) < g1.1; rw [eq c hc]; have := hbq c hc; omega)
      have x2 := G2.1.1
      have cj : cd (5 * i + j) = v := (G4 _ (by omega)).trans (xs_us _ _ _)
      refine ⟨g2, cd, G1, gq_ext_tr H.2.1 G2, by omega, fun t ht => (G4 t (by omega)).trans (xs_un (by omega)), fun c h1 h2 => ?_, fun R m c h1 h2 => ?_, fun post hpo => ?_⟩
      · by_cases e : c = j
        · rw [e, cj]; omega
        · exact G5 c (by omega) h2
      · by_cases e : c = j
        · rw [e, cj]; exact hR R (gq_md_of H.1 G2.1 m)
        · rw [G6 R m c (by omega) h2]
          rw [xs_fc79 hk, xs_fc79 hk]
          show (if p.2.1 i = 7 ∧ c = 0 then R ((xs_u w.2.2.2.2.1 (5 * i + j) v) (5 * p.2.2.2.2 i + 0)) else rv_or (R ((xs_u w.2.2.2.2.1 (5 * i + j) v) (5 * p.2.2.2.1 i + c))) (R ((xs_u w.2.2.2.2.1 (5 * i + j) v) (5 * p.2.2.2.2 i + c)))) = _
          rw [ep c h2, eq c h2, eq 0 (by omega)]
      · exact xs_setCode (o := o) (p := p) (l := l) (g := g1) (w := w) (k := k) (i := i) (c := j) (r := v) rfl rfl rfl (by omega) (by omega) (nm_r (nI_1 j) (G7 post hpo))
    have go : ∀ post : SX → Prop, ((nI (p.2.1 i) = 7 → ((nI j = 0 → wX_finish_98 post (wX_finish_37 post (nI i) (nI (p.2.1 i)) (d + 1)) (nI i) (nI (p.2.1 i)) (nI j) (nI (w.2.2.2.2.1 (5 * p.2.2.2.2 i + j))) (nI j) (nI i) (nI p.1) (nI o.1) (nI o.2.1) (nI g1.1) (nI k.1) (nI o.2.2.1) (nI o.2.2.2.1) (nI o.2.2.2.2.1) (nI o.2.2.2.2.2.1) (xs_A p.2.1) (xs_A p.2.2.1) (xs_A p.2.2.2.1) (xs_A p.2.2.2.2) (xs_A o.2.2.2.2.2.2.1) (xs_A o.2.2.2.2.2.2.2.1) (xs_A g1.2.1) (xs_A g1.2.2.1) (xs_A g1.2.2.2.1) (xs_A g1.2.2.2.2) (xs_A o.2.2.2.2.2.2.2.2.1) (xs_A w.1) (xs_A w.2.1) (xs_A w.2.2.1) (xs_A w.2.2.2.1) (xs_A w.2.2.2.2.1) (xs_A l.1) (xs_A l.2) (xs_A w.2.2.2.2.2) (xs_A o.2.2.2.2.2.2.2.2.2.1) (xs_A k.2.1) (xs_A k.2.2) (xs_A o.2.2.2.2.2.2.2.2.2.2)) ∧ (¬ nI j = 0 → wX_finish_96 post (wX_finish_37 post (nI i) (nI (p.2.1 i)) (d + 1)) (nI i) (nI (p.2.1 i)) (nI j) (nI r) (nI j) (nI i) (nI p.1) (nI o.1) (nI o.2.1) (nI g1.1) (nI k.1) (nI o.2.2.1) (nI o.2.2.2.1) (nI o.2.2.2.2.1) (nI o.2.2.2.2.2.1) (xs_A p.2.1) (xs_A p.2.2.1) (xs_A p.2.2.2.1) (xs_A p.2.2.2.2) (xs_A o.2.2.2.2.2.2.1) (xs_A o.2.2.2.2.2.2.2.1) (xs_A g1.2.1) (xs_A g1.2.2.1) (xs_A g1.2.2.2.1) (xs_A g1.2.2.2.2) (xs_A o.2.2.2.2.2.2.2.2.1) (xs_A w.1) (xs_A w.2.1) (xs_A w.2.2.1) (xs_A w.2.2.2.1) (xs_A w.2.2.2.2.1) (xs_A l.1) (xs_A l.2) (xs_A w.2.2.2.2.2) (xs_A o.2.2.2.2.2.2.2.2.2.1) (xs_A k.2.1) (xs_A k.2.2) (xs_A o.2.2.2.2.2.2.2.2.2.2)))) ∧
        (¬ nI (p.2.1 i) = 7 → wX_finish_96 post (wX_finish_37 post (nI i) (nI (p.2.1 i)) (d + 1)) (nI i) (nI (p.2.1 i)) (nI j) (nI r) (nI j) (nI i) (nI p.1) (nI o.1) (nI o.2.1) (nI g1.1) (nI k.1) (nI o.2.2.1) (nI o.2.2.2.1) (nI o.2.2.2.2.1) (nI o.2.2.2.2.2.1) (xs_A p.2.1) (xs_A p.2.2.1) (xs_A p.2.2.2.1) (xs_A p.2.2.2.2) (xs_A o.2.2.2.2.2.2.1) (xs_A o.2.2.2.2.2.2.2.1) (xs_A g1.2.1) (xs_A g1.2.2.1) (xs_A g1.2.2.2.1) (xs_A g1.2.2.2.2) (xs_A o.2.2.2.2.2.2.2.2.1) (xs_A w.1) (xs_A w.2.1) (xs_A w.2.2.1) (xs_A w.2.2.2.1) (xs_A w.2.2.2.2.1) (xs_A l.1) (xs_A l.2) (xs_A w.2.2.2.2.2) (xs_A o.2.2.2.2.2.2.2.2.2.1) (xs_A k.2.1) (xs_A k.2.2) (xs_A o.2.2.2.2.2.2.2.2.2.2))) → wX_finish_37 post (nI i) (nI (p.2.1 i)) (d + 1 + 1) (nI j) (nI p.1) (nI o.1) (nI o.2.1) (nI g.1) (nI k.1) (nI o.2.2.1) (nI o.2.2.2.1) (nI o.2.2.2.2.1) (nI o.2.2.2.2.2.1) (xs_A p.2.1) (xs_A p.2.2.1) (xs_A p.2.2.2.1) (xs_A p.2.2.2.2) (xs_A o.2.2.2.2.2.2.1) (xs_A o.2.2.2.2.2.2.2.1) (xs_A g.2.1) (xs_A g.2.2.1) (xs_A g.2.2.2.1) (xs_A g.2.2.2.2) (xs_A o.2.2.2.2.2.2.2.2.1) (xs_A w.1) (xs_A w.2.1) (xs_A w.2.2.1) (xs_A w.2.2.2.1) (xs_A w.2.2.2.2.1) (xs_A l.1) (xs_A l.2) (xs_A w.2.2.2.2.2) (xs_A o.2.2.2.2.2.2.2.2.2.1) (xs_A k.2.1) (xs_A k.2.2) (xs_A o.2.2.2.2.2.2.2.2.2.2) := fun post hpo =>
      br_f (nI_ge (b := 5) (by omega) (by omega)) (And.intro h32 (xs_codeOf (o := o) (p := p) (l := l) (g := g) (w := w) (k := k) (i := p.2.2.2.1 i) (c := j) (xs_at (by omega)) rfl (by omega) (And.intro h32 (xs_codeOf (o := o) (p := p) (l := l) (g := g) (w := w) (k := k) (i := p.2.2.2.2 i) (c := j) (xs_at (by omega)) rfl (by omega)
        (K _ _ _ rfl rfl hpo)))))
    by_cases h70 : p.2.1 i = 7 ∧ j = 0
    · obtain ⟨g2, cd, G1, G2, G3, G4, G5, G6, G7⟩ := key (w.2.2.2.2.1 (5 * p.2.2.2.2 i + j)) (by omega) (fun R m => by rw [xs_fc79 hk, if_pos h70, h70.2])
      exact ⟨g2, cd, G1, G2, G3, G4, G5, G6, fun post hpo => go post (br_t (by rw [h70.1]; rfl) (br_t (by rw [h70.2]; rfl) (G7 post hpo)))⟩
    · have er : ∀ R, gq_md g1 R → R r = rv_or (R (w.2.2.2.2.1 (5 * p.2.2.2.1 i + j))) (R (w.2.2.2.2.1 (5 * p.2.2.2.2 i + j))) := H.2.2.2.2
      obtain ⟨g2, cd, G1, G2, G3, G4, G5, G6, G7⟩ := key r q1 (fun R m => by rw [er R m, xs_fc79 hk, if_neg h70])
      refine ⟨g2, cd, G1, G2, G3, G4, G5, G6, fun post hpo => go post ?_⟩
      by_cases e7 : p.2.1 i = 7
      · exact br_t (by rw [e7]; rfl) (br_f (xs_ne 0 rfl (by omega) (by omega) (by omega)) (G7 post hpo))
      · exact br_f (xs_ne 7 rfl (by omega) (by omega) e7) (G7 post hpo)
theorem xs_fin79 (hk : p.2.1 i = 7 ∨ p.2.1 i = 9) (hi : i < 16) (hp : p.2.2.2.1 i < i) (hq : p.2.2.2.2 i < i) (hG : gq_ok g) (hn : g.1 + 36 ≤ 800)
    (hbp : ∀ c, c < 5 → w.2.2.2.2.1 (5 * p.2.2.2.1 i + c) < g.1) (hbq : ∀ c, c < 5 → w.2.2.2.2.1 (5 * p.2.2.2.2 i + c) < g.1) :
    ∃ g1 w1, xs_Fin p l g g1 w w1 i ∧ ∀ (post : SX → Prop) (x : Int32), x = nI i → post (xs o p l g1 w1 k) → wpX_finish post (xs o p l g w k) x := by
  obtain ⟨g1, cd, G1, G2, G3, G4, G5, G6, G7⟩ := xs_fi_loop (o := o) (l := l) (k := k) hk hi hp hq 5 0 rfl g w hG (by omega) hbp hbq
  have h32 : vp_in (nI i) 32 := vp_in_nI (by omega) (by omega)
  refine ⟨g1, xs_wc w cd, xs_Fin_ext hG (by omega) (by omega) G1 G2 (by omega) ⟨rfl, rfl, rfl, rfl⟩ G4 (fun _ _ => rfl) (fun c hc => G5 c (by omega) hc) (fun h => by omega) (fun R m => ⟨fun c hc => G6 R m c (by omega) hc, fun h => by omega⟩), fun post x hx hpo => ?_⟩
  subst hx
  exact And.intro h32 (nm_r (e' := nI (p.2.1 i)) (xs_at (by omega)) (br_t (nI_le (a := 7) (by omega) (by omega)) (br_f (xs_ne 8 rfl (by omega) (by omega) (by omega)) (Exists.intro 6 (G7 post hpo)))))
end
end
section
/-! ===== finish of a par; finish as a whole ===== -/
theorem rv_up_sh (x : rv_V) (c : Nat → rv_V) (m : Nat) : rv_up (rv_or x (c 0)) (fun t => c (t + 1)) m = rv_up x c (m + 1) := by
  induction m with
  | zero => rfl
  | succ m ih => show rv_or (rv_up _ _ m) _ = rv_or (rv_up x c (m + 1)) _; rw [ih]
def rv_og (x : rv_V) (f : Nat → rv_V) (j : Nat) : Nat → rv_V
  | 0 => x
  | d + 1 => rv_og (if j ≤ 1 then x else rv_or x (f j)) f (j + 1) d
section
variable {o : xs_O} {p : xs_P} {l : xs_L} {g : xs_G} {w : xs_W} {k : xs_K} {i : Nat}
theorem xs_fp_loop (hi : i < 16) (hp : p.2.2.2.1 i < i) (hq : p.2.2.2.2 i < i) : ∀ d j, j + d = 5 → ∀ (g : xs_G) (w : xs_W) (a b ot : Nat), gq_ok g → g.1 + 6 * d ≤ 800 →
    (∀ c, c < 5 → w.2.2.2.2.1 (5 * p.2.2.2.1 i + c) < g.1) → (∀ c, c < 5 → w.2.2.2.2.1 (5 * p.2.2.2.2 i + c) < g.1) → a < g.1 → b < g.1 → ot < g.1 → w.2.2.2.1 (p.2.2.2.1 i) < g.1 →
    ∃ g1 cd r, gq_ok g1 ∧ gq_ext g g1 ∧ g1.1 ≤ g.1 + 6 * d ∧ (∀ t, ¬ (5 * i + j ≤ t ∧ t < 5 * i + 5) → cd t = w.2.2.2.2.1 t) ∧ (∀ c, j ≤ c → c < 5 → cd (5 * i + c) < g1.1) ∧ r < g1.1 ∧
      (∀ R, gq_md g1 R → (∀ m, j + m < 5 → R (cd (5 * i + (j + m))) = rv_and (rv_and (rv_up (R a) (fun t => R (w.2.2.2.2.1 (5 * p.2.2.2.1 i + (t + j)))) m) (rv_up (R b) (fun t => R (w.2.2.2.2.1 (5 * p.2.2.2.2 i + (t + j)))) m))
          (rv_or (R (w.2.2.2.2.1 (5 * p.2.2.2.1 i + (j + m)))) (R (w.2.2.2.2.1 (5 * p.2.2.2.2 i + (j + m)))))) ∧
        R r = rv_og (R ot) (fun c => R (cd (5 * i + c))) j d) ∧
      ∀ post : SX → Prop, post (xs o p l (gq_sb g1 (w.2.2.2.1 (p.2.2.2.1 i)) r) (xs_wc w cd) k) → wX_finishPar_82 post (nI i) (nI (p.2.2.2.1 i)) (nI (p.2.2.2.2 i)) (d + 1) (nI a) (nI b) (nI ot) (nI j) (nI p.1) (nI o.1) (nI o.2.1) (nI g.1) (nI k.1) (nI o.2.2.1) (nI o.2.2.2.1) (nI o.2.2.2.2.1) (nI o.2.2.2.2.2.1) (xs_A p.2.1) (xs_A p.2.2.1) (xs_A p.2.2.2.1) (xs_A p.2.2.2.2) (xs_A o.2.2.2.2.2.2.1) (xs_A o.2.2.2.2.2.2.2.1) (xs_A g.2.1) (xs_A g.2.2.1) (xs_A g.2.2.2.1) (xs_A g.2.2.2.2) (xs_A o.2.2.2.2.2.2.2.2.1) (xs_A w.1) (xs_A w.2.1) (xs_A w.2.2.1) (xs_A w.2.2.2.1) (xs_A w.2.2.2.2.1) (xs_A l.1) (xs_A l.2) (xs_A w.2.2.2.2.2) (xs_A o.2.2.2.2.2.2.2.2.2.1) (xs_A k.2.1) (xs_A k.2.2) (xs_A o.2.2.2.2.2.2.2.2.2.2) := by
  have p16 : vp_in (nI (p.2.2.2.1 i)) 16 := vp_in_nI (by omega) (by omega)
  intro d
  induction d with
  | zero =>
    intro j hj g w a b ot hG hn hbp hbq ha hb ho hkg
    have g8 := hG.2.1
    refine ⟨g, w.2.2.2.2.1, ot, hG, gq_ext_rf g, by omega, fun t _ => rfl, fun c h1 h2 => by omega, ho, fun R m => ⟨fun m h1 => by omega, rfl⟩, fun post hpo => br_t (nI_le (a := 5) (by omega) (by omega)) (And.intro p16 (And.intro ?_ (nm_r (xs_ps (xs_at (by omega)) (by omega) rfl (by omega)) hpo)))⟩
    rw [xs_at (by omega)]; exact vp_in_nI (by omega) (by omega)
  | succ d ih =>
    intro j hj g w a b ot hG hn hbp hbq ha hb ho hkg
    have bp := hbp j (by omega)
    have bq := hbq j (by omega)
    obtain ⟨r1, g1, H1, K1⟩ := xs_or (o := o) (p := p) (l := l) (w := w) (k := k) hG (by omega) (a := w.2.2.2.2.1 (5 * p.2.2.2.1 i + j)) (b := w.2.2.2.2.1 (5 * p.2.2.2.2 i + j)) bp bq
    have n1 := H1.2.2.1; have x1 := H1.2.1.1.1; have q1 := H1.2.2.2.1
    obtain ⟨r2, g2, H2, K2⟩ := xs_or (o := o) (p := p) (l := l) (w := w) (k := k) H1.1 (by omega) (a := a) (b := w.2.2.2.2.1 (5 * p.2.2.2.1 i + j)) (by omega) (by omega)
    have n2 := H2.2.2.1; have x2 := H2.2.1.1.1; have q2 := H2.2.2.2.1
    obtain ⟨r3, g3, H3, K3⟩ := xs_or (o := o) (p := p) (l := l) (w := w) (k := k) H2.1 (by omega) (a := b) (b := w.2.2.2.2.1 (5 * p.2.2.2.2 i + j)) (by omega) (by omega)
    have n3 := H3.2.2.1; have x3 := H3.2.1.1.1; have q3 := H3.2.2.2.1
    obtain ⟨r4, g4, H4, K4⟩ := xs_and (o := o) (p := p) (l := l) (w := w) (k := k) H3.1 (by omega) (a := r2) (b := r3) (by omega) (by omega)
    have n4 := H4.2.2.1; have x4 := H4.2.1.1.1; have q4 := H4.2.2.2.1
    obtain ⟨r5, g5, H5, K5⟩ := xs_and (o := o) (p := p) (l := l) (w := w) (k := k) H4.1 (by omega) (a := r4) (b := r1) (by omega) (by omega)
    have n5 := H5.2.2.1; have x5 := H5.2.1.1.1; have q5 := H5.2.2.2.1; have m5 := H5.1.2.1
    have e15 := gq_ext_tr H1.2.1 (gq_ext_tr H2.2.1 (gq_ext_tr H3.2.1 (gq_ext_tr H4.2.1 H5.2.1)))
    have ep : ∀ c, c < 5 → (xs_u w.2.2.2.2.1 (5 * i + j) r5) (5 * p.2.2.2.1 i + c) = w.2.2.2.2.1 (5 * p.2.2.2.1 i + c) := fun c hc => xs_un (by omega)
    have eq : ∀ c, c < 5 → (xs_u w.2.2.2.2.1 (5 * i + j) r5) (5 * p.2.2.2.2 i + c) = w.2.2.2.2.1 (5 * p.2.2.2.2 i + c) := fun c hc => xs_un (by omega)
    have r5v : ∀ R, gq_md g5 R → R r2 = rv_or (R a) (R (w.2.2.2.2.1 (5 * p.2.2.2.1 i + j))) ∧ R r3 = rv_or (R b) (R (w.2.2.2.2.1 (5 * p.2.2.2.2 i + j))) ∧
        R r5 = rv_and (rv_and (rv_or (R a) (R (w.2.2.2.2.1 (5 * p.2.2.2.1 i + j)))) (rv_or (R b) (R (w.2.2.2.2.1 (5 * p.2.2.2.2 i + j))))) (rv_or (R (w.2.2.2.2.1 (5 * p.2.2.2.1 i + j))) (R (w.2.2.2.2.1 (5 * p.2.2.2.2 i + j)))) := by
      intro R m
      have m4 := gq_md_of H4.1 H5.2.1.1 m
      have m3 := gq_md_of H3.1 H4.2.1.1 m4
      have m2 := gq_md_of H2.1 H3.2.1.1 m3
      have m1 := gq_md_of H1.1 H2.2.1.1 m2
      have e5 : R r5 = rv_and (R r4) (R r1) := H5.2.2.2.2 R m
      have e4 : R r4 = rv_and (R r2) (R r3) := H4.2.2.2.2 R m4
      have e3 : R r3 = rv_or (R b) (R (w.2.2.2.2.1 (5 * p.2.2.2.2 i + j))) := H3.2.2.2.2 R m3
      have e2 : R r2 = rv_or (R a) (R (w.2.2.2.2.1 (5 * p.2.2.2.1 i + j))) := H2.2.2.2.2 R m2
      have e1 : R r1 = rv_or (R (w.2.2.2.2.1 (5 * p.2.2.2.1 i + j))) (R (w.2.2.2.2.1 (5 * p.2.2.2.2 i + j))) := H1.2.2.2.2 R m1
      exact ⟨e2, e3, by rw [e5, e4, e3, e2, e1]⟩
    have key : ∀ v g6, gq_ok g6 → gq_ext g5 g6 → g6.1 ≤ g5.1 + 1 → v < g6.1 → (∀ R, gq_md g6 R → R v = if j ≤ 1 then R ot else rv_or (R ot) (R r5)) →
        (∀ post : SX → Prop, wX_finishPar_82 post (nI i) (nI (p.2.2.2.1 i)) (nI (p.2.2.2.2 i)) (d + 1) (nI r2) (nI r3) (nI v) (nI (j + 1)) (nI p.1) (nI o.1) (nI o.2.1) (nI g6.1) (nI k.1) (nI o.2.2.1) (nI o.2.2.2.1) (nI o.2.2.2.2.1) (nI o.2.2.2.2.2.1) (xs_A p.2.1) (xs_A p.2.2.1) (xs_A p.2.2.2.1) (xs_A p.2.2.2.2) (xs_A o.2.2.2.2.2.2.1) (xs_A o.2.2.2.2.2.2.2.1) (xs_A g6.2.1) (xs_A g6.2.2.1) (xs_A g6.2.2.2.1) (xs_A g6.2.2.2.2) (xs_A o.2.2.2.2.2.2.2.2.1) (xs_A (xs_wc w (xs_u w.2.2.2.2.1 (5 * i + j) r5)).1) (xs_A (xs_wc w (xs_u w.2.2.2.2.1 (5 * i + j) r5)).2.1) (xs_A (xs_wc w (xs_u w.2.2.2.2.1 (5 * i + j) r5)).2.2.1) (xs_A (xs_wc w (xs_u w.2.2.2.2.1 (5 * i + j) r5)).2.2.2.1) (xs_A (xs_wc w (xs_u w.2.2.2.2.1 (5 * i + j) r5)).2.2.2.2.1) (xs_A l.1) (xs_A l.2) (xs_A (xs_wc w (xs_u w.2.2.2.2.1 (5 * i + j) r5)).2.2.2.2.2) (xs_A o.2.2.2.2.2.2.2.2.2.1) (xs_A k.2.1) (xs_A k.2.2) (xs_A o.2.2.2.2.2.2.2.2.2.2) →
          wX_finishPar_82 post (nI i) (nI (p.2.2.2.1 i)) (nI (p.2.2.2.2 i)) (d + 1 + 1) (nI a) (nI b) (nI ot) (nI j) (nI p.1) (nI o.1) (nI o.2.1) (nI g.1) (nI k.1) (nI o.2.2.1) (nI o.2.2.2.1) (nI o.2.2.2.2.1) (nI o.2.2.2.2.2.1) (xs_A p.2.1) (xs_A p.2.2.1) (xs_A p.2.2.2.1) (xs_A p.2.2.2.2) (xs_A o.2.2.2.2.2.2.1) (xs_A o.2.2.2.2.2.2.2.1) (xs_A g.2.1) (xs_A g.2.2.1) (xs_A g.2.2.2.1) (xs_A g.2.2.2.2) (xs_A o.2.2.2.2.2.2.2.2.1) (xs_A w.1) (xs_A w.2.1) (xs_A w.2.2.1) (xs_A w.2.2.2.1) (xs_A w.2.2.2.2.1) (xs_A l.1) (xs_A l.2) (xs_A w.2.2.2.2.2) (xs_A o.2.2.2.2.2.2.2.2.2.1) (xs_A k.2.1) (xs_A k.2.2) (xs_A o.2.2.2.2.2.2.2.2.2.2)) →
        ∃ g1 cd r, gq_ok g1 ∧ gq_ext g g1 ∧ g1.1 ≤ g.1 + 6 * (d + 1) ∧ (∀ t, ¬ (5 * i + j ≤ t ∧ t < 5 * i + 5) → cd t = w.2.2.2.2.1 t) ∧ (∀ c, j ≤ c → c < 5 → cd (5 * i + c) < g1.1) ∧ r < g1.1 ∧
          (∀ R, gq_md g1 R → (∀ m, j + m < 5 → R (cd (5 * i + (j + m))) = rv_and (rv_and (rv_up (R a) (fun t => R (w.2.2.2.2.1 (5 * p.2.2.2.1 i + (t + j)))) m) (rv_up (R b) (fun t => R (w.2.2.2.2.1 (5 * p.2.2.2.2 i + (t + j)))) m))
              (rv_or (R (w.2.2.2.2.1 (5 * p.2.2.2.1 i + (j + m)))) (R (w.2.2.2.2.1 (5 * p.2.2.2.2 i + (j + m)))))) ∧
            R r = rv_og (R ot) (fun c => R (cd (5 * i + c))) j (d + 1)) ∧
          ∀ post : SX → Prop, post (xs o p l (gq_sb g1 (w.2.2.2.1 (p.2.2.2.1 i)) r) (xs_wc w cd) k) → wX_finishPar_82 post (nI i) (nI (p.2.2.2.1 i)) (nI (p.2.2.2.2 i)) (d + 1 + 1) (nI a) (nI b) (nI ot) (nI j) (nI p.1) (nI o.1) (nI o.2.1) (nI g.1) (nI k.1) (nI o.2.2.1) (nI o.2.2.2.1) (nI o.2.2.2.2.1) (nI o.2.2.2.2.2.1) (xs_A p.2.1) (xs_A p.2.2.1) (xs_A p.2.2.2.1) (xs_A p.2.2.2.2) (xs_A o.2.2.2.2.2.2.1) (xs_A o.2.2.2.2.2.2.2.1) (xs_A g.2.1) (xs_A g.2.2.1) (xs_A g.2.2.2.1) (xs_A g.2.2.2.2) (xs_A o.2.2.2.2.2.2.2.2.1) (xs_A w.1) (xs_A w.2.1) (xs_A w.2.2.1) (xs_A w.2.2.2.1) (xs_A w.2.2.2.2.1) (xs_A l.1) (xs_A l.2) (xs_A w.2.2.2.2.2) (xs_A o.2.2.2.2.2.2.2.2.2.1) (xs_A k.2.1) (xs_A k.2.2) (xs_A o.2.2.2.2.2.2.2.2.2.2) := by
      intro v g6 G61 G62 G63 hv hvR hgo
      have x6 := G62.1.1
      obtain ⟨g7, cd, r, G1, G2, G3, G4, G5, G6, G7, G8⟩ := ih (j + 1) (by omega) g6 (xs_wc w (xs_u w.2.2.2.2.1 (5 * i + j) r5)) r2 r3 v G61 (by omega)
        (fun c hc => by show (xs_u w.2.2.2.2.1 (5 * i + j) r5) (5 * p.2.2.2.1 i + c) < g6.1; rw [ep c hc]; have := hbp c hc; omega) (fun c hc => by show (xs_u w.2.2.2.2.1 (5 * i + j) r5) (5 * p.2.2.2.2 i + c) < g6.1; rw [eq c hc]; have := hbq c hc; omega)
        (by omega) (by omega) hv (show w.2.2.2.1 (p.2.2.2.1 i) < g6.1 by omega)
      have x7 := G2.1.1
      have cj : cd (5 * i + j) = r5 := (G4 _ (by omega)).trans (xs_us _ _ _)
      refine ⟨g7, cd, r, G1, gq_ext_tr e15 (gq_ext_tr G62 G2), by omega, fun t ht => (G4 t (by omega)).trans (xs_un (by omega)), fun c h1 h2 => ?_, G6, fun R m => ⟨fun c hc => ?_, ?_⟩, fun post hpo => hgo post (G8 post hpo)⟩
      · by_cases e : c = j
        · rw [e, cj]; omega
        · exact G5 c (by omega) h2
      · have m6 := gq_md_of G61 G2.1 m
        obtain ⟨v2, v3, v5⟩ := r5v R (gq_md_of H5.1 G62.1 m6)
        cases c with
        | zero =>
          rw [Nat.add_zero, cj, v5]
          show _ = rv_and (rv_and (rv_or _ (R (w.2.2.2.2.1 (5 * p.2.2.2.1 i + (0 + j))))) (rv_or _ (R (w.2.2.2.2.1 (5 * p.2.2.2.2 i + (0 + j)))))) _
          rw [Nat.zero_add]
        | succ c =>
          have I := (G7 R m).1 c (by omega)
          rw [show j + 1 + c = j + (c + 1) by omega] at I
          rw [I, v2, v3]
          show rv_and (rv_and (rv_up _ (fun t => R ((xs_u w.2.2.2.2.1 (5 * i + j) r5) (5 * p.2.2.2.1 i + (t + (j + 1))))) c) (rv_up _ (fun t => R ((xs_u w.2.2.2.2.1 (5 * i + j) r5) (5 * p.2.2.2.2 i + (t + (j + 1))))) c))
            (rv_or (R ((xs_u w.2.2.2.2.1 (5 * i + j) r5) (5 * p.2.2.2.1 i + (j + (c + 1))))) (R ((xs_u w.2.2.2.2.1 (5 * i + j) r5) (5 * p.2.2.2.2 i + (j + (c + 1)))))) = _
          have u1 : ∀ y, rv_up y (fun t => R ((xs_u w.2.2.2.2.1 (5 * i + j) r5) (5 * p.2.2.2.1 i + (t + (j + 1))))) c = rv_up y (fun t => R (w.2.2.2.2.1 (5 * p.2.2.2.1 i + (t + 1 + j)))) c :=
            fun y => rv_up_cg (n := c + 1) rfl (fun t ht => by show R ((xs_u w.2.2.2.2.1 (5 * i + j) r5) (5 * p.2.2.2.1 i + (t + (j + 1)))) = _; rw [ep _ (by omega), show t + (j + 1) = t + 1 + j by omega]) c (by omega)
          have u2 : ∀ y, rv_up y (fun t => R ((xs_u w.2.2.2.2.1 (5 * i + j) r5) (5 * p.2.2.2.2 i + (t + (j + 1))))) c = rv_up y (fun t => R (w.2.2.2.2.1 (5 * p.2.2.2.2 i + (t + 1 + j)))) c :=
            fun y => rv_up_cg (n := c + 1) rfl (fun t ht => by show R ((xs_u w.2.2.2.2.1 (5 * i + j) r5) (5 * p.2.2.2.2 i + (t + (j + 1)))) = _; rw [eq _ (by omega), show t + (j + 1) = t + 1 + j by omega]) c (by omega)
          have s1 := rv_up_sh (R a) (fun t => R (w.2.2.2.2.1 (5 * p.2.2.2.1 i + (t + j)))) c
          have s2 := rv_up_sh (R b) (fun t => R (w.2.2.2.2.1 (5 * p.2.2.2.2 i + (t + j)))) c
          rw [Nat.zero_add] at s1 s2
          rw [u1, u2, s1, s2, ep _ hc, eq _ hc]
      · have m6 := gq_md_of G61 G2.1 m
        rw [(G7 R m).2, hvR R m6, ← cj]
        rfl
    have go : ∀ post : SX → Prop, ((nI j ≤ 1 → (∀ y, y = nI j + 1 → wX_finishPar_82 post (nI i) (nI (p.2.2.2.1 i)) (nI (p.2.2.2.2 i)) (d + 1) (nI r2) (nI r3) (nI ot) y (nI p.1) (nI o.1) (nI o.2.1) (nI g5.1) (nI k.1) (nI o.2.2.1) (nI o.2.2.2.1) (nI o.2.2.2.2.1) (nI o.2.2.2.2.2.1) (xs_A p.2.1) (xs_A p.2.2.1) (xs_A p.2.2.2.1) (xs_A p.2.2.2.2) (xs_A o.2.2.2.2.2.2.1) (xs_A o.2.2.2.2.2.2.2.1) (xs_A g5.2.1) (xs_A g5.2.2.1) (xs_A g5.2.2.2.1) (xs_A g5.2.2.2.2) (xs_A o.2.2.2.2.2.2.2.2.1) (xs_A (xs_wc w (xs_u w.2.2.2.2.1 (5 * i + j) r5)).1) (xs_A (xs_wc w (xs_u w.2.2.2.2.1 (5 * i + j) r5)).2.1) (xs_A (xs_wc w (xs_u w.2.2.2.2.1 (5 * i + j) r5)).2.2.1) (xs_A (xs_wc w (xs_u w.2.2.2.2.1 (5 * i + j) r5)).2.2.2.1) (xs_A (xs_wc w (xs_u w.2.2.2.2.1 (5 * i + j) r5)).2.2.2.2.1) (xs_A l.1) (xs_A l.2) (xs_A (xs_wc w (xs_u w.2.2.2.2.1 (5 * i + j) r5)).2.2.2.2.2) (xs_A o.2.2.2.2.2.2.2.2.2.1) (xs_A k.2.1) (xs_A k.2.2) (xs_A o.2.2.2.2.2.2.2.2.2.2))) ∧
        (¬ nI j ≤ 1 → wpX_or (fun r u => match u with | (f_size, f_made, f_height, f_gates, f_works, f_begun, f_over, f_ticked, f_count, a_kind, a_number, a_partP, a_partQ, a_stack, a_traps, a_gate, a_inA, a_inB, a_fixed, a_value, a_start, a_resume, a_hold, a_kill, a_code, a_selected, a_register, a_becomes, a_on, a_work, a_workOn, a_status) => (∀ y, y = nI j + 1 → wX_finishPar_82 post (nI i) (nI (p.2.2.2.1 i)) (nI (p.2.2.2.2 i)) (d + 1) (nI r2) (nI r3) r y f_size f_made f_height f_gates f_works f_begun f_over f_ticked f_count a_kind a_number a_partP a_partQ a_stack a_traps a_gate a_inA a_inB a_fixed a_value a_start a_resume a_hold a_kill a_code a_selected a_register a_becomes a_on a_work a_workOn a_status)) (xs o p l g5 (xs_wc w (xs_u w.2.2.2.2.1 (5 * i + j) r5)) k) (nI ot) (nI r5))) →
        wX_finishPar_82 post (nI i) (nI (p.2.2.2.1 i)) (nI (p.2.2.2.2 i)) (d + 1 + 1) (nI a) (nI b) (nI ot) (nI j) (nI p.1) (nI o.1) (nI o.2.1) (nI g.1) (nI k.1) (nI o.2.2.1) (nI o.2.2.2.1) (nI o.2.2.2.2.1) (nI o.2.2.2.2.2.1) (xs_A p.2.1) (xs_A p.2.2.1) (xs_A p.2.2.2.1) (xs_A p.2.2.2.2) (xs_A o.2.2.2.2.2.2.1) (xs_A o.2.2.2.2.2.2.2.1) (xs_A g.2.1) (xs_A g.2.2.1) (xs_A g.2.2.2.1) (xs_A g.2.2.2.2) (xs_A o.2.2.2.2.2.2.2.2.1) (xs_A w.1) (xs_A w.2.1) (xs_A w.2.2.1) (xs_A w.2.2.2.1) (xs_A w.2.2.2.2.1) (xs_A l.1) (xs_A l.2) (xs_A w.2.2.2.2.2) (xs_A o.2.2.2.2.2.2.2.2.2.1) (xs_A k.2.1) (xs_A k.2.2) (xs_A o.2.2.2.2.2.2.2.2.2.2) := fun post hpo =>
      br_f (nI_ge (b := 5) (by omega) (by omega)) (xs_codeOf (o := o) (p := p) (l := l) (g := g) (w := w) (k := k) (i := p.2.2.2.1 i) (c := j) rfl rfl (by omega) (xs_codeOf (o := o) (p := p) (l := l) (g := g) (w := w) (k := k) (i := p.2.2.2.2 i) (c := j) rfl rfl (by omega)
        (K1 _ _ _ rfl rfl (K2 _ _ _ rfl rfl (K3 _ _ _ rfl rfl (K4 _ _ _ rfl rfl (K5 _ _ _ rfl rfl (xs_setCode (o := o) (p := p) (l := l) (g := g5) (w := w) (k := k) (i := i) (c := j) (r := r5) rfl rfl rfl (by omega) (by omega) hpo))))))))
    by_cases j1 : j ≤ 1
    · exact key ot g5 H5.1 (gq_ext_rf g5) (by omega) (by omega) (fun R m => by rw [if_pos j1]) (fun post hpo => go post (br_t (nI_le (b := 1) j1 (by omega)) (nm_r (nI_1 j) hpo)))
    · obtain ⟨r6, g6, H6, K6⟩ := xs_or (o := o) (p := p) (l := l) (w := xs_wc w (xs_u w.2.2.2.2.1 (5 * i + j) r5)) (k := k) H5.1 (by omega) (a := ot) (b := r5) (by omega) (by omega)
      exact key r6 g6 H6.1 H6.2.1 H6.2.2.1 H6.2.2.2.1 (fun R m => by rw [if_neg j1]; exact H6.2.2.2.2 R m) (fun post hpo => go post (br_f (nI_ge (a := 1) (by omega) (by omega)) (K6 _ _ _ rfl rfl (nm_r (nI_1 j) hpo))))
theorem xs_fin8 (hk : p.2.1 i = 8) (hi : i < 16) (hp : p.2.2.2.1 i < i) (hq : p.2.2.2.2 i < i) (hG : gq_ok g) (hn : g.1 + 36 ≤ 800) (hin : xs_In g w i) (hl : l.1 i < g.1) (hlp : l.1 (p.2.2.2.1 i) < g.1) (hlq : l.1 (p.2.2.2.2 i) < g.1)
    (hbp : ∀ c, c < 5 → w.2.2.2.2.1 (5 * p.2.2.2.1 i + c) < g.1) (hbq : ∀ c, c < 5 → w.2.2.2.2.1 (5 * p.2.2.2.2 i + c) < g.1)
    (hkg : w.2.2.2.1 (p.2.2.2.1 i) < g.1) (hf : g.2.2.2.2 (w.2.2.2.1 (p.2.2.2.1 i)) = 0) :
    ∃ g1 w1, xs_Fin p l g g1 w w1 i ∧ ∀ (post : SX → Prop) (x : Int32), x = nI i → post (xs o p l g1 w1 k) → wpX_finish post (xs o p l g w k) x := by
  obtain ⟨i1, i2, i3, i4⟩ := hin
  have h16 : vp_in (nI i) 16 := vp_in_nI hi (by omega)
  have h32 : vp_in (nI i) 32 := vp_in_nI (by omega) (by omega)
  have p16 : vp_in (nI (p.2.2.2.1 i)) 16 := vp_in_nI (by omega) (by omega)
  have q16 : vp_in (nI (p.2.2.2.2 i)) 16 := vp_in_nI (by omega) (by omega)
  have g10 := hG.1
  obtain ⟨r1, g1, H1, K1⟩ := xs_and (o := o) (p := p) (l := l) (w := w) (k := k) hG (by omega) (a := l.1 i) (b := w.2.1 i) hl i2
  have n1 := H1.2.2.1; have x1 := H1.2.1.1.1; have q1 := H1.2.2.2.1
  obtain ⟨r2, g2, H2, K2⟩ := xs_not (o := o) (p := p) (l := l) (w := w) (k := k) H1.1 (by omega) (a := l.1 (p.2.2.2.1 i)) (by omega)
  have n2 := H2.2.2.1; have x2 := H2.2.1.1.1; have q2 := H2.2.2.2.1
  obtain ⟨r3, g3, H3, K3⟩ := xs_not (o := o) (p := p) (l := l) (w := w) (k := k) H2.1 (by omega) (a := l.1 (p.2.2.2.2 i)) (by omega)
  have n3 := H3.2.2.1; have x3 := H3.2.1.1.1; have q3 := H3.2.2.2.1
  obtain ⟨r4, g4, H4, K4⟩ := xs_and (o := o) (p := p) (l := l) (w := w) (k := k) H3.1 (by omega) (a := r1) (b := r2) (by omega) (by omega)
  have n4 := H4.2.2.1; have x4 := H4.2.1.1.1; have q4 := H4.2.2.2.1
  obtain ⟨r5, g5, H5, K5⟩ := xs_and (o := o) (p := p) (l := l) (w := w) (k := k) H4.1 (by omega) (a := r1) (b := r3) (by omega) (by omega)
  have n5 := H5.2.2.1; have x5 := H5.2.1.1.1; have q5 := H5.2.2.2.1; have m5 := H5.1.2.1
  have e15 := gq_ext_tr H1.2.1 (gq_ext_tr H2.2.1 (gq_ext_tr H3.2.1 (gq_ext_tr H4.2.1 H5.2.1)))
  obtain ⟨g6, cd, r, G1, G2, G3, G4, G5, G6, G7, G8⟩ := xs_fp_loop (o := o) (l := l) (k := k) hi hp hq 5 0 rfl g5 w r4 r5 0 H5.1 (by omega) (fun c hc => by have := hbp c hc; omega) (fun c hc => by have := hbq c hc; omega) (by omega) (by omega) (by omega) (by omega)
  refine ⟨gq_sb g6 (w.2.2.2.1 (p.2.2.2.1 i)) r, xs_wc w cd, xs_Fin_sb hG (Or.inr hk) G1 (gq_ext_tr e15 G2) (by omega) G6 hkg hf ⟨rfl, rfl, rfl, rfl⟩ G4 (fun _ _ => rfl) (fun c hc => G5 c (by omega) hc) (fun R m => ⟨fun c hc => ?_, fun h => by omega, fun _ => ?_⟩), fun post x hx hpo => ?_⟩
  · have mm5 := gq_md_of H5.1 G2.1 m
    have m4 := gq_md_of H4.1 H5.2.1.1 mm5
    have m3 := gq_md_of H3.1 H4.2.1.1 m4
    have m2 := gq_md_of H2.1 H3.2.1.1 m3
    have m1 := gq_md_of H1.1 H2.2.1.1 m2
    have e5 : R r5 = rv_and (R r1) (R r3) := H5.2.2.2.2 R mm5
    have e4 : R r4 = rv_and (R r1) (R r2) := H4.2.2.2.2 R m4
    have e3 : R r3 = rv_not (R (l.1 (p.2.2.2.2 i))) := H3.2.2.2.2 R m3
    have e2 : R r2 = rv_not (R (l.1 (p.2.2.2.1 i))) := H2.2.2.2.2 R m2
    have e1 : R r1 = rv_and (R (l.1 i)) (R (w.2.1 i)) := H1.2.2.2.2 R m1
    have I := (G7 R m).1 c (by omega)
    rw [Nat.zero_add, e4, e5, e3, e2, e1] at I
    unfold xs_fc
    rw [if_neg (by omega), if_neg (by omega), if_neg (by omega), if_neg (by omega), if_pos hk]
    exact I
  · rw [(G7 R m).2, m.1]
    show rv_or (rv_or (rv_or rv_F _) _) _ = _
    rw [rv_F_or]
    rfl
  · subst hx
    refine And.intro h32 (nm_r (e' := nI (p.2.1 i)) (xs_at (by omega)) (br_t (nI_le (a := 7) (by omega) (by omega)) (br_t ?_ (And.intro h32 (nm_r (e' := nI (p.2.2.2.1 i)) (xs_at (by omega)) (And.intro h32 (nm_r (e' := nI (p.2.2.2.2 i)) (xs_at (by omega)) (And.intro h16 (And.intro h16
      (K1 _ _ _ (xs_at (by omega)) (xs_at (by omega)) (And.intro p16 (K2 _ _ (xs_at (by omega)) (And.intro q16 (K3 _ _ (xs_at (by omega)) (K4 _ _ _ rfl rfl (K5 _ _ _ rfl rfl (Exists.intro 6 (G8 _ hpo))))))))))))))))))
    rw [hk]; decide
theorem xs_fin (h4 : 4 ≤ p.2.1 i) (h9 : p.2.1 i ≤ 9) (hs : p.2.2.1 i < 6) (hi : i < 16) (hp : p.2.2.2.1 i < i) (hq : 7 ≤ p.2.1 i → p.2.2.2.2 i < i) (hG : gq_ok g) (hn : g.1 + 36 ≤ 800) (hin : xs_In g w i) (hr : l.2 i < g.1)
    (hl : ∀ j, j ≤ i → l.1 j < g.1) (hbp : ∀ c, c < 5 → w.2.2.2.2.1 (5 * p.2.2.2.1 i + c) < g.1) (hbq : 7 ≤ p.2.1 i → ∀ c, c < 5 → w.2.2.2.2.1 (5 * p.2.2.2.2 i + c) < g.1)
    (hkg : w.2.2.2.1 (p.2.2.2.1 i) < g.1) (hf : p.2.1 i = 5 ∨ p.2.1 i = 8 → g.2.2.2.2 (w.2.2.2.1 (p.2.2.2.1 i)) = 0) :
    ∃ g1 w1, xs_Fin p l g g1 w w1 i ∧ ∀ (post : SX → Prop) (x : Int32), x = nI i → post (xs o p l g1 w1 k) → wpX_finish post (xs o p l g w k) x := by
  by_cases e4 : p.2.1 i = 4
  · exact xs_fin4 e4 hi hp hG hn hin hr hbp
  by_cases e5 : p.2.1 i = 5
  · exact xs_fin5 e5 hi hp hG hn hbp hkg (hf (by omega))
  by_cases e6 : p.2.1 i = 6
  · exact xs_fin6 e6 hs hi hp hG hn hin (hl _ (by omega)) hbp
  by_cases e8 : p.2.1 i = 8
  · have q := hq (by omega)
    exact xs_fin8 e8 hi hp q hG hn hin (hl _ (by omega)) (hl _ (by omega)) (hl _ (by omega)) hbp (hbq (by omega)) hkg (hf (by omega))
  · exact xs_fin79 (by omega) hi hp (hq (by omega)) hG hn hbp (hbq (by omega))
end
end
section
/-! ===== the local conditions look at a statement and its parts alone ===== -/
theorem fa_loop_cg {c d : Nat → rv_V} (h : ∀ k, k < 5 → c k = d k) {k : Nat} (hk : k < 5) : fa_loop c k = fa_loop d k := by
  unfold fa_loop; rw [h 0 (by omega), h 1 (by omega), h k hk]
theorem fa_trap_cg {c d : Nat → rv_V} (h : ∀ k, k < 5 → c k = d k) {k : Nat} (hk : k < 5) : fa_trap c k = fa_trap d k := by
  unfold fa_trap
  by_cases e : k = 4
  · subst e; rfl
  · rw [h 0 (by omega), h 1 (by omega), h 2 (by omega), h (k + 1) (by omega)]
section
variable {kd nm pp pq : Nat → Nat} {S : Nat → rv_V} {rs rr rh rk rl rg rb rs' rr' rh' rk' rb' : Nat → rv_V} {rc rc' : Nat → Nat → rv_V} {i : Nat}
def rt_ag (rs rr rh rk rs' rr' rh' rk' : Nat → rv_V) (rc rc' : Nat → Nat → rv_V) (x : Nat) : Prop :=
  rs' x = rs x ∧ rr' x = rr x ∧ rh' x = rh x ∧ rk' x = rk x ∧ ∀ c, c < 5 → rc' x c = rc x c
theorem rt_NE_cg (ai : rt_ag rs rr rh rk rs' rr' rh' rk' rc rc' i) (ap : 4 ≤ kd i → rt_ag rs rr rh rk rs' rr' rh' rk' rc rc' (pp i)) (aq : 7 ≤ kd i → rt_ag rs rr rh rk rs' rr' rh' rk' rc rc' (pq i)) (ab : rb' i = rb i)
    (H : rt_NE kd nm pp pq S rs rr rh rk rl rg rb rc i) : rt_NE kd nm pp pq S rs' rr' rh' rk' rl rg rb' rc' i := by
  obtain ⟨a1, a2, a3, a4, a5⟩ := ai
  obtain ⟨H0, H1, H3, H4, H5, H6, H7, H8, H9⟩ := H
  refine ⟨fun h k hk => ?_, fun h => ⟨fun k hk => ?_, ?_⟩, fun h k hk => ?_, fun h => ?_, fun h => ?_, fun h => ?_, fun h => ?_, fun h => ?_, fun h => ?_⟩
  · rw [a5 k hk, a1]; exact H0 h k hk
  · rw [a5 k hk, a1, a2]; exact (H1 h).1 k hk
  · rw [ab, a1, a3, a4]; exact (H1 h).2
  · rw [a5 k hk, a1]; exact H3 h k hk
  · obtain ⟨p1, p2, p3, p4, p5⟩ := ap (by omega)
    rw [p1, p2, p3, p4, a1, a2, a3, a4, ab, p5 0 (by omega)]
    have E := H4 h
    exact ⟨E.1, E.2.1, E.2.2.1, E.2.2.2.1, fun k hk => by rw [a5 k hk, fa_loop_cg p5 hk]; exact E.2.2.2.2.1 k hk, E.2.2.2.2.2⟩
  · obtain ⟨p1, p2, p3, p4, p5⟩ := ap (by omega)
    rw [p1, p2, p3, a1, a2, a3]
    have E := H5 h
    exact ⟨E.1, E.2.1, E.2.2.1, fun k hk => by rw [a5 k hk, fa_trap_cg p5 hk]; exact E.2.2.2 k hk⟩
  · obtain ⟨p1, p2, p3, p4, p5⟩ := ap (by omega)
    rw [p1, p2, p3, p4, a1, a2, a3, a4]
    have E := H6 h
    exact ⟨E.1, E.2.1, E.2.2.1, E.2.2.2.1, fun k hk => by rw [a5 k hk, p5 k hk, p5 1 (by omega)]; exact E.2.2.2.2 k hk⟩
  · obtain ⟨p1, p2, p3, p4, p5⟩ := ap (by omega)
    obtain ⟨q1, q2, q3, q4, q5⟩ := aq (by omega)
    rw [p1, p2, p3, p4, q1, q2, q3, q4, a1, a2, a3, a4, p5 0 (by omega)]
    have E := H7 h
    exact ⟨E.1, E.2.1, E.2.2.1, E.2.2.2.1, E.2.2.2.2.1, E.2.2.2.2.2.1, E.2.2.2.2.2.2.1, E.2.2.2.2.2.2.2.1, fun k hk => by rw [a5 k hk, p5 k hk, q5 k hk, q5 0 (by omega)]; exact E.2.2.2.2.2.2.2.2 k hk⟩
  · obtain ⟨p1, p2, p3, p4, p5⟩ := ap (by omega)
    obtain ⟨q1, q2, q3, q4, q5⟩ := aq (by omega)
    rw [p1, p2, p3, p4, q1, q2, q3, q4, a1, a2, a3]
    have E := H8 h
    exact ⟨E.1, E.2.1, E.2.2.1, E.2.2.2.1, E.2.2.2.2.1, E.2.2.2.2.2.1, E.2.2.2.2.2.2.1, fun k hk => by rw [a5 k hk, p5 k hk, q5 k hk, rv_up_cg rfl p5 k hk, rv_up_cg rfl q5 k hk]; exact E.2.2.2.2.2.2.2 k hk⟩
  · obtain ⟨p1, p2, p3, p4, p5⟩ := ap (by omega)
    obtain ⟨q1, q2, q3, q4, q5⟩ := aq (by omega)
    rw [p1, p2, p3, p4, q1, q2, q3, q4, a1, a2, a3, a4]
    have E := H9 h
    exact ⟨E.1, E.2.1, E.2.2.1, E.2.2.2.1, E.2.2.2.2.1, E.2.2.2.2.2.1, E.2.2.2.2.2.2.1, E.2.2.2.2.2.2.2.1, fun k hk => by rw [a5 k hk, p5 k hk, q5 k hk]; exact E.2.2.2.2.2.2.2.2 k hk⟩
end
/-- the wires at x are the same -/
def xs_ag (w w' : xs_W) (x : Nat) : Prop := w'.1 x = w.1 x ∧ w'.2.1 x = w.2.1 x ∧ w'.2.2.1 x = w.2.2.1 x ∧ w'.2.2.2.1 x = w.2.2.2.1 x ∧ ∀ c, c < 5 → w'.2.2.2.2.1 (5 * x + c) = w.2.2.2.2.1 (5 * x + c)
theorem xs_ag_rt {w w' : xs_W} {x : Nat} (h : xs_ag w w' x) (R : Nat → rv_V) : rt_ag (fun x => R (w.1 x)) (fun x => R (w.2.1 x)) (fun x => R (w.2.2.1 x)) (fun x => R (w.2.2.2.1 x)) (fun x => R (w'.1 x)) (fun x => R (w'.2.1 x)) (fun x => R (w'.2.2.1 x)) (fun x => R (w'.2.2.2.1 x))
    (fun x c => R (w.2.2.2.2.1 (5 * x + c))) (fun x c => R (w'.2.2.2.2.1 (5 * x + c))) x :=
  ⟨congrArg R h.1, congrArg R h.2.1, congrArg R h.2.2.1, congrArg R h.2.2.2.1, fun c hc => congrArg R (h.2.2.2.2 c hc)⟩
theorem xs_NE_cg {p : xs_P} {R : Nat → rv_V} {l : xs_L} {w w' : xs_W} {j : Nat} (ai : xs_ag w w' j) (ap : 4 ≤ p.2.1 j → xs_ag w w' (p.2.2.2.1 j)) (aq : 7 ≤ p.2.1 j → xs_ag w w' (p.2.2.2.2 j)) (ab : w'.2.2.2.2.2 j = w.2.2.2.2.2 j)
    (H : xs_NE p R l w j) : xs_NE p R l w' j :=
  rt_NE_cg (rb := fun x => R (w.2.2.2.2.2 x)) (rb' := fun x => R (w'.2.2.2.2.2 x)) (xs_ag_rt ai R) (fun h => xs_ag_rt (ap h) R) (fun h => xs_ag_rt (aq h) R) (congrArg R ab) H
/-- parts lie within -/
theorem rt_Nd_p {kd nm pp pq lo : Nat → Nat} {z i : Nat} (hT : ∀ i, i < z → rt_Nd kd nm pp pq lo i) (hi : i < z) : (4 ≤ kd i → lo i ≤ pp i ∧ pp i < i) ∧ (7 ≤ kd i → pp i < pq i ∧ pq i < i ∧ lo (pq i) = pp i + 1) := by
  have T := hT i hi
  have t1 := T.2.2.2.2.2.2.2.1
  have t2 := T.2.2.2.2.2.2.2.2
  have two : 7 ≤ kd i → pp i < pq i ∧ pq i < i ∧ lo (pq i) = pp i + 1 := by
    intro h
    have a := t2 h
    have b := (hT (pq i) (by omega)).2.2.2.1
    omega
  refine ⟨fun h => ?_, two⟩
  by_cases h7 : kd i < 7
  · have a := t1 h h7
    have b := (hT (pp i) (by omega)).2.2.2.1
    omega
  · have a := t2 (by omega)
    have b := two (by omega)
    have c := (hT (pp i) (by omega)).2.2.2.1
    omega
/-- subtrees lie within subtrees -/
theorem rt_Nd_in {kd nm pp pq lo : Nat → Nat} {z : Nat} (hT : ∀ i, i < z → rt_Nd kd nm pp pq lo i) : ∀ i, i < z → ∀ j, lo i ≤ j → j ≤ i → lo i ≤ lo j := by
  intro i
  induction i using Nat.strongRecOn with
  | ind i ih =>
    intro hi j h1 h2
    have T := hT i hi
    have P := rt_Nd_p hT hi
    by_cases e : j = i
    · rw [e]; exact Nat.le_refl _
    by_cases h4 : kd i < 4
    · have := T.2.2.2.2.2.2.1 h4; omega
    by_cases h7 : kd i < 7
    · have a := T.2.2.2.2.2.2.2.1 (by omega) h7
      have := ih (pp i) (by omega) (by omega) j (by omega) (by omega)
      omega
    · have a := T.2.2.2.2.2.2.2.2 (by omega)
      have b := P.2 (by omega)
      have c := P.1 (by omega)
      by_cases hp : j ≤ pp i
      · have := ih (pp i) (by omega) (by omega) j (by omega) hp; omega
      · have := ih (pq i) (by omega) (by omega) j (by omega) (by omega); omega
/-- a subtree keeps its facts when gates are added and wires elsewhere change -/
theorem xs_keep {p : xs_P} {lo : xs_f} {l : xs_L} {z : Nat} (hT : ∀ i, i < z → rt_Nd p.2.1 p.2.2.1 p.2.2.2.1 p.2.2.2.2 lo i) {i : Nat} (hi : i < z) {g g' : xs_G} {w w' : xs_W} {n n' : Nat} (hn : n' ≤ n) (hg : g.1 ≤ g'.1)
    (hj : ∀ j, j < g.1 → g'.2.1 j = g.2.1 j ∧ g'.2.2.1 j = g.2.2.1 j ∧ g'.2.2.2.2 j = g.2.2.2.2 j ∧ (n ≤ j → g'.2.2.2.1 j = g.2.2.2.1 j)) (hm : ∀ R, gq_md g' R → gq_md g R)
    (ha : ∀ j, lo i ≤ j → j ≤ i → xs_ag w w' j) (hb : ∀ j, lo i ≤ j → j ≤ i → w'.2.2.2.2.2 j = w.2.2.2.2.2 j)
    (h : ∀ j, lo i ≤ j → j ≤ i → xs_Bd p g w j ∧ xs_KF p n g w j) : (∀ j, lo i ≤ j → j ≤ i → xs_Bd p g' w' j ∧ xs_KF p n' g' w' j) ∧
      ∀ R, (∀ j, lo i ≤ j → j ≤ i → xs_NE p R l w j) → ∀ j, lo i ≤ j → j ≤ i → xs_NE p R l w' j := by
  have inn := rt_Nd_in hT i hi
  refine ⟨fun j h1 h2 => ⟨?_, fun hk => ?_⟩, fun R hR j h1 h2 => ?_⟩
  · obtain ⟨⟨b1, b2, b3, b4⟩, bc, bb⟩ := (h j h1 h2).1
    obtain ⟨a1, a2, a3, a4, a5⟩ := ha j h1 h2
    refine ⟨⟨by omega, by omega, by omega, by omega⟩, fun c hc => ?_, fun e => ?_⟩
    · rw [a5 c hc]; have := bc c hc; omega
    · rw [hb j h1 h2]; have := bb e; omega
  · obtain ⟨k1, k2, k3, k4, k5, k6⟩ := (h j h1 h2).2 hk
    have P := (rt_Nd_p hT (i := j) (by omega)).1 (by omega)
    have I := inn j h1 h2
    obtain ⟨a1, a2, a3, a4, a5⟩ := ha j h1 h2
    obtain ⟨p1, p2, p3, p4, p5⟩ := ha (p.2.2.2.1 j) (by omega) (by omega)
    have J := hj _ k2
    rw [p4, a4, J.1, J.2.1, J.2.2.1, J.2.2.2 k1, p5 2 (by omega), a5 2 (by omega), a5 3 (by omega), a5 4 (by omega)]
    exact ⟨by omega, by omega, k3, k4, k5, fun R m => k6 R (hm R m)⟩
  · have I := inn j h1 h2
    have P := rt_Nd_p hT (i := j) (by omega)
    refine xs_NE_cg (ha j h1 h2) (fun h => ha _ ?_ ?_) (fun h => ha _ ?_ ?_) (hb j h1 h2) (hR j h1 h2)
    · have := P.1 h; omega
    · have := P.1 h; omega
    · have := P.2 h; have := P.1 (by omega); omega
    · have := P.2 h; omega
end
section
/-! ===== one part: begin, the part, finish ===== -/
section
variable {p : xs_P} {lo : xs_f} {l : xs_L} {z i : Nat} {g g1 g2 g3 g4 g5 : xs_G} {w w1 w2 w3 w4 w5 : xs_W}
theorem xs_join1 (hT : ∀ i, i < z → rt_Nd p.2.1 p.2.2.1 p.2.2.2.1 p.2.2.2.2 lo i) (hi : i < z) (h4 : 4 ≤ p.2.1 i) (h7 : p.2.1 i < 7) (hG : gq_ok g) (hin : xs_In g w i)
    (B : xs_Beg p l g g1 w w1 i) (P : xs_Post p lo l g1 g2 w1 w2 (p.2.2.2.1 i)) (F : xs_Fin p l g2 g3 w2 w3 i) : xs_Post p lo l g g3 w w3 i := by
  obtain ⟨B1, B2, B3, B4, B5, B6, B7, B8⟩ := B
  obtain ⟨P1, P2, P3, P4, P5, P6⟩ := P
  obtain ⟨F1, F2, F3, F4, F5, F6, F7, F8, F9, F10, F11⟩ := F
  have T := hT i hi
  have ⟨t1, t2⟩ := T.2.2.2.2.2.2.2.1 h4 h7
  have tl := (hT (p.2.2.2.1 i) (by omega)).2.2.2.1
  have g10 := hG.1
  have x1 := B2.1.1
  have x2 := P2.1
  have kq : w2.2.2.2.1 (p.2.2.2.1 i) = w1.2.2.2.1 (p.2.2.2.1 i) := (P4.1 _ (by omega)).2.2.2
  have kqb := B5.2.2.2
  have wi : ∀ {j}, ¬ (lo i ≤ j ∧ j < i) → w3.1 j = w.1 j ∧ w3.2.1 j = w.2.1 j ∧ w3.2.2.1 j = w.2.2.1 j ∧ w3.2.2.2.1 j = w.2.2.2.1 j := by
    intro j hj
    have a := P4.1 j (by omega)
    have b := B4.1 j (by omega)
    rw [F6.1, F6.2.1, F6.2.2.1, F6.2.2.2]
    exact ⟨a.1.trans b.1, a.2.1.trans b.2.1, a.2.2.1.trans b.2.2.1, a.2.2.2.trans b.2.2.2⟩
  have m2 : ∀ R, gq_md g3 R → gq_md g2 R := fun R m => (F11 R m).1
  have ag : ∀ j, lo (p.2.2.2.1 i) ≤ j → j ≤ p.2.2.2.1 i → xs_ag w2 w3 j := fun j h1 h2 => ⟨by rw [F6.1], by rw [F6.2.1], by rw [F6.2.2.1], by rw [F6.2.2.2], fun c hc => F7 _ (by omega)⟩
  have K := xs_keep (l := l) hT (i := p.2.2.2.1 i) (by omega) (n' := g.1) x1 F2 (fun j hj => ⟨(F4 j hj).1, (F4 j hj).2.1, (F4 j hj).2.2.1, fun h => (F4 j hj).2.2.2 (fun _ => by omega)⟩) m2 ag (fun j h1 h2 => F8 j (by omega)) P5
  have wII := wi (j := i) (by omega)
  refine ⟨F1, ⟨by omega, fun j hj => ?_, fun j h1 h2 => ?_⟩, by omega, ⟨fun j hj => wi hj, fun t ht => ?_, fun j hj => ?_⟩, fun j h1 h2 => ?_, fun R m => ⟨fun j h1 h2 => ?_, fun s hs => ?_⟩⟩
  · have a := B2.1.2.1 j hj
    have b := P2.2.1 j (by omega)
    have c := F4 j (by omega)
    refine ⟨c.1.trans (b.1.trans a.1), c.2.1.trans (b.2.1.trans a.2.1), c.2.2.1.trans (b.2.2.1.trans a.2.2.1), fun h => (c.2.2.2 (fun e => ?_)).trans ((b.2.2.2 h).trans (a.2.2.2 h))⟩
    have := (B6 e).1
    omega
  · rcases Nat.lt_or_ge j g2.1 with h3 | h3
    · rw [(F4 j h3).1]
      rcases Nat.lt_or_ge j g1.1 with h4 | h4
      · rw [(P2.2.1 j h4).1]; exact B2.1.2.2 j h1 h4
      · exact P2.2.2 j h4 h3
    · exact F5 j h3 h2
  · rw [F7 t (by omega), P4.2.1 t (by omega), B4.2.1]
  · rw [F8 j (by omega), P4.2.2 j (by omega), B4.2.2]
  · by_cases e : j = i
    · subst e
      obtain ⟨i1, i2, i3, i4⟩ := hin
      refine ⟨⟨⟨by omega, by omega, by omega, by omega⟩, F9, fun h => F10 (by omega)⟩, fun h => ?_⟩
      have b := B6 h
      have c := P2.2.1 _ kqb
      have d := F4 (w1.2.2.2.1 (p.2.2.2.1 j)) (by omega)
      rw [F6.2.2.2, kq, d.1, d.2.1, d.2.2.1, c.1, c.2.1, c.2.2.1, b.2.1, b.2.2.1, b.2.2.2]
      refine ⟨b.1, by omega, rfl, rfl, ?_, fun R m => ?_⟩
      · rw [← F6.2.2.2]; exact wII.2.2.2.symm
      · rw [if_pos (by omega), F7 _ (by omega), ← kq]; exact (F11 R m).2.2.2.1 (by omega)
    · exact K.1 j (by omega) (by omega)
  · have m2 := m2 R m
    have m1 := gq_md_of B1 P2 m2
    by_cases e : j = i
    · subst e
      obtain ⟨-, c, cb, -, -⟩ := F11 R m
      obtain ⟨b1, b2, b3⟩ := B8 R m1
      have pq1 : w3.1 (p.2.2.2.1 j) = w1.1 (p.2.2.2.1 j) := by rw [F6.1]; exact (P4.1 _ (by omega)).1
      have pq2 : w3.2.1 (p.2.2.2.1 j) = w1.2.1 (p.2.2.2.1 j) := by rw [F6.2.1]; exact (P4.1 _ (by omega)).2.1
      have pq3 : w3.2.2.1 (p.2.2.2.1 j) = w1.2.2.1 (p.2.2.2.1 j) := by rw [F6.2.2.1]; exact (P4.1 _ (by omega)).2.2.1
      have pq4 : w3.2.2.2.1 (p.2.2.2.1 j) = w1.2.2.2.1 (p.2.2.2.1 j) := by rw [F6.2.2.2]; exact kq
      have pc : ∀ c, c < 5 → w2.2.2.2.2.1 (5 * p.2.2.2.1 j + c) = w3.2.2.2.2.1 (5 * p.2.2.2.1 j + c) := fun c hc => (F7 _ (by omega)).symm
      have w2r : w2.2.1 j = w.2.1 j := by rw [← F6.2.1]; exact wII.2.1
      have w2h : w2.2.2.1 j = w.2.2.1 j := by rw [← F6.2.2.1]; exact wII.2.2.1
      have w2k : w2.2.2.2.1 j = w.2.2.2.1 j := by rw [← F6.2.2.2]; exact wII.2.2.2
      unfold xs_bs at b1
      unfold xs_br at b2
      unfold xs_bh at b3
      rw [← pq1] at b1
      rw [← pq2] at b2
      rw [← pq3] at b3
      refine ⟨fun h => by omega, fun h => by omega, fun h => by omega, fun h => ?_, fun h => ?_, fun h => ?_, fun h => by omega, fun h => by omega, fun h => by omega⟩
      · rw [if_pos h] at b1
        rw [if_neg (by omega)] at b2 b3
        show R (w3.1 (p.2.2.2.1 j)) = rv_or (R (w3.1 j)) (rv_and (R (l.2 j)) (R (w3.2.1 j))) ∧ R (w3.2.1 (p.2.2.2.1 j)) = R (w3.2.1 j) ∧ R (w3.2.2.1 (p.2.2.2.1 j)) = R (w3.2.2.1 j) ∧ R (w3.2.2.2.1 (p.2.2.2.1 j)) = R (w3.2.2.2.1 j) ∧ _ ∧
          R (w3.2.2.2.2.2 j) = rv_and (rv_or (R (w3.2.2.2.2.1 (5 * p.2.2.2.1 j + 0))) (rv_and (R (w3.2.2.1 j)) (R (l.2 j)))) (rv_not (R (w3.2.2.2.1 j)))
        rw [b1, b2, b3, pq4, B7 (by omega) (by omega), wII.1, wII.2.1, wII.2.2.1, wII.2.2.2]
        refine ⟨rfl, rfl, rfl, rfl, fun k hk => ?_, ?_⟩
        · have cc := c k hk
          unfold xs_fc at cc
          rw [if_pos h, fa_loop_cg (d := fun c => R (w3.2.2.2.2.1 (5 * p.2.2.2.1 j + c))) (fun c hc => congrArg R (pc c hc)) hk] at cc
          exact cc
        · rw [cb h, pc 0 (by omega), w2h, w2k]
      · rw [if_neg (by omega), if_neg (by omega)] at b1
        rw [if_neg (by omega)] at b2 b3
        show R (w3.1 (p.2.2.2.1 j)) = R (w3.1 j) ∧ R (w3.2.1 (p.2.2.2.1 j)) = R (w3.2.1 j) ∧ R (w3.2.2.1 (p.2.2.2.1 j)) = R (w3.2.2.1 j) ∧ _
        rw [b1, b2, b3, wII.1, wII.2.1, wII.2.2.1]
        refine ⟨rfl, rfl, rfl, fun k hk => ?_⟩
        have cc := c k hk
        unfold xs_fc at cc
        rw [if_neg (by omega), if_pos h, fa_trap_cg (d := fun c => R (w3.2.2.2.2.1 (5 * p.2.2.2.1 j + c))) (fun c hc => congrArg R (pc c hc)) hk] at cc
        exact cc
      · rw [if_neg (by omega), if_neg (by omega)] at b1
        rw [if_pos h] at b2 b3
        show R (w3.1 (p.2.2.2.1 j)) = R (w3.1 j) ∧ R (w3.2.1 (p.2.2.2.1 j)) = rv_and (R (w3.2.1 j)) (rv_not (R (4 + p.2.2.1 j))) ∧ R (w3.2.2.1 (p.2.2.2.1 j)) = rv_or (R (w3.2.2.1 j)) (rv_and (R (w3.2.1 j)) (R (4 + p.2.2.1 j))) ∧ R (w3.2.2.2.1 (p.2.2.2.1 j)) = R (w3.2.2.2.1 j) ∧ _
        rw [b1, b2, b3, pq4, B7 (by omega) (by omega), wII.1, wII.2.1, wII.2.2.1, wII.2.2.2]
        refine ⟨rfl, rfl, rfl, rfl, fun k hk => ?_⟩
        have cc := c k hk
        unfold xs_fc at cc
        rw [if_neg (by omega), if_neg (by omega), if_pos h, pc 1 (by omega), pc k hk, w2r, ← wII.2.1] at cc
        exact cc
    · exact K.2 R (P6 R m2).1 j (by omega) (by omega)
  · have m2 := m2 R m
    have a := (F4 (4 + s) (by omega)).2.2.2 (fun e => by have := (B6 e).1; omega)
    have b := B2.2 (4 + s) (by omega)
    rw [a, (P6 R m2).2 s hs, b, rt_em_1 hT hi h4 h7, F6.1]
end
end
section
/-! ===== two parts: begin, the first, between, the second, finish ===== -/
section
variable {p : xs_P} {lo : xs_f} {l : xs_L} {z i : Nat} {g g1 g2 g3 g4 g5 : xs_G} {w w1 w2 w3 w4 w5 : xs_W}
theorem xs_join2 (hT : ∀ i, i < z → rt_Nd p.2.1 p.2.2.1 p.2.2.2.1 p.2.2.2.2 lo i) (hi : i < z) (h7 : 7 ≤ p.2.1 i) (hG : gq_ok g) (hin : xs_In g w i)
    (B : xs_Beg p l g g1 w w1 i) (P : xs_Post p lo l g1 g2 w1 w2 (p.2.2.2.1 i)) (C : xs_Btw p g2 g3 w2 w3 i) (Q : xs_Post p lo l g3 g4 w3 w4 (p.2.2.2.2 i)) (F : xs_Fin p l g4 g5 w4 w5 i) : xs_Post p lo l g g5 w w5 i := by
  obtain ⟨B1, B2, B3, B4, B5, B6, B7, B8⟩ := B
  obtain ⟨P1, P2, P3, P4, P5, P6⟩ := P
  obtain ⟨C1, C2, C3, C4, C5, C6, C7⟩ := C
  obtain ⟨Q1, Q2, Q3, Q4, Q5, Q6⟩ := Q
  obtain ⟨F1, F2, F3, F4, F5, F6, F7, F8, F9, F10, F11⟩ := F
  have T := hT i hi
  have k9 := T.1
  have ⟨t1, t2, t3⟩ := T.2.2.2.2.2.2.2.2 h7
  have tq := (hT (p.2.2.2.2 i) (by omega)).2.2.2.1
  have tl := (hT (p.2.2.2.1 i) (by omega)).2.2.2.1
  have g10 := hG.1
  have x1 := B2.1.1
  have x2 := P2.1
  have x3 := C2.1.1
  have x4 := Q2.1
  have kqb := B5.2.2.2
  have m4 : ∀ R, gq_md g5 R → gq_md g4 R := fun R m => (F11 R m).1
  have m3 : ∀ R, gq_md g5 R → gq_md g3 R := fun R m => gq_md_of C1 Q2 (m4 R m)
  have m2 : ∀ R, gq_md g5 R → gq_md g2 R := fun R m => gq_md_of P1 C2.1 (m3 R m)
  have m1 : ∀ R, gq_md g5 R → gq_md g1 R := fun R m => gq_md_of B1 P2 (m2 R m)
  -- wires of the first part and of what is in it, from w2 on
  have w25 : ∀ j, j ≤ p.2.2.2.1 i ∨ i ≤ j → w5.1 j = w2.1 j ∧ w5.2.1 j = w2.2.1 j ∧ w5.2.2.1 j = w2.2.2.1 j ∧ w5.2.2.2.1 j = w2.2.2.2.1 j := by
    intro j hj
    have a := C4.1 j (by omega)
    have b := Q4.1 j (by omega)
    rw [F6.1, F6.2.1, F6.2.2.1, F6.2.2.2]
    exact ⟨b.1.trans a.1, b.2.1.trans a.2.1, b.2.2.1.trans a.2.2.1, b.2.2.2.trans a.2.2.2⟩
  have kP : w5.2.2.2.1 (p.2.2.2.1 i) = w1.2.2.2.1 (p.2.2.2.1 i) := (w25 _ (by omega)).2.2.2.trans (P4.1 _ (by omega)).2.2.2
  have kP4 : w4.2.2.2.1 (p.2.2.2.1 i) = w1.2.2.2.1 (p.2.2.2.1 i) := by rw [← F6.2.2.2]; exact kP
  have wi : ∀ {j}, ¬ (lo i ≤ j ∧ j < i) → w5.1 j = w.1 j ∧ w5.2.1 j = w.2.1 j ∧ w5.2.2.1 j = w.2.2.1 j ∧ w5.2.2.2.1 j = w.2.2.2.1 j := by
    intro j hj
    have a := P4.1 j (by omega)
    have b := B4.1 j (by omega)
    have c := w25 j (by omega)
    exact ⟨c.1.trans (a.1.trans b.1), c.2.1.trans (a.2.1.trans b.2.1), c.2.2.1.trans (a.2.2.1.trans b.2.2.1), c.2.2.2.trans (a.2.2.2.trans b.2.2.2)⟩
  have c25 : ∀ t, t < 5 * p.2.2.2.1 i + 5 → w5.2.2.2.2.1 t = w2.2.2.2.2.1 t := fun t ht => by rw [F7 t (by omega), Q4.2.1 t (by omega), C4.2.1]
  have KP := xs_keep (l := l) (g' := g5) (w' := w5) hT (i := p.2.2.2.1 i) (by omega) (n' := g.1) x1 (by omega) (fun j hj => by
      have a := C2.1.2.1 j hj
      have b := Q2.2.1 j (by omega)
      have c := F4 j (by omega)
      exact ⟨c.1.trans (b.1.trans a.1), c.2.1.trans (b.2.1.trans a.2.1), c.2.2.1.trans (b.2.2.1.trans a.2.2.1), fun h => (c.2.2.2 (fun _ => by omega)).trans ((b.2.2.2 (by omega)).trans (a.2.2.2 (by omega)))⟩) m2
    (fun j h1 h2 => by
      have a := w25 j (by omega)
      exact ⟨a.1, a.2.1, a.2.2.1, a.2.2.2, fun c hc => c25 _ (by omega)⟩)
    (fun j h1 h2 => by rw [F8 j (by omega), Q4.2.2 j (by omega), C4.2.2]) P5
  have KQ := xs_keep (l := l) (g' := g5) (w' := w5) hT (i := p.2.2.2.2 i) (by omega) (n' := g.1) (by omega : g.1 ≤ g3.1) F2 (fun j hj => ⟨(F4 j hj).1, (F4 j hj).2.1, (F4 j hj).2.2.1, fun h => (F4 j hj).2.2.2 (fun _ => by omega)⟩) m4
    (fun j h1 h2 => ⟨by rw [F6.1], by rw [F6.2.1], by rw [F6.2.2.1], by rw [F6.2.2.2], fun c hc => F7 _ (by omega)⟩) (fun j h1 h2 => F8 j (by omega)) Q5
  have wII := wi (j := i) (by omega)
  have w2I := w25 i (by omega)
  refine ⟨F1, ⟨by omega, fun j hj => ?_, fun j h1 h2 => ?_⟩, by omega, ⟨fun j hj => wi hj, fun t ht => ?_, fun j hj => ?_⟩, fun j h1 h2 => ?_, fun R m => ⟨fun j h1 h2 => ?_, fun s hs => ?_⟩⟩
  · have a := B2.1.2.1 j hj
    have b := P2.2.1 j (by omega)
    have c := C2.1.2.1 j (by omega)
    have d := Q2.2.1 j (by omega)
    have e := F4 j (by omega)
    refine ⟨e.1.trans (d.1.trans (c.1.trans (b.1.trans a.1))), e.2.1.trans (d.2.1.trans (c.2.1.trans (b.2.1.trans a.2.1))), e.2.2.1.trans (d.2.2.1.trans (c.2.2.1.trans (b.2.2.1.trans a.2.2.1))),
      fun h => (e.2.2.2 (fun e => ?_)).trans ((d.2.2.2 h).trans ((c.2.2.2 h).trans ((b.2.2.2 h).trans (a.2.2.2 h))))⟩
    have := (B6 e).1
    omega
  · rcases Nat.lt_or_ge j g4.1 with h5 | h5
    · rw [(F4 j h5).1]
      rcases Nat.lt_or_ge j g3.1 with h4 | h4
      · rw [(Q2.2.1 j h4).1]
        rcases Nat.lt_or_ge j g2.1 with h3 | h3
        · rw [(C2.1.2.1 j h3).1]
          rcases Nat.lt_or_ge j g1.1 with h2' | h2'
          · rw [(P2.2.1 j h2').1]; exact B2.1.2.2 j h1 h2'
          · exact P2.2.2 j h2' h3
        · exact C2.1.2.2 j h3 h4
      · exact Q2.2.2 j h4 h5
    · exact F5 j h5 h2
  · rw [F7 t (by omega), Q4.2.1 t (by omega), C4.2.1, P4.2.1 t (by omega), B4.2.1]
  · rw [F8 j (by omega), Q4.2.2 j (by omega), C4.2.2, P4.2.2 j (by omega), B4.2.2]
  · by_cases e : j = i
    · subst e
      obtain ⟨i1, i2, i3, i4⟩ := hin
      refine ⟨⟨⟨by omega, by omega, by omega, by omega⟩, F9, fun h => F10 (by omega)⟩, fun h => ?_⟩
      have b := B6 h
      have c1 := P2.2.1 _ kqb
      have c2 := C2.1.2.1 (w1.2.2.2.1 (p.2.2.2.1 j)) (by omega)
      have c3 := Q2.2.1 (w1.2.2.2.1 (p.2.2.2.1 j)) (by omega)
      have c4 := F4 (w1.2.2.2.1 (p.2.2.2.1 j)) (by omega)
      rw [kP, c4.1, c4.2.1, c4.2.2.1, c3.1, c3.2.1, c3.2.2.1, c2.1, c2.2.1, c2.2.2.1, c1.1, c1.2.1, c1.2.2.1, b.2.1, b.2.2.1, b.2.2.2]
      refine ⟨b.1, by omega, rfl, rfl, wII.2.2.2.symm, fun R m => ?_⟩
      rw [if_neg (by omega), ← kP4]; exact (F11 R m).2.2.2.2 (by omega)
    · by_cases e2 : j ≤ p.2.2.2.1 i
      · exact KP.1 j (by omega) e2
      · exact KQ.1 j (by omega) (by omega)
  · by_cases e : j = i
    · subst e
      obtain ⟨-, c, -, -, -⟩ := F11 R m
      obtain ⟨b1, b2, b3⟩ := B8 R (m1 R m)
      obtain ⟨c1, c2, c3⟩ := C7 R (m3 R m)
      have P25 := w25 (p.2.2.2.1 j) (by omega)
      have P12 := P4.1 (p.2.2.2.1 j) (by omega)
      have pp1 : w5.1 (p.2.2.2.1 j) = w1.1 (p.2.2.2.1 j) := P25.1.trans P12.1
      have pp2 : w5.2.1 (p.2.2.2.1 j) = w1.2.1 (p.2.2.2.1 j) := P25.2.1.trans P12.2.1
      have pp3 : w5.2.2.1 (p.2.2.2.1 j) = w1.2.2.1 (p.2.2.2.1 j) := P25.2.2.1.trans P12.2.2.1
      have Q34 := Q4.1 (p.2.2.2.2 j) (by omega)
      have qq1 : w5.1 (p.2.2.2.2 j) = w3.1 (p.2.2.2.2 j) := by rw [F6.1]; exact Q34.1
      have qq2 : w5.2.1 (p.2.2.2.2 j) = w3.2.1 (p.2.2.2.2 j) := by rw [F6.2.1]; exact Q34.2.1
      have qq3 : w5.2.2.1 (p.2.2.2.2 j) = w3.2.2.1 (p.2.2.2.2 j) := by rw [F6.2.2.1]; exact Q34.2.2.1
      have qq4 : w5.2.2.2.1 (p.2.2.2.2 j) = w3.2.2.2.1 (p.2.2.2.2 j) := by rw [F6.2.2.2]; exact Q34.2.2.2
      have cp : ∀ c, c < 5 → w4.2.2.2.2.1 (5 * p.2.2.2.1 j + c) = w5.2.2.2.2.1 (5 * p.2.2.2.1 j + c) := fun c hc => (F7 _ (by omega)).symm
      have cq : ∀ c, c < 5 → w4.2.2.2.2.1 (5 * p.2.2.2.2 j + c) = w5.2.2.2.2.1 (5 * p.2.2.2.2 j + c) := fun c hc => (F7 _ (by omega)).symm
      have w4r : w4.2.1 j = w5.2.1 j := by rw [F6.2.1]
      unfold xs_bs at b1
      unfold xs_br at b2
      unfold xs_bh at b3
      unfold xs_qs at c1
      rw [if_neg (by omega)] at b1 b2 b3
      refine ⟨fun h => by omega, fun h => by omega, fun h => by omega, fun h => by omega, fun h => by omega, fun h => by omega, fun h => ?_, fun h => ?_, fun h => ?_⟩
      · rw [if_neg (by omega)] at b1
        rw [if_pos h] at c1
        show R (w5.1 (p.2.2.2.1 j)) = R (w5.1 j) ∧ R (w5.2.1 (p.2.2.2.1 j)) = R (w5.2.1 j) ∧ R (w5.2.2.1 (p.2.2.2.1 j)) = R (w5.2.2.1 j) ∧ R (w5.2.2.2.1 (p.2.2.2.1 j)) = R (w5.2.2.2.1 j) ∧
          R (w5.1 (p.2.2.2.2 j)) = R (w5.2.2.2.2.1 (5 * p.2.2.2.1 j + 0)) ∧ R (w5.2.1 (p.2.2.2.2 j)) = R (w5.2.1 j) ∧ R (w5.2.2.1 (p.2.2.2.2 j)) = R (w5.2.2.1 j) ∧ R (w5.2.2.2.1 (p.2.2.2.2 j)) = R (w5.2.2.2.1 j) ∧ _
        rw [pp1, pp2, pp3, kP, b1, b2, b3, B7 (by omega) (by omega), qq1, qq2, qq3, qq4, c1, c2, c3, C6, if_neg (by omega), c25 _ (by omega), ← w2I.2.1, ← w2I.2.2.1, ← w2I.2.2.2, wII.1, wII.2.1, wII.2.2.1, wII.2.2.2]
        refine ⟨rfl, rfl, rfl, rfl, rfl, rfl, rfl, rfl, fun k hk => ?_⟩
        have cc := c k hk
        unfold xs_fc at cc
        rw [if_neg (by omega), if_neg (by omega), if_neg (by omega), if_pos h, cp k hk, cq k hk, cq 0 (by omega)] at cc
        exact cc
      · rw [if_neg (by omega)] at b1
        rw [if_neg (by omega), if_neg (by omega)] at c1
        rw [if_pos h] at C6
        show R (w5.1 (p.2.2.2.1 j)) = R (w5.1 j) ∧ R (w5.2.1 (p.2.2.2.1 j)) = R (w5.2.1 j) ∧ R (w5.2.2.1 (p.2.2.2.1 j)) = R (w5.2.2.1 j) ∧
          R (w5.1 (p.2.2.2.2 j)) = R (w5.1 j) ∧ R (w5.2.1 (p.2.2.2.2 j)) = R (w5.2.1 j) ∧ R (w5.2.2.1 (p.2.2.2.2 j)) = R (w5.2.2.1 j) ∧ R (w5.2.2.2.1 (p.2.2.2.2 j)) = R (w5.2.2.2.1 (p.2.2.2.1 j)) ∧ _
        rw [pp1, pp2, pp3, kP, b1, b2, b3, qq1, qq2, qq3, qq4, c1, c2, c3, C6, P12.2.2.2, ← w2I.1, ← w2I.2.1, ← w2I.2.2.1, wII.1, wII.2.1, wII.2.2.1]
        refine ⟨rfl, rfl, rfl, rfl, rfl, rfl, rfl, fun k hk => ?_⟩
        have cc := c k hk
        unfold xs_fc at cc
        rw [if_neg (by omega), if_neg (by omega), if_neg (by omega), if_neg (by omega), if_pos h, w4r, rv_up_cg rfl (fun c hc => congrArg R (cp c hc)) k hk, rv_up_cg rfl (fun c hc => congrArg R (cq c hc)) k hk, cp k hk, cq k hk] at cc
        exact cc
      · rw [if_pos h] at b1
        rw [if_neg (by omega), if_pos h] at c1
        show R (w5.1 (p.2.2.2.1 j)) = rv_and (R (w5.1 j)) (R (4 + p.2.2.1 j)) ∧ R (w5.2.1 (p.2.2.2.1 j)) = R (w5.2.1 j) ∧ R (w5.2.2.1 (p.2.2.2.1 j)) = R (w5.2.2.1 j) ∧ R (w5.2.2.2.1 (p.2.2.2.1 j)) = R (w5.2.2.2.1 j) ∧
          R (w5.1 (p.2.2.2.2 j)) = rv_and (R (w5.1 j)) (rv_not (R (4 + p.2.2.1 j))) ∧ R (w5.2.1 (p.2.2.2.2 j)) = R (w5.2.1 j) ∧ R (w5.2.2.1 (p.2.2.2.2 j)) = R (w5.2.2.1 j) ∧ R (w5.2.2.2.1 (p.2.2.2.2 j)) = R (w5.2.2.2.1 j) ∧ _
        rw [pp1, pp2, pp3, kP, b1, b2, b3, B7 (by omega) (by omega), qq1, qq2, qq3, qq4, c1, c2, c3, C6, if_neg (by omega), ← w2I.1, ← w2I.2.1, ← w2I.2.2.1, ← w2I.2.2.2, wII.1, wII.2.1, wII.2.2.1, wII.2.2.2]
        refine ⟨rfl, rfl, rfl, rfl, rfl, rfl, rfl, rfl, fun k hk => ?_⟩
        have cc := c k hk
        unfold xs_fc at cc
        rw [if_neg (by omega), if_neg (by omega), if_neg (by omega), if_neg (by omega), if_neg (by omega), cp k hk, cq k hk] at cc
        exact cc
    · by_cases e2 : j ≤ p.2.2.2.1 i
      · exact KP.2 R (P6 R (m2 R m)).1 j (by omega) e2
      · exact KQ.2 R (Q6 R (m4 R m)).1 j (by omega) (by omega)
  · have a := (F4 (4 + s) (by omega)).2.2.2 (fun e => by have := (B6 e).1; omega)
    have b := B2.2 (4 + s) (by omega)
    have c := C2.2 (4 + s) (by omega)
    have em : rt_em p.2.1 p.2.2.1 lo (fun x => R (w2.1 x)) s (p.2.2.2.1 i) = rt_em p.2.1 p.2.2.1 lo (fun x => R (w5.1 x)) s (p.2.2.2.1 i) := by
      refine rv_bo_cg (fun j h1 h2 => ?_)
      unfold rt_lf
      dsimp only
      rw [(w25 j (by omega)).1]
    rw [a, (Q6 R (m4 R m)).2 s hs, c, (P6 R (m2 R m)).2 s hs, b, em, rt_em_2 hT hi h7, rv_or_assoc, F6.1]
end
end
section
/-! ===== the walk over the tree ===== -/
section
variable {o : xs_O} {p : xs_P} {l : xs_L}
theorem xs_step0 {g g1 : xs_G} {w w1 : xs_W} {h i x n : Nat} {wk wo : xs_f} {k1 : xs_K} {post : SX → Prop} (hx : x < 64) (hh : h < 64) (e0 : wk h = 0) (e1 : wo h = i)
    (K : ∀ (post : SX → Prop) (x : Int32), x = nI i → post (xs o p l g1 w1 k1) → wpX_begin post (xs o p l g w (h, wk, wo)) x)
    (H : wX_build_107 post n (nI (x + 1)) (nI p.1) (nI o.1) (nI o.2.1) (nI g1.1) (nI k1.1) (nI o.2.2.1) (nI o.2.2.2.1) (nI o.2.2.2.2.1) (nI o.2.2.2.2.2.1) (xs_A p.2.1) (xs_A p.2.2.1) (xs_A p.2.2.2.1) (xs_A p.2.2.2.2) (xs_A o.2.2.2.2.2.2.1) (xs_A o.2.2.2.2.2.2.2.1) (xs_A g1.2.1) (xs_A g1.2.2.1) (xs_A g1.2.2.2.1) (xs_A g1.2.2.2.2) (xs_A o.2.2.2.2.2.2.2.2.1) (xs_A w1.1) (xs_A w1.2.1) (xs_A w1.2.2.1) (xs_A w1.2.2.2.1) (xs_A w1.2.2.2.2.1) (xs_A l.1) (xs_A l.2) (xs_A w1.2.2.2.2.2) (xs_A o.2.2.2.2.2.2.2.2.2.1) (xs_A k1.2.1) (xs_A k1.2.2) (xs_A o.2.2.2.2.2.2.2.2.2.2)) : wX_build_107 post (n + 1) (nI x) (nI p.1) (nI o.1) (nI o.2.1) (nI g.1) (nI ((h + 1, wk, wo) : xs_K).1) (nI o.2.2.1) (nI o.2.2.2.1) (nI o.2.2.2.2.1) (nI o.2.2.2.2.2.1) (xs_A p.2.1) (xs_A p.2.2.1) (xs_A p.2.2.2.1) (xs_A p.2.2.2.2) (xs_A o.2.2.2.2.2.2.1) (xs_A o.2.2.2.2.2.2.2.1) (xs_A g.2.1) (xs_A g.2.2.1) (xs_A g.2.2.2.1) (xs_A g.2.2.2.2) (xs_A o.2.2.2.2.2.2.2.2.1) (xs_A w.1) (xs_A w.2.1) (xs_A w.2.2.1) (xs_A w.2.2.2.1) (xs_A w.2.2.2.2.1) (xs_A l.1) (xs_A l.2) (xs_A w.2.2.2.2.2) (xs_A o.2.2.2.2.2.2.2.2.2.1) (xs_A ((h + 1, wk, wo) : xs_K).2.1) (xs_A ((h + 1, wk, wo) : xs_K).2.2) (xs_A o.2.2.2.2.2.2.2.2.2.2) := by
  have hin : vp_in (nI h) 64 := vp_in_nI hh (by omega)
  refine br_f (nI_ge (b := 64) hx (by omega)) (br_f (nI_nle (by omega) (by omega)) (nm_r (nI_pred h) (And.intro hin (nm_r (e' := nI 0) (xs_at' (by omega) e0) (And.intro hin (nm_r (e' := nI i) (xs_at' (by omega) e1) (br_t rfl (K _ _ rfl (nm_r (nI_1 x) H)))))))))
theorem xs_step1 {g g1 : xs_G} {w w1 : xs_W} {h i x n : Nat} {wk wo : xs_f} {k1 : xs_K} {post : SX → Prop} (hx : x < 64) (hh : h < 64) (e0 : wk h = 1) (e1 : wo h = i)
    (K : ∀ (post : SX → Prop) (x : Int32), x = nI i → post (xs o p l g1 w1 k1) → wpX_between post (xs o p l g w (h, wk, wo)) x)
    (H : wX_build_107 post n (nI (x + 1)) (nI p.1) (nI o.1) (nI o.2.1) (nI g1.1) (nI k1.1) (nI o.2.2.1) (nI o.2.2.2.1) (nI o.2.2.2.2.1) (nI o.2.2.2.2.2.1) (xs_A p.2.1) (xs_A p.2.2.1) (xs_A p.2.2.2.1) (xs_A p.2.2.2.2) (xs_A o.2.2.2.2.2.2.1) (xs_A o.2.2.2.2.2.2.2.1) (xs_A g1.2.1) (xs_A g1.2.2.1) (xs_A g1.2.2.2.1) (xs_A g1.2.2.2.2) (xs_A o.2.2.2.2.2.2.2.2.1) (xs_A w1.1) (xs_A w1.2.1) (xs_A w1.2.2.1) (xs_A w1.2.2.2.1) (xs_A w1.2.2.2.2.1) (xs_A l.1) (xs_A l.2) (xs_A w1.2.2.2.2.2) (xs_A o.2.2.2.2.2.2.2.2.2.1) (xs_A k1.2.1) (xs_A k1.2.2) (xs_A o.2.2.2.2.2.2.2.2.2.2)) : wX_build_107 post (n + 1) (nI x) (nI p.1) (nI o.1) (nI o.2.1) (nI g.1) (nI ((h + 1, wk, wo) : xs_K).1) (nI o.2.2.1) (nI o.2.2.2.1) (nI o.2.2.2.2.1) (nI o.2.2.2.2.2.1) (xs_A p.2.1) (xs_A p.2.2.1) (xs_A p.2.2.2.1) (xs_A p.2.2.2.2) (xs_A o.2.2.2.2.2.2.1) (xs_A o.2.2.2.2.2.2.2.1) (xs_A g.2.1) (xs_A g.2.2.1) (xs_A g.2.2.2.1) (xs_A g.2.2.2.2) (xs_A o.2.2.2.2.2.2.2.2.1) (xs_A w.1) (xs_A w.2.1) (xs_A w.2.2.1) (xs_A w.2.2.2.1) (xs_A w.2.2.2.2.1) (xs_A l.1) (xs_A l.2) (xs_A w.2.2.2.2.2) (xs_A o.2.2.2.2.2.2.2.2.2.1) (xs_A ((h + 1, wk, wo) : xs_K).2.1) (xs_A ((h + 1, wk, wo) : xs_K).2.2) (xs_A o.2.2.2.2.2.2.2.2.2.2) := by
  have hin : vp_in (nI h) 64 := vp_in_nI hh (by omega)
  refine br_f (nI_ge (b := 64) hx (by omega)) (br_f (nI_nle (by omega) (by omega)) (nm_r (nI_pred h) (And.intro hin (nm_r (e' := nI 1) (xs_at' (by omega) e0) (And.intro hin (nm_r (e' := nI i) (xs_at' (by omega) e1) (br_f (by decide) (br_t rfl (K _ _ rfl (nm_r (nI_1 x) H))))))))))
theorem xs_step2 {g g1 : xs_G} {w w1 : xs_W} {h i x n : Nat} {wk wo : xs_f} {k1 : xs_K} {post : SX → Prop} (hx : x < 64) (hh : h < 64) (e0 : wk h = 2) (e1 : wo h = i)
    (K : ∀ (post : SX → Prop) (x : Int32), x = nI i → post (xs o p l g1 w1 k1) → wpX_finish post (xs o p l g w (h, wk, wo)) x)
    (H : wX_build_107 post n (nI (x + 1)) (nI p.1) (nI o.1) (nI o.2.1) (nI g1.1) (nI k1.1) (nI o.2.2.1) (nI o.2.2.2.1) (nI o.2.2.2.2.1) (nI o.2.2.2.2.2.1) (xs_A p.2.1) (xs_A p.2.2.1) (xs_A p.2.2.2.1) (xs_A p.2.2.2.2) (xs_A o.2.2.2.2.2.2.1) (xs_A o.2.2.2.2.2.2.2.1) (xs_A g1.2.1) (xs_A g1.2.2.1) (xs_A g1.2.2.2.1) (xs_A g1.2.2.2.2) (xs_A o.2.2.2.2.2.2.2.2.1) (xs_A w1.1) (xs_A w1.2.1) (xs_A w1.2.2.1) (xs_A w1.2.2.2.1) (xs_A w1.2.2.2.2.1) (xs_A l.1) (xs_A l.2) (xs_A w1.2.2.2.2.2) (xs_A o.2.2.2.2.2.2.2.2.2.1) (xs_A k1.2.1) (xs_A k1.2.2) (xs_A o.2.2.2.2.2.2.2.2.2.2)) : wX_build_107 post (n + 1) (nI x) (nI p.1) (nI o.1) (nI o.2.1) (nI g.1) (nI ((h + 1, wk, wo) : xs_K).1) (nI o.2.2.1) (nI o.2.2.2.1) (nI o.2.2.2.2.1) (nI o.2.2.2.2.2.1) (xs_A p.2.1) (xs_A p.2.2.1) (xs_A p.2.2.2.1) (xs_A p.2.2.2.2) (xs_A o.2.2.2.2.2.2.1) (xs_A o.2.2.2.2.2.2.2.1) (xs_A g.2.1) (xs_A g.2.2.1) (xs_A g.2.2.2.1) (xs_A g.2.2.2.2) (xs_A o.2.2.2.2.2.2.2.2.1) (xs_A w.1) (xs_A w.2.1) (xs_A w.2.2.1) (xs_A w.2.2.2.1) (xs_A w.2.2.2.2.1) (xs_A l.1) (xs_A l.2) (xs_A w.2.2.2.2.2) (xs_A o.2.2.2.2.2.2.2.2.2.1) (xs_A ((h + 1, wk, wo) : xs_K).2.1) (xs_A ((h + 1, wk, wo) : xs_K).2.2) (xs_A o.2.2.2.2.2.2.2.2.2.2) := by
  have hin : vp_in (nI h) 64 := vp_in_nI hh (by omega)
  refine br_f (nI_ge (b := 64) hx (by omega)) (br_f (nI_nle (by omega) (by omega)) (nm_r (nI_pred h) (And.intro hin (nm_r (e' := nI 2) (xs_at' (by omega) e0) (And.intro hin (nm_r (e' := nI i) (xs_at' (by omega) e1) (br_f (by decide) (br_f (by decide) (K _ _ rfl (nm_r (nI_1 x) H))))))))))
/-- the walk over the subtree of i -/
def xs_Sub (o : xs_O) (p : xs_P) (lo : xs_f) (l : xs_L) (i : Nat) : Prop := ∀ (g : xs_G) (w : xs_W) (h : Nat) (wk wo : xs_f), gq_ok g → g.1 + 42 * (i + 1 - lo i) ≤ 800 → xs_In g w i → (∀ j, j ≤ i → l.1 j < g.1 ∧ l.2 j < g.1) →
  wk h = 0 → wo h = i → h + 2 * (i + 1 - lo i) ≤ 60 → ∃ g' w' wk' wo' d, xs_Post p lo l g g' w w' i ∧ (∀ j, j < h → wk' j = wk j ∧ wo' j = wo j) ∧ d ≤ 3 * (i + 1 - lo i) ∧
    ∀ (post : SX → Prop) (n x : Nat), x + d ≤ 64 → wX_build_107 post n (nI (x + d)) (nI p.1) (nI o.1) (nI o.2.1) (nI g'.1) (nI ((h, wk', wo') : xs_K).1) (nI o.2.2.1) (nI o.2.2.2.1) (nI o.2.2.2.2.1) (nI o.2.2.2.2.2.1) (xs_A p.2.1) (xs_A p.2.2.1) (xs_A p.2.2.2.1) (xs_A p.2.2.2.2) (xs_A o.2.2.2.2.2.2.1) (xs_A o.2.2.2.2.2.2.2.1) (xs_A g'.2.1) (xs_A g'.2.2.1) (xs_A g'.2.2.2.1) (xs_A g'.2.2.2.2) (xs_A o.2.2.2.2.2.2.2.2.1) (xs_A w'.1) (xs_A w'.2.1) (xs_A w'.2.2.1) (xs_A w'.2.2.2.1) (xs_A w'.2.2.2.2.1) (xs_A l.1) (xs_A l.2) (xs_A w'.2.2.2.2.2) (xs_A o.2.2.2.2.2.2.2.2.2.1) (xs_A ((h, wk', wo') : xs_K).2.1) (xs_A ((h, wk', wo') : xs_K).2.2) (xs_A o.2.2.2.2.2.2.2.2.2.2) → wX_build_107 post (n + d) (nI x) (nI p.1) (nI o.1) (nI o.2.1) (nI g.1) (nI ((h + 1, wk, wo) : xs_K).1) (nI o.2.2.1) (nI o.2.2.2.1) (nI o.2.2.2.2.1) (nI o.2.2.2.2.2.1) (xs_A p.2.1) (xs_A p.2.2.1) (xs_A p.2.2.2.1) (xs_A p.2.2.2.2) (xs_A o.2.2.2.2.2.2.1) (xs_A o.2.2.2.2.2.2.2.1) (xs_A g.2.1) (xs_A g.2.2.1) (xs_A g.2.2.2.1) (xs_A g.2.2.2.2) (xs_A o.2.2.2.2.2.2.2.2.1) (xs_A w.1) (xs_A w.2.1) (xs_A w.2.2.1) (xs_A w.2.2.2.1) (xs_A w.2.2.2.2.1) (xs_A l.1) (xs_A l.2) (xs_A w.2.2.2.2.2) (xs_A o.2.2.2.2.2.2.2.2.2.1) (xs_A ((h + 1, wk, wo) : xs_K).2.1) (xs_A ((h + 1, wk, wo) : xs_K).2.2) (xs_A o.2.2.2.2.2.2.2.2.2.2)
theorem xs_sub_0 {lo : xs_f} {z : Nat} (hz : z ≤ 16) (hT : ∀ i, i < z → rt_Nd p.2.1 p.2.2.1 p.2.2.2.1 p.2.2.2.2 lo i) {i : Nat} (hi : i < z) (hk : p.2.1 i < 4) : xs_Sub o p lo l i := by
  intro g w h wk wo hG hn hin hl e0 e1 hh
  have T := hT i hi
  have t := T.2.2.2.2.2.2.1 hk
  obtain ⟨g', w', P, K⟩ := xs_leaf (o := o) (k := ((h, wk, wo) : xs_K)) T hk (by omega) hG (by omega) hin (hl i (by omega)).2
  exact ⟨g', w', wk, wo, 1, P, fun _ _ => ⟨rfl, rfl⟩, by omega, fun post n x hx H => xs_step0 (by omega) (by omega) e0 e1 K H⟩
theorem xs_sub_1 {lo : xs_f} {z : Nat} (hz : z ≤ 16) (hT : ∀ i, i < z → rt_Nd p.2.1 p.2.2.1 p.2.2.2.1 p.2.2.2.2 lo i) {i : Nat} (hi : i < z) (h4 : 4 ≤ p.2.1 i) (h7 : p.2.1 i < 7) (ih : xs_Sub o p lo l (p.2.2.2.1 i)) : xs_Sub o p lo l i := by
  intro g w h wk wo hG hn hin hl e0 e1 hh
  have T := hT i hi
  have ⟨t1, t2⟩ := T.2.2.2.2.2.2.2.1 h4 h7
  have tl := (hT (p.2.2.2.1 i) (by omega)).2.2.2.1
  obtain ⟨g1, w1, B, K1⟩ := xs_begin1 (o := o) (k := ((h, wk, wo) : xs_K)) h4 h7 T.2.1 (by omega) (by omega) hG (by omega) hin (hl i (by omega)).2 (show h + 2 < 64 by omega)
  have x1 := B.2.1.1.1
  have n1 := B.2.2.1
  obtain ⟨g2, w2, wk2, wo2, d, P, S, D, K2⟩ := ih g1 w1 (h + 1) (xs_u (xs_u wk h 2) (h + 1) 0) (xs_u (xs_u wo h i) (h + 1) (p.2.2.2.1 i)) B.1 (by omega) B.2.2.2.2.1 (fun j hj => by have := hl j (by omega); omega) (xs_us _ _ _) (xs_us _ _ _) (by omega)
  have x2 := P.2.1.1
  have n2 := P.2.2.1
  have Pq := (P.2.2.2.2.1 (p.2.2.2.1 i) tl (Nat.le_refl _)).1
  have wi := P.2.2.2.1.1 i (by omega)
  have wi1 := B.2.2.2.1.1 i (by omega)
  have hin2 : xs_In g2 w2 i := by
    obtain ⟨a1, a2, a3, a4⟩ := hin
    refine ⟨?_, ?_, ?_, ?_⟩
    · rw [wi.1, wi1.1]; omega
    · rw [wi.2.1, wi1.2.1]; omega
    · rw [wi.2.2.1, wi1.2.2.1]; omega
    · rw [wi.2.2.2, wi1.2.2.2]; omega
  have kq : w2.2.2.2.1 (p.2.2.2.1 i) = w1.2.2.2.1 (p.2.2.2.1 i) := (P.2.2.2.1.1 _ (by omega)).2.2.2
  obtain ⟨g3, w3, F, K3⟩ := xs_fin (o := o) (l := l) (k := ((h, wk2, wo2) : xs_K)) h4 (by omega) T.2.1 (by omega) (by omega) (fun h => by omega) P.1 (by omega) hin2 (by have := (hl i (by omega)).2; omega)
    (fun j hj => by have := (hl j hj).1; omega) Pq.2.1 (fun h => by omega) Pq.1.2.2.2 (fun e => by rw [kq, (P.2.1.2.1 _ B.2.2.2.2.1.2.2.2).2.2.1]; exact (B.2.2.2.2.2.1 e).2.2.1)
  refine ⟨g3, w3, wk2, wo2, 1 + d + 1, xs_join1 hT hi h4 h7 hG hin B P F, fun j hj => ?_, by omega, fun post n x hx H => ?_⟩
  · have s := S j (by omega)
    exact ⟨s.1.trans ((xs_un (by omega)).trans (xs_un (by omega))), s.2.trans ((xs_un (by omega)).trans (xs_un (by omega)))⟩
  · have s := S h (by omega)
    have H3 := xs_step2 (o := o) (n := n) (x := x + 1 + d) (post := post) (by omega) (by omega) (s.1.trans ((xs_un (by omega)).trans (xs_us _ _ _))) (s.2.trans ((xs_un (by omega)).trans (xs_us _ _ _))) K3 (by
      rw [show x + 1 + d + 1 = x + (1 + d + 1) by omega]; exact H)
    have H2 := K2 post (n + 1) (x + 1) (by omega) H3
    have H1 := xs_step0 (o := o) (n := n + 1 + d) (x := x) (post := post) (by omega) (by omega) e0 e1 K1 H2
    rw [show n + (1 + d + 1) = n + 1 + d + 1 by omega]
    exact H1
theorem xs_sub_2 {lo : xs_f} {z : Nat} (hz : z ≤ 16) (hT : ∀ i, i < z → rt_Nd p.2.1 p.2.2.1 p.2.2.2.1 p.2.2.2.2 lo i) {i : Nat} (hi : i < z) (h7 : 7 ≤ p.2.1 i) (ihp : xs_Sub o p lo l (p.2.2.2.1 i)) (ihq : xs_Sub o p lo l (p.2.2.2.2 i)) : xs_Sub o p lo l i := by
  intro g w h wk wo hG hn hin hl e0 e1 hh
  have T := hT i hi
  have k9 := T.1
  have ⟨t1, t2, t3⟩ := T.2.2.2.2.2.2.2.2 h7
  have tq := (hT (p.2.2.2.2 i) (by omega)).2.2.2.1
  have tl := (hT (p.2.2.2.1 i) (by omega)).2.2.2.1
  obtain ⟨g1, w1, B, K1⟩ := xs_begin2 (o := o) (k := ((h, wk, wo) : xs_K)) h7 k9 T.2.1 (by omega) (by omega) hG (by omega) hin (hl i (by omega)).2 (show h + 3 < 64 by omega)
  have x1 := B.2.1.1.1
  have n1 := B.2.2.1
  obtain ⟨g2, w2, wk2, wo2, d, P, S, D, K2⟩ := ihp g1 w1 (h + 1 + 1) (xs_u (xs_u (xs_u wk h 2) (h + 1) 1) (h + 1 + 1) 0) (xs_u (xs_u (xs_u wo h i) (h + 1) i) (h + 1 + 1) (p.2.2.2.1 i)) B.1 (by omega) B.2.2.2.2.1 (fun j hj => by have := hl j (by omega); omega) (xs_us _ _ _) (xs_us _ _ _) (by omega)
  have x2 := P.2.1.1
  have n2 := P.2.2.1
  have Pq := (P.2.2.2.2.1 (p.2.2.2.1 i) tl (Nat.le_refl _)).1
  have wi := P.2.2.2.1.1 i (by omega)
  have wi1 := B.2.2.2.1.1 i (by omega)
  have hin2 : xs_In g2 w2 i := by
    obtain ⟨a1, a2, a3, a4⟩ := hin
    refine ⟨?_, ?_, ?_, ?_⟩
    · rw [wi.1, wi1.1]; omega
    · rw [wi.2.1, wi1.2.1]; omega
    · rw [wi.2.2.1, wi1.2.2.1]; omega
    · rw [wi.2.2.2, wi1.2.2.2]; omega
  have kq : w2.2.2.2.1 (p.2.2.2.1 i) = w1.2.2.2.1 (p.2.2.2.1 i) := (P.2.2.2.1.1 _ (by omega)).2.2.2
  obtain ⟨g3, w3, C, K3⟩ := xs_between (o := o) (l := l) (k := ((h + 1, wk2, wo2) : xs_K)) h7 k9 T.2.1 (by omega) (by omega) (by omega) (by omega) P.1 (by omega) hin2 (Pq.2.1 0 (by omega)) Pq.1.2.2.2 (show h + 1 < 64 by omega)
  have x3 := C.2.1.1.1
  have n3 := C.2.2.1
  obtain ⟨g4, w4, wk4, wo4, d', Q, S', D', K4⟩ := ihq g3 w3 (h + 1) (xs_u wk2 (h + 1) 0) (xs_u wo2 (h + 1) (p.2.2.2.2 i)) C.1 (by omega) C.2.2.2.2.1 (fun j hj => by have := hl j (by omega); omega) (xs_us _ _ _) (xs_us _ _ _) (by omega)
  have x4 := Q.2.1.1
  have n4 := Q.2.2.1
  have Qq := (Q.2.2.2.2.1 (p.2.2.2.2 i) tq (Nat.le_refl _)).1
  have wi3 := C.2.2.2.1.1 i (by omega)
  have wi4 := Q.2.2.2.1.1 i (by omega)
  have hin4 : xs_In g4 w4 i := by
    obtain ⟨a1, a2, a3, a4⟩ := hin2
    refine ⟨?_, ?_, ?_, ?_⟩
    · rw [wi4.1, wi3.1]; omega
    · rw [wi4.2.1, wi3.2.1]; omega
    · rw [wi4.2.2.1, wi3.2.2.1]; omega
    · rw [wi4.2.2.2, wi3.2.2.2]; omega
  have kq4 : w4.2.2.2.1 (p.2.2.2.1 i) = w1.2.2.2.1 (p.2.2.2.1 i) := (Q.2.2.2.1.1 _ (by omega)).2.2.2.trans ((C.2.2.2.1.1 _ (by omega)).2.2.2.trans kq)
  have kb := B.2.2.2.2.1.2.2.2
  have cp4 : ∀ c, c < 5 → w4.2.2.2.2.1 (5 * p.2.2.2.1 i + c) = w2.2.2.2.2.1 (5 * p.2.2.2.1 i + c) := fun c hc => by rw [Q.2.2.2.1.2.1 _ (by omega), C.2.2.2.1.2.1]
  obtain ⟨g5, w5, F, K5⟩ := xs_fin (o := o) (l := l) (k := ((h, wk4, wo4) : xs_K)) (by omega) k9 T.2.1 (by omega) (by omega) (fun h => by omega) Q.1 (by omega) hin4 (by have := (hl i (by omega)).2; omega)
    (fun j hj => by have := (hl j hj).1; omega) (fun c hc => by rw [cp4 c hc]; have := Pq.2.1 c hc; omega) (fun _ => Qq.2.1) (by rw [kq4]; omega)
    (fun e => by rw [kq4, (Q.2.1.2.1 _ (by omega)).2.2.1, (C.2.1.1.2.1 _ (by omega)).2.2.1, (P.2.1.2.1 _ kb).2.2.1]; exact (B.2.2.2.2.2.1 e).2.2.1)
  refine ⟨g5, w5, wk4, wo4, 1 + d + 1 + d' + 1, xs_join2 hT hi h7 hG hin B P C Q F, fun j hj => ?_, by omega, fun post n x hx H => ?_⟩
  · have s := S j (by omega)
    have s' := S' j (by omega)
    exact ⟨s'.1.trans ((xs_un (by omega)).trans (s.1.trans ((xs_un (by omega)).trans ((xs_un (by omega)).trans (xs_un (by omega)))))), s'.2.trans ((xs_un (by omega)).trans (s.2.trans ((xs_un (by omega)).trans ((xs_un (by omega)).trans (xs_un (by omega))))))⟩
  · have s := S h (by omega)
    have s1 := S (h + 1) (by omega)
    have s' := S' h (by omega)
    have H5 := xs_step2 (o := o) (n := n) (x := x + 1 + d + 1 + d') (post := post) (by omega) (by omega) (s'.1.trans ((xs_un (by omega)).trans (s.1.trans ((xs_un (by omega)).trans ((xs_un (by omega)).trans (xs_us _ _ _))))))
      (s'.2.trans ((xs_un (by omega)).trans (s.2.trans ((xs_un (by omega)).trans ((xs_un (by omega)).trans (xs_us _ _ _)))))) K5 (by
      rw [show x + 1 + d + 1 + d' + 1 = x + (1 + d + 1 + d' + 1) by omega]; exact H)
    have H4 := K4 post (n + 1) (x + 1 + d + 1) (by omega) H5
    have H3 := xs_step1 (o := o) (n := n + 1 + d') (x := x + 1 + d) (post := post) (by omega) (by omega) (s1.1.trans ((xs_un (by omega)).trans (xs_us _ _ _))) (s1.2.trans ((xs_un (by omega)).trans (xs_us _ _ _))) K3 H4
    have H2 := K2 post (n + 1 + d' + 1) (x + 1) (by omega) H3
    have H1 := xs_step0 (o := o) (n := n + 1 + d' + 1 + d) (x := x) (post := post) (by omega) (by omega) e0 e1 K1 H2
    rw [show n + (1 + d + 1 + d' + 1) = n + 1 + d' + 1 + d + 1 by omega]
    exact H1
theorem xs_sub {lo : xs_f} {z : Nat} (hz : z ≤ 16) (hT : ∀ i, i < z → rt_Nd p.2.1 p.2.2.1 p.2.2.2.1 p.2.2.2.2 lo i) : ∀ i, i < z → xs_Sub o p lo l i := by
  intro i
  induction i using Nat.strongRecOn with
  | ind i ih =>
    intro hi
    have P := rt_Nd_p hT hi
    by_cases h4 : p.2.1 i < 4
    · exact xs_sub_0 hz hT hi h4
    have p1 := P.1 (by omega)
    by_cases h7 : p.2.1 i < 7
    · exact xs_sub_1 hz hT hi (by omega) h7 (ih _ (by omega) (by omega))
    have p2 := P.2 (by omega)
    exact xs_sub_2 hz hT hi (by omega) (ih _ (by omega) (by omega)) (ih _ (by omega) (by omega))
end
end
section
/-! ===== findSelected ===== -/
theorem gq_put_md {g : xs_G} {c a b f : Nat} {R : Nat → rv_V} (m : gq_md (gq_put g c a b f) R) : gq_md g R := by
  refine ⟨m.1, m.2.1, fun j hj hf => ?_⟩
  have e1 : (gq_put g c a b f).2.2.2.2 j = g.2.2.2.2 j := xs_un (by omega)
  have e2 : (gq_put g c a b f).2.1 j = g.2.1 j := xs_un (by omega)
  have e3 : (gq_put g c a b f).2.2.1 j = g.2.2.1 j := xs_un (by omega)
  have e4 : (gq_put g c a b f).2.2.2.1 j = g.2.2.2.1 j := xs_un (by omega)
  have e := m.2.2 j (Nat.lt_succ_of_lt hj) (e1.trans hf)
  rw [e2, e3, e4] at e
  exact e
def xs_se (p : xs_P) (R : Nat → rv_V) (l : xs_L) (j : Nat) : rv_V :=
  if p.2.1 j < 4 then R (l.2 j) else if p.2.1 j < 7 then rv_or (R (l.2 j)) (R (l.1 (p.2.2.2.1 j))) else rv_or (R (l.1 (p.2.2.2.1 j))) (R (l.1 (p.2.2.2.2 j)))
/-- registers and what is active, for the statements before i -/
def xs_Rg (p : xs_P) (g : xs_G) (l : xs_L) (j : Nat) : Prop :=
  l.1 j < g.1 ∧ l.2 j < g.1 ∧ (p.2.1 j = 1 ∨ p.2.1 j = 4 → 10 ≤ l.2 j ∧ g.2.1 (l.2 j) = 0 ∧ g.2.2.1 (l.2 j) = j) ∧ (p.2.1 j ≠ 1 → p.2.1 j ≠ 4 → l.2 j = 0)
def xs_Sel (p : xs_P) (g : xs_G) (l : xs_L) (i : Nat) : Prop :=
  gq_ok g ∧ g.1 ≤ 10 + 2 * i ∧ (∀ j, j < i → xs_Rg p g l j) ∧
  (∀ t, 10 ≤ t → t < g.1 → g.2.1 t = 0 → ∃ j, j < i ∧ (p.2.1 j = 1 ∨ p.2.1 j = 4) ∧ l.2 j = t) ∧ (∀ s, s < 6 → g.2.2.2.1 (4 + s) = 0) ∧
  ∀ R, gq_md g R → ∀ j, j < i → R (l.1 j) = xs_se p R l j
theorem xs_se_cg {p : xs_P} {R : Nat → rv_V} {l l' : xs_L} {j : Nat} (h2 : l'.2 j = l.2 j) (hp : 4 ≤ p.2.1 j → l'.1 (p.2.2.2.1 j) = l.1 (p.2.2.2.1 j)) (hq : 7 ≤ p.2.1 j → l'.1 (p.2.2.2.2 j) = l.1 (p.2.2.2.2 j)) : xs_se p R l' j = xs_se p R l j := by
  unfold xs_se
  by_cases h4 : p.2.1 j < 4
  · rw [if_pos h4, if_pos h4, h2]
  rw [if_neg h4, if_neg h4]
  by_cases h7 : p.2.1 j < 7
  · rw [if_pos h7, if_pos h7, h2, hp (by omega)]
  · rw [if_neg h7, if_neg h7, hp (by omega), hq (by omega)]
section
variable {o : xs_O} {p : xs_P} {w : xs_W} {k : xs_K}
theorem xs_fs74 {g : xs_G} {l : xs_L} {i : Nat} (hi : i < 16) (hG : gq_ok g) (hn : g.1 < 800) (hr : l.2 i < g.1) (hp : 4 ≤ p.2.1 i → l.1 (p.2.2.2.1 i) < g.1) (hq : 7 ≤ p.2.1 i → l.1 (p.2.2.2.2 i) < g.1) (h9 : p.2.1 i ≤ 9) :
    ∃ r g2, gq_op g g2 r (fun R => xs_se p R l i) ∧ ∀ (post : SX → Prop) J, J (nI (i + 1)) (nI p.1) (nI o.1) (nI o.2.1) (nI g2.1) (nI k.1) (nI o.2.2.1) (nI o.2.2.2.1) (nI o.2.2.2.2.1) (nI o.2.2.2.2.2.1) (xs_A p.2.1) (xs_A p.2.2.1) (xs_A p.2.2.2.1) (xs_A p.2.2.2.2) (xs_A o.2.2.2.2.2.2.1) (xs_A o.2.2.2.2.2.2.2.1) (xs_A g2.2.1) (xs_A g2.2.2.1) (xs_A g2.2.2.2.1) (xs_A g2.2.2.2.2) (xs_A o.2.2.2.2.2.2.2.2.1) (xs_A w.1) (xs_A w.2.1) (xs_A w.2.2.1) (xs_A w.2.2.2.1) (xs_A w.2.2.2.2.1) (xs_A ((xs_u l.1 i r, l.2) : xs_L).1) (xs_A ((xs_u l.1 i r, l.2) : xs_L).2) (xs_A w.2.2.2.2.2) (xs_A o.2.2.2.2.2.2.2.2.2.1) (xs_A k.2.1) (xs_A k.2.2) (xs_A o.2.2.2.2.2.2.2.2.2.2) →
      wX_findSelected_74 post J (nI i) (nI (p.2.1 i)) (nI (l.1 (p.2.2.2.1 i))) (nI (l.1 (p.2.2.2.2 i))) (nI p.1) (nI o.1) (nI o.2.1) (nI g.1) (nI k.1) (nI o.2.2.1) (nI o.2.2.2.1) (nI o.2.2.2.2.1) (nI o.2.2.2.2.2.1) (xs_A p.2.1) (xs_A p.2.2.1) (xs_A p.2.2.2.1) (xs_A p.2.2.2.2) (xs_A o.2.2.2.2.2.2.1) (xs_A o.2.2.2.2.2.2.2.1) (xs_A g.2.1) (xs_A g.2.2.1) (xs_A g.2.2.2.1) (xs_A g.2.2.2.2) (xs_A o.2.2.2.2.2.2.2.2.1) (xs_A w.1) (xs_A w.2.1) (xs_A w.2.2.1) (xs_A w.2.2.2.1) (xs_A w.2.2.2.2.1) (xs_A l.1) (xs_A l.2) (xs_A w.2.2.2.2.2) (xs_A o.2.2.2.2.2.2.2.2.2.1) (xs_A k.2.1) (xs_A k.2.2) (xs_A o.2.2.2.2.2.2.2.2.2.2) := by
  have h16 : vp_in (nI i) 16 := vp_in_nI hi (by omega)
  have fin : ∀ (g2 : xs_G) (r : Nat), r < 32768 → ∀ (post : SX → Prop) J, J (nI (i + 1)) (nI p.1) (nI o.1) (nI o.2.1) (nI g2.1) (nI k.1) (nI o.2.2.1) (nI o.2.2.2.1) (nI o.2.2.2.2.1) (nI o.2.2.2.2.2.1) (xs_A p.2.1) (xs_A p.2.2.1) (xs_A p.2.2.2.1) (xs_A p.2.2.2.2) (xs_A o.2.2.2.2.2.2.1) (xs_A o.2.2.2.2.2.2.2.1) (xs_A g2.2.1) (xs_A g2.2.2.1) (xs_A g2.2.2.2.1) (xs_A g2.2.2.2.2) (xs_A o.2.2.2.2.2.2.2.2.1) (xs_A w.1) (xs_A w.2.1) (xs_A w.2.2.1) (xs_A w.2.2.2.1) (xs_A w.2.2.2.2.1) (xs_A ((xs_u l.1 i r, l.2) : xs_L).1) (xs_A ((xs_u l.1 i r, l.2) : xs_L).2) (xs_A w.2.2.2.2.2) (xs_A o.2.2.2.2.2.2.2.2.2.1) (xs_A k.2.1) (xs_A k.2.2) (xs_A o.2.2.2.2.2.2.2.2.2.2) → wX_findSelected_114 post J (nI i) (nI r) (nI p.1) (nI o.1) (nI o.2.1) (nI g2.1) (nI k.1) (nI o.2.2.1) (nI o.2.2.2.1) (nI o.2.2.2.2.1) (nI o.2.2.2.2.2.1) (xs_A p.2.1) (xs_A p.2.2.1) (xs_A p.2.2.2.1) (xs_A p.2.2.2.2) (xs_A o.2.2.2.2.2.2.1) (xs_A o.2.2.2.2.2.2.2.1) (xs_A g2.2.1) (xs_A g2.2.2.1) (xs_A g2.2.2.2.1) (xs_A g2.2.2.2.2) (xs_A o.2.2.2.2.2.2.2.2.1) (xs_A w.1) (xs_A w.2.1) (xs_A w.2.2.1) (xs_A w.2.2.2.1) (xs_A w.2.2.2.2.1) (xs_A l.1) (xs_A l.2) (xs_A w.2.2.2.2.2) (xs_A o.2.2.2.2.2.2.2.2.2.1) (xs_A k.2.1) (xs_A k.2.2) (xs_A o.2.2.2.2.2.2.2.2.2.2) :=
    fun g2 r hr post J H => And.intro h16 (nm_r (xs_ps rfl (by omega) rfl hr) (nm_r (nI_1 i) H))
  by_cases h4 : p.2.1 i < 4
  · refine ⟨l.2 i, g, gq_op_same hG hr (fun R m => by unfold xs_se; rw [if_pos h4]), fun post J H => ?_⟩
    exact And.intro h16 (nm_r (e' := nI (l.2 i)) (xs_at (by omega)) (br_t (nI_lt (b := 7) (by omega) (by omega)) (br_t (nI_lt (b := 4) h4 (by omega)) (fin g _ (by omega) post J H))))
  by_cases h7 : p.2.1 i < 7
  · obtain ⟨r, g2, H, K⟩ := xs_or (o := o) (p := p) (l := l) (w := w) (k := k) hG hn hr (hp (by omega))
    have q := H.2.2.2.1; have m := H.1.2.1
    refine ⟨r, g2, ⟨H.1, H.2.1, H.2.2.1, H.2.2.2.1, fun R m => ?_⟩, fun post J h => ?_⟩
    · have e : R r = rv_or (R (l.2 i)) (R (l.1 (p.2.2.2.1 i))) := H.2.2.2.2 R m
      rw [e]; show _ = xs_se p R l i; unfold xs_se; rw [if_neg h4, if_pos h7]
    · exact And.intro h16 (nm_r (e' := nI (l.2 i)) (xs_at (by omega)) (br_t (nI_lt (b := 7) (by omega) (by omega)) (br_f (nI_nlt (b := 4) (by omega) (by omega)) (K _ _ _ rfl rfl (fin g2 r (by omega) post J h)))))
  · obtain ⟨r, g2, H, K⟩ := xs_or (o := o) (p := p) (l := l) (w := w) (k := k) hG hn (hp (by omega)) (hq (by omega))
    have q := H.2.2.2.1; have m := H.1.2.1
    refine ⟨r, g2, ⟨H.1, H.2.1, H.2.2.1, H.2.2.2.1, fun R m => ?_⟩, fun post J h => ?_⟩
    · have e : R r = rv_or (R (l.1 (p.2.2.2.1 i))) (R (l.1 (p.2.2.2.2 i))) := H.2.2.2.2 R m
      rw [e]; show _ = xs_se p R l i; unfold xs_se; rw [if_neg h4, if_neg h7]
    · exact And.intro h16 (nm_r (e' := nI (l.2 i)) (xs_at (by omega)) (br_f (nI_nlt (b := 7) (by omega) (by omega)) (K _ _ _ rfl rfl (fin g2 r (by omega) post J h))))
/-- one statement more -/
theorem xs_Sel_s {lo : xs_f} {z : Nat} (hz : z ≤ 16) (hT : ∀ i, i < z → rt_Nd p.2.1 p.2.2.1 p.2.2.2.1 p.2.2.2.2 lo i) {g g1 g2 : xs_G} {l l1 : xs_L} {i r : Nat} (hi : i < z) (I : xs_Sel p g l i)
    (e1 : l1.1 = l.1) (e2 : ∀ j, j ≠ i → l1.2 j = l.2 j)
    (hc : (p.2.1 i ≠ 1 ∧ p.2.1 i ≠ 4 ∧ g1 = g ∧ l1.2 i = 0) ∨ ((p.2.1 i = 1 ∨ p.2.1 i = 4) ∧ g1 = gq_put g 0 i 0 0 ∧ l1.2 i = g.1))
    (O : gq_op g1 g2 r (fun R => xs_se p R l1 i)) : xs_Sel p g2 (xs_u l1.1 i r, l1.2) (i + 1) := by
  obtain ⟨I1, I2, I3, I4, I5, I6⟩ := I
  obtain ⟨O1, O2, O3, O4, O5⟩ := O
  have g10 := I1.1
  have x2 := O2.1.1
  have g1n : g.1 ≤ g1.1 ∧ g1.1 ≤ g.1 + 1 := by
    rcases hc with ⟨-, -, e, -⟩ | ⟨-, e, -⟩
    · rw [e]; omega
    · rw [e]; exact ⟨Nat.le_succ _, Nat.le_refl _⟩
  have gt : ∀ t, t < g.1 → g1.2.1 t = g.2.1 t ∧ g1.2.2.1 t = g.2.2.1 t ∧ g1.2.2.2.1 t = g.2.2.2.1 t := by
    intro t ht
    rcases hc with ⟨-, -, e, -⟩ | ⟨-, e, -⟩
    · rw [e]; exact ⟨rfl, rfl, rfl⟩
    · rw [e]; exact ⟨xs_un (by omega), xs_un (by omega), xs_un (by omega)⟩
  have gok : gq_ok g1 := by
    rcases hc with ⟨-, -, e, -⟩ | ⟨-, e, -⟩
    · rw [e]; exact I1
    · rw [e]; exact gq_put_ok I1 (by omega) (by omega) (by omega) (by omega) (by omega) (by omega) (by omega)
  refine ⟨O1, by omega, fun j hj => ?_, fun t h1 h2 h3 => ?_, fun s hs => ?_, fun R m j hj => ?_⟩
  · by_cases e : j = i
    · subst e
      have r1 : xs_u l1.1 j r j = r := xs_us _ _ _
      refine ⟨show xs_u l1.1 j r j < g2.1 by rw [r1]; exact O4, ?_, fun h => ?_, fun h h' => ?_⟩
      · rcases hc with ⟨-, -, -, e⟩ | ⟨-, e1, e⟩
        · show l1.2 j < g2.1; rw [e]; omega
        · show l1.2 j < g2.1
          have : g1.1 = g.1 + 1 := by rw [e1]; rfl
          rw [e]; omega
      · rcases hc with ⟨a, b, -, -⟩ | ⟨-, e1, e⟩
        · omega
        · have e3 : g1.1 = g.1 + 1 := by rw [e1]; rfl
          have a := O2.1.2.1 g.1 (by omega)
          show 10 ≤ l1.2 j ∧ g2.2.1 (l1.2 j) = 0 ∧ g2.2.2.1 (l1.2 j) = j
          rw [e, a.1, a.2.1, e1]
          exact ⟨g10, xs_us _ _ _, xs_us _ _ _⟩
      · rcases hc with ⟨-, -, -, e⟩ | ⟨a, -, -⟩
        · exact e
        · omega
    · obtain ⟨a1, a2, a3, a4⟩ := I3 j (by omega)
      have r1 : xs_u l1.1 i r j = l.1 j := (xs_un e).trans (by rw [e1])
      have r2 := e2 j e
      refine ⟨show xs_u l1.1 i r j < g2.1 by rw [r1]; omega, show l1.2 j < g2.1 by rw [r2]; omega, fun h => ?_, fun h h' => ?_⟩
      · show 10 ≤ l1.2 j ∧ g2.2.1 (l1.2 j) = 0 ∧ g2.2.2.1 (l1.2 j) = j
        have a := O2.1.2.1 (l.2 j) (by omega)
        have b := gt (l.2 j) (by omega)
        rw [r2, a.1, a.2.1, b.1, b.2.1]
        exact a3 h
      · show l1.2 j = 0
        rw [r2]; exact a4 h h'
  · rcases Nat.lt_or_ge t g1.1 with h4 | h4
    · rcases Nat.lt_or_ge t g.1 with h5 | h5
      · have a := O2.1.2.1 t h4
        obtain ⟨j, j1, j2, j3⟩ := I4 t h1 h5 (by rw [← (gt t h5).1, ← a.1]; exact h3)
        exact ⟨j, by omega, j2, (e2 j (by omega)).trans j3⟩
      · rcases hc with ⟨-, -, e, -⟩ | ⟨a, e, e'⟩
        · rw [e] at h4; omega
        · exact ⟨i, by omega, a, by show l1.2 i = t; rw [e']; omega⟩
    · exact absurd h3 (O2.1.2.2 t h4 h2)
  · rw [O2.2 (4 + s) (by omega), (gt _ (by omega)).2.2]; exact I5 s hs
  · have m1 := gq_md_of gok O2.1 m
    have m0 : gq_md g R := by
      rcases hc with ⟨-, -, e, -⟩ | ⟨-, e, -⟩
      · rw [e] at m1; exact m1
      · rw [e] at m1; exact gq_put_md m1
    have T := hT j (by omega)
    have P := rt_Nd_p hT (i := j) (by omega)
    by_cases e : j = i
    · subst e
      show R (xs_u l1.1 j r j) = _
      have e : R r = xs_se p R l1 j := O5 R m
      rw [xs_us, e]
      refine (xs_se_cg (l := l1) (l' := (xs_u l1.1 j r, l1.2)) rfl (fun h => xs_un ?_) (fun h => xs_un ?_)).symm
      · have := P.1 h; omega
      · have := P.2 h; omega
    · show R (xs_u l1.1 i r j) = _
      rw [xs_un e, e1, I6 R m0 j (by omega)]
      refine (xs_se_cg (l := l) (l' := (xs_u l.1 i r, l1.2)) (e2 j e) (fun h => xs_un ?_) (fun h => xs_un ?_)).symm
      · have := P.1 h; omega
      · have := P.2 h; omega
theorem xs_fs_loop {lo : xs_f} (hz : p.1 ≤ 16) (hT : ∀ i, i < p.1 → rt_Nd p.2.1 p.2.2.1 p.2.2.2.1 p.2.2.2.2 lo i) : ∀ d i, i + d = p.1 → ∀ (g : xs_G) (l : xs_L), xs_Sel p g l i →
    ∃ g' l', xs_Sel p g' l' p.1 ∧ ∀ post : SX → Prop, post (xs o p l' g' w k) → wX_findSelected_2 post (d + 1) (nI i) (nI p.1) (nI o.1) (nI o.2.1) (nI g.1) (nI k.1) (nI o.2.2.1) (nI o.2.2.2.1) (nI o.2.2.2.2.1) (nI o.2.2.2.2.2.1) (xs_A p.2.1) (xs_A p.2.2.1) (xs_A p.2.2.2.1) (xs_A p.2.2.2.2) (xs_A o.2.2.2.2.2.2.1) (xs_A o.2.2.2.2.2.2.2.1) (xs_A g.2.1) (xs_A g.2.2.1) (xs_A g.2.2.2.1) (xs_A g.2.2.2.2) (xs_A o.2.2.2.2.2.2.2.2.1) (xs_A w.1) (xs_A w.2.1) (xs_A w.2.2.1) (xs_A w.2.2.2.1) (xs_A w.2.2.2.2.1) (xs_A l.1) (xs_A l.2) (xs_A w.2.2.2.2.2) (xs_A o.2.2.2.2.2.2.2.2.2.1) (xs_A k.2.1) (xs_A k.2.2) (xs_A o.2.2.2.2.2.2.2.2.2.2) := by
  intro d
  induction d with
  | zero =>
    intro i hi g l I
    have e : i = p.1 := by omega
    subst e
    exact ⟨g, l, I, fun post hp => br_t (nI_le (Nat.le_refl _) (by omega)) hp⟩
  | succ d ih =>
    intro i hi g l I
    have T := hT i (by omega)
    have P := rt_Nd_p hT (i := i) (by omega)
    have k9 := T.1
    have p16 := T.2.2.2.2.1
    have q16 := T.2.2.2.2.2.1
    have I1 := I.1
    have I2 := I.2.1
    have g10 := I1.1
    have I3 := I.2.2.1
    have h16 : vp_in (nI i) 16 := vp_in_nI (by omega) (by omega)
    have h32 : vp_in (nI i) 32 := vp_in_nI (by omega) (by omega)
    have i31 : i < 2 ^ 31 := by omega
    have pin : vp_in (xs_A p.2.2.2.1 (nI i).toNatClampNeg) 16 := by rw [xs_at i31]; exact vp_in_nI p16 (by omega)
    have qin : vp_in (xs_A p.2.2.2.2 (nI i).toNatClampNeg) 16 := by rw [xs_at i31]; exact vp_in_nI q16 (by omega)
    have ex : xs_A l.1 (xs_A p.2.2.2.1 (nI i).toNatClampNeg).toNatClampNeg = nI (l.1 (p.2.2.2.1 i)) := by rw [xs_at i31, xs_at (by omega)]
    have ey : xs_A l.1 (xs_A p.2.2.2.2 (nI i).toNatClampNeg).toNatClampNeg = nI (l.1 (p.2.2.2.2 i)) := by rw [xs_at i31, xs_at (by omega)]
    have go : ∀ post : SX → Prop, ((nI (p.2.1 i) = 1 → wX_findSelected_59 post (wX_findSelected_2 post (d + 1)) (nI i) (nI (p.2.1 i)) (nI (l.1 (p.2.2.2.1 i))) (nI (l.1 (p.2.2.2.2 i))) (nI p.1) (nI o.1) (nI o.2.1) (nI g.1) (nI k.1) (nI o.2.2.1) (nI o.2.2.2.1) (nI o.2.2.2.2.1) (nI o.2.2.2.2.2.1) (xs_A p.2.1) (xs_A p.2.2.1) (xs_A p.2.2.2.1) (xs_A p.2.2.2.2) (xs_A o.2.2.2.2.2.2.1) (xs_A o.2.2.2.2.2.2.2.1) (xs_A g.2.1) (xs_A g.2.2.1) (xs_A g.2.2.2.1) (xs_A g.2.2.2.2) (xs_A o.2.2.2.2.2.2.2.2.1) (xs_A w.1) (xs_A w.2.1) (xs_A w.2.2.1) (xs_A w.2.2.2.1) (xs_A w.2.2.2.2.1) (xs_A ((l.1, xs_u l.2 i 0) : xs_L).1) (xs_A ((l.1, xs_u l.2 i 0) : xs_L).2) (xs_A w.2.2.2.2.2) (xs_A o.2.2.2.2.2.2.2.2.2.1) (xs_A k.2.1) (xs_A k.2.2) (xs_A o.2.2.2.2.2.2.2.2.2.2)) ∧
        (¬ nI (p.2.1 i) = 1 → ((nI (p.2.1 i) = 4 → wX_findSelected_59 post (wX_findSelected_2 post (d + 1)) (nI i) (nI (p.2.1 i)) (nI (l.1 (p.2.2.2.1 i))) (nI (l.1 (p.2.2.2.2 i))) (nI p.1) (nI o.1) (nI o.2.1) (nI g.1) (nI k.1) (nI o.2.2.1) (nI o.2.2.2.1) (nI o.2.2.2.2.1) (nI o.2.2.2.2.2.1) (xs_A p.2.1) (xs_A p.2.2.1) (xs_A p.2.2.2.1) (xs_A p.2.2.2.2) (xs_A o.2.2.2.2.2.2.1) (xs_A o.2.2.2.2.2.2.2.1) (xs_A g.2.1) (xs_A g.2.2.1) (xs_A g.2.2.2.1) (xs_A g.2.2.2.2) (xs_A o.2.2.2.2.2.2.2.2.1) (xs_A w.1) (xs_A w.2.1) (xs_A w.2.2.1) (xs_A w.2.2.2.1) (xs_A w.2.2.2.2.1) (xs_A ((l.1, xs_u l.2 i 0) : xs_L).1) (xs_A ((l.1, xs_u l.2 i 0) : xs_L).2) (xs_A w.2.2.2.2.2) (xs_A o.2.2.2.2.2.2.2.2.2.1) (xs_A k.2.1) (xs_A k.2.2) (xs_A o.2.2.2.2.2.2.2.2.2.2)) ∧
        (¬ nI (p.2.1 i) = 4 → wX_findSelected_74 post (wX_findSelected_2 post (d + 1)) (nI i) (nI (p.2.1 i)) (nI (l.1 (p.2.2.2.1 i))) (nI (l.1 (p.2.2.2.2 i))) (nI p.1) (nI o.1) (nI o.2.1) (nI g.1) (nI k.1) (nI o.2.2.1) (nI o.2.2.2.1) (nI o.2.2.2.2.1) (nI o.2.2.2.2.2.1) (xs_A p.2.1) (xs_A p.2.2.1) (xs_A p.2.2.2.1) (xs_A p.2.2.2.2) (xs_A o.2.2.2.2.2.2.1) (xs_A o.2.2.2.2.2.2.2.1) (xs_A g.2.1) (xs_A g.2.2.1) (xs_A g.2.2.2.1) (xs_A g.2.2.2.2) (xs_A o.2.2.2.2.2.2.2.2.1) (xs_A w.1) (xs_A w.2.1) (xs_A w.2.2.1) (xs_A w.2.2.2.1) (xs_A w.2.2.2.2.1) (xs_A ((l.1, xs_u l.2 i 0) : xs_L).1) (xs_A ((l.1, xs_u l.2 i 0) : xs_L).2) (xs_A w.2.2.2.2.2) (xs_A o.2.2.2.2.2.2.2.2.2.1) (xs_A k.2.1) (xs_A k.2.2) (xs_A o.2.2.2.2.2.2.2.2.2.2))))) → wX_findSelected_2 post (d + 1 + 1) (nI i) (nI p.1) (nI o.1) (nI o.2.1) (nI g.1) (nI k.1) (nI o.2.2.1) (nI o.2.2.2.1) (nI o.2.2.2.2.1) (nI o.2.2.2.2.2.1) (xs_A p.2.1) (xs_A p.2.2.1) (xs_A p.2.2.2.1) (xs_A p.2.2.2.2) (xs_A o.2.2.2.2.2.2.1) (xs_A o.2.2.2.2.2.2.2.1) (xs_A g.2.1) (xs_A g.2.2.1) (xs_A g.2.2.2.1) (xs_A g.2.2.2.2) (xs_A o.2.2.2.2.2.2.2.2.1) (xs_A w.1) (xs_A w.2.1) (xs_A w.2.2.1) (xs_A w.2.2.2.1) (xs_A w.2.2.2.2.1) (xs_A l.1) (xs_A l.2) (xs_A w.2.2.2.2.2) (xs_A o.2.2.2.2.2.2.2.2.2.1) (xs_A k.2.1) (xs_A k.2.2) (xs_A o.2.2.2.2.2.2.2.2.2.2) := fun post H =>
      br_f (nI_ge (by omega) (by omega)) (And.intro h32 (nm_r (e' := nI (p.2.1 i)) (xs_at i31) (And.intro h32 (And.intro pin (nm_r ex (And.intro h32 (And.intro qin (nm_r ey (And.intro h16 (nm_r (xs_ps' (x := 0) rfl i31 rfl (by omega)) H))))))))))
    by_cases h14 : p.2.1 i = 1 ∨ p.2.1 i = 4
    · obtain ⟨r, g2, O, K⟩ := xs_fs74 (o := o) (p := p) (w := w) (k := k) (g := gq_put g 0 i 0 0) (l := (l.1, xs_u (xs_u l.2 i 0) i g.1)) (i := i) (by omega) (gq_put_ok I1 (by omega) (by omega) (by omega) (by omega) (by omega) (by omega) (by omega)) (show g.1 + 1 < 800 by omega)
        (show xs_u (xs_u l.2 i 0) i g.1 i < g.1 + 1 by rw [xs_us]; omega) (fun h => show l.1 (p.2.2.2.1 i) < g.1 + 1 by have := P.1 h; have := (I3 (p.2.2.2.1 i) (by omega)).1; omega) (fun h => show l.1 (p.2.2.2.2 i) < g.1 + 1 by have := P.2 h; have := (I3 (p.2.2.2.2 i) (by omega)).1; omega) k9
      have I' := xs_Sel_s hz hT (i := i) (r := r) (by omega) I (l1 := (l.1, xs_u (xs_u l.2 i 0) i g.1)) rfl (fun j hj => (xs_un hj).trans (xs_un hj)) (Or.inr ⟨h14, rfl, xs_us _ _ _⟩) O
      obtain ⟨g', l', J, L⟩ := ih (i + 1) (by omega) g2 _ I'
      refine ⟨g', l', J, fun post hp => go post ?_⟩
      have N : wX_findSelected_59 post (wX_findSelected_2 post (d + 1)) (nI i) (nI (p.2.1 i)) (nI (l.1 (p.2.2.2.1 i))) (nI (l.1 (p.2.2.2.2 i))) (nI p.1) (nI o.1) (nI o.2.1) (nI g.1) (nI k.1) (nI o.2.2.1) (nI o.2.2.2.1) (nI o.2.2.2.2.1) (nI o.2.2.2.2.2.1) (xs_A p.2.1) (xs_A p.2.2.1) (xs_A p.2.2.2.1) (xs_A p.2.2.2.2) (xs_A o.2.2.2.2.2.2.1) (xs_A o.2.2.2.2.2.2.2.1) (xs_A g.2.1) (xs_A g.2.2.1) (xs_A g.2.2.2.1) (xs_A g.2.2.2.2) (xs_A o.2.2.2.2.2.2.2.2.1) (xs_A w.1) (xs_A w.2.1) (xs_A w.2.2.1) (xs_A w.2.2.2.1) (xs_A w.2.2.2.2.1) (xs_A ((l.1, xs_u l.2 i 0) : xs_L).1) (xs_A ((l.1, xs_u l.2 i 0) : xs_L).2) (xs_A w.2.2.2.2.2) (xs_A o.2.2.2.2.2.2.2.2.2.1) (xs_A k.2.1) (xs_A k.2.2) (xs_A o.2.2.2.2.2.2.2.2.2.2) :=
        xs_newGate (o := o) (p := p) (l := (l.1, xs_u l.2 i 0)) (g := g) (w := w) (k := k) (c := 0) (a := i) (b := 0) (f := 0) (by omega) rfl (by omega) rfl (by omega) rfl (by omega) rfl (by omega)
          (And.intro h16 (nm_r (xs_ps rfl i31 rfl (by omega)) (K post _ (L post hp))))
      by_cases h1 : p.2.1 i = 1
      · exact br_t (by rw [h1]; rfl) N
      · exact br_f (xs_ne 1 rfl (by omega) (by omega) h1) (br_t (by rw [show p.2.1 i = 4 by omega]; rfl) N)
    · obtain ⟨r, g2, O, K⟩ := xs_fs74 (o := o) (p := p) (w := w) (k := k) (g := g) (l := (l.1, xs_u l.2 i 0)) (i := i) (by omega) I1 (by omega)
        (show xs_u l.2 i 0 i < g.1 by rw [xs_us]; omega) (fun h => show l.1 (p.2.2.2.1 i) < g.1 by have := P.1 h; exact (I3 (p.2.2.2.1 i) (by omega)).1) (fun h => show l.1 (p.2.2.2.2 i) < g.1 by have := P.2 h; exact (I3 (p.2.2.2.2 i) (by omega)).1) k9
      have I' := xs_Sel_s hz hT (i := i) (r := r) (by omega) I (l1 := (l.1, xs_u l.2 i 0)) rfl (fun j hj => xs_un hj) (Or.inl ⟨by omega, by omega, rfl, xs_us _ _ _⟩) O
      obtain ⟨g', l', J, L⟩ := ih (i + 1) (by omega) g2 _ I'
      exact ⟨g', l', J, fun post hp => go post (br_f (xs_ne 1 rfl (by omega) (by omega) (by omega)) (br_f (xs_ne 4 rfl (by omega) (by omega) (by omega)) (K post _ (L post hp))))⟩
end
end
section
/-! ===== build ===== -/
def xs_Circ (p : xs_P) (lo : xs_f) (l : xs_L) (g : xs_G) (w : xs_W) : Prop :=
  gq_ok g ∧ (∀ j, j < p.1 → xs_Rg p g l j) ∧ (∀ t, 10 ≤ t → t < g.1 → g.2.1 t = 0 → ∃ j, j < p.1 ∧ (p.2.1 j = 1 ∨ p.2.1 j = 4) ∧ l.2 j = t) ∧
  (∀ j, j < p.1 → xs_Bd p g w j ∧ xs_KF p 10 g w j) ∧ (w.1 (p.1 - 1) = 2 ∧ w.2.1 (p.1 - 1) = 3 ∧ w.2.2.1 (p.1 - 1) = 0 ∧ w.2.2.2.1 (p.1 - 1) = 0) ∧
  ∀ R, gq_md g R → (∀ j, j < p.1 → xs_NE p R l w j) ∧ (∀ s, s < 6 → R (g.2.2.2.1 (4 + s)) = rt_em p.2.1 p.2.2.1 lo (fun x => R (w.1 x)) s (p.1 - 1)) ∧ (∀ j, j < p.1 → R (l.1 j) = xs_se p R l j)
/-- sources alone -/
def gq_so (g : xs_G) (n : Nat) : Prop := g.1 = n ∧ ∀ t, t < n → g.2.1 t = 0 ∧ g.2.2.2.2 t = 0 ∧ (4 ≤ t → g.2.2.2.1 t = 0)
section
variable {o : xs_O} {p : xs_P} {l : xs_L} {w : xs_W} {k : xs_K}
theorem xs_b7_loop {ga gb : xs_f} : ∀ d j, j + d = 4 → ∀ gt fx : xs_f, (∀ t, t < j → gt t = 0 ∧ fx t = 0) → ∃ g : xs_G, gq_so g 4 ∧
    ∀ post : SX → Prop, (∃ n, wX_build_34 post n 0 (nI p.1) (nI o.1) (nI o.2.1) (nI g.1) (nI k.1) (nI o.2.2.1) (nI o.2.2.2.1) (nI o.2.2.2.2.1) (nI o.2.2.2.2.2.1) (xs_A p.2.1) (xs_A p.2.2.1) (xs_A p.2.2.2.1) (xs_A p.2.2.2.2) (xs_A o.2.2.2.2.2.2.1) (xs_A o.2.2.2.2.2.2.2.1) (xs_A g.2.1) (xs_A g.2.2.1) (xs_A g.2.2.2.1) (xs_A g.2.2.2.2) (xs_A o.2.2.2.2.2.2.2.2.1) (xs_A w.1) (xs_A w.2.1) (xs_A w.2.2.1) (xs_A w.2.2.2.1) (xs_A w.2.2.2.2.1) (xs_A l.1) (xs_A l.2) (xs_A w.2.2.2.2.2) (xs_A o.2.2.2.2.2.2.2.2.2.1) (xs_A k.2.1) (xs_A k.2.2) (xs_A o.2.2.2.2.2.2.2.2.2.2)) → wX_build_7 post (nI p.1) (nI o.1) (nI o.2.1) (nI ((4, gt, ga, gb, fx) : xs_G).1) (nI k.1) (nI o.2.2.1) (nI o.2.2.2.1) (nI o.2.2.2.2.1) (nI o.2.2.2.2.2.1) (d + 1) (nI j) (xs_A p.2.1) (xs_A p.2.2.1) (xs_A p.2.2.2.1) (xs_A p.2.2.2.2) (xs_A o.2.2.2.2.2.2.1) (xs_A o.2.2.2.2.2.2.2.1) (xs_A ((4, gt, ga, gb, fx) : xs_G).2.1) (xs_A ((4, gt, ga, gb, fx) : xs_G).2.2.1) (xs_A ((4, gt, ga, gb, fx) : xs_G).2.2.2.1) (xs_A ((4, gt, ga, gb, fx) : xs_G).2.2.2.2) (xs_A o.2.2.2.2.2.2.2.2.1) (xs_A w.1) (xs_A w.2.1) (xs_A w.2.2.1) (xs_A w.2.2.2.1) (xs_A w.2.2.2.2.1) (xs_A l.1) (xs_A l.2) (xs_A w.2.2.2.2.2) (xs_A o.2.2.2.2.2.2.2.2.2.1) (xs_A k.2.1) (xs_A k.2.2) (xs_A o.2.2.2.2.2.2.2.2.2.2) := by
  intro d
  induction d with
  | zero =>
    intro j hj gt fx h
    exact ⟨(4, gt, ga, gb, fx), ⟨rfl, fun t ht => ⟨(h t (by omega)).1, (h t (by omega)).2, fun h4 => by omega⟩⟩, fun post H => br_t (nI_le (a := 4) (by omega) (by omega)) H⟩
  | succ d ih =>
    intro j hj gt fx h
    have hin : vp_in (nI j) 800 := vp_in_nI (by omega) (by omega)
    obtain ⟨g, G, K⟩ := ih (j + 1) (by omega) (xs_u gt j 0) (xs_u fx j 0) (fun t ht => by
      by_cases e : t = j
      · rw [e, xs_us, xs_us]; exact ⟨rfl, rfl⟩
      · rw [xs_un e, xs_un e]; exact h t (by omega))
    exact ⟨g, G, fun post H => br_f (nI_ge (b := 4) (by omega) (by omega)) (And.intro hin (nm_r (xs_pb' (x := 0) rfl (by omega) rfl (by omega)) (And.intro hin (nm_r (xs_pz (x := 0) rfl (by omega) rfl (by omega)) (nm_r (nI_1 j) (K post H))))))⟩
theorem xs_b34_loop : ∀ d j, j + d = 6 → ∀ g : xs_G, gq_so g (4 + j) → ∃ g', gq_so g' 10 ∧ ∀ post : SX → Prop, wX_build_34 post 1 (nI 6) (nI p.1) (nI o.1) (nI o.2.1) (nI g'.1) (nI k.1) (nI o.2.2.1) (nI o.2.2.2.1) (nI o.2.2.2.2.1) (nI o.2.2.2.2.2.1) (xs_A p.2.1) (xs_A p.2.2.1) (xs_A p.2.2.2.1) (xs_A p.2.2.2.2) (xs_A o.2.2.2.2.2.2.1) (xs_A o.2.2.2.2.2.2.2.1) (xs_A g'.2.1) (xs_A g'.2.2.1) (xs_A g'.2.2.2.1) (xs_A g'.2.2.2.2) (xs_A o.2.2.2.2.2.2.2.2.1) (xs_A w.1) (xs_A w.2.1) (xs_A w.2.2.1) (xs_A w.2.2.2.1) (xs_A w.2.2.2.2.1) (xs_A l.1) (xs_A l.2) (xs_A w.2.2.2.2.2) (xs_A o.2.2.2.2.2.2.2.2.2.1) (xs_A k.2.1) (xs_A k.2.2) (xs_A o.2.2.2.2.2.2.2.2.2.2) → wX_build_34 post (1 + d) (nI j) (nI p.1) (nI o.1) (nI o.2.1) (nI g.1) (nI k.1) (nI o.2.2.1) (nI o.2.2.2.1) (nI o.2.2.2.2.1) (nI o.2.2.2.2.2.1) (xs_A p.2.1) (xs_A p.2.2.1) (xs_A p.2.2.2.1) (xs_A p.2.2.2.2) (xs_A o.2.2.2.2.2.2.1) (xs_A o.2.2.2.2.2.2.2.1) (xs_A g.2.1) (xs_A g.2.2.1) (xs_A g.2.2.2.1) (xs_A g.2.2.2.2) (xs_A o.2.2.2.2.2.2.2.2.1) (xs_A w.1) (xs_A w.2.1) (xs_A w.2.2.1) (xs_A w.2.2.2.1) (xs_A w.2.2.2.2.1) (xs_A l.1) (xs_A l.2) (xs_A w.2.2.2.2.2) (xs_A o.2.2.2.2.2.2.2.2.2.1) (xs_A k.2.1) (xs_A k.2.2) (xs_A o.2.2.2.2.2.2.2.2.2.2) := by
  intro d
  induction d with
  | zero =>
    intro j hj g h
    have e : j = 6 := by omega
    subst e
    exact ⟨g, h, fun post H => H⟩
  | succ d ih =>
    intro j hj g h
    obtain ⟨h1, h2⟩ := h
    obtain ⟨g', G, K⟩ := ih (j + 1) (by omega) (gq_put g 0 j 0 0) ⟨by show g.1 + 1 = _; omega, fun t ht => by
      show xs_u g.2.1 g.1 0 t = 0 ∧ xs_u g.2.2.2.2 g.1 0 t = 0 ∧ (4 ≤ t → xs_u g.2.2.2.1 g.1 0 t = 0)
      by_cases e : t = g.1
      · rw [e, xs_us, xs_us, xs_us]; exact ⟨rfl, rfl, fun _ => rfl⟩
      · rw [xs_un e, xs_un e, xs_un e]; exact h2 t (by omega)⟩
    exact ⟨g', G, fun post H => br_f (nI_ge (b := 6) (by omega) (by omega)) (xs_newGate (o := o) (p := p) (l := l) (g := g) (w := w) (k := k) (c := 0) (a := j) (b := 0) (f := 0) (by omega) rfl (by omega) rfl (by omega) rfl (by omega) rfl (by omega) (nm_r (nI_1 j) (K post H)))⟩
theorem xs_build {lo : xs_f} {g : xs_G} (hz1 : 1 ≤ p.1) (hz : p.1 ≤ 16) (hT : ∀ i, i < p.1 → rt_Nd p.2.1 p.2.2.1 p.2.2.2.1 p.2.2.2.2 lo i) (hlo : lo (p.1 - 1) = 0) :
    ∃ l' g' w' k', xs_Circ p lo l' g' w' ∧ ∀ post : SX → Prop, post (xs o p l' g' w' k') → wpX_build post (xs o p l g w k) := by
  obtain ⟨g1, G1, K1⟩ := xs_b7_loop (o := o) (p := p) (l := l) (w := w) (k := k) (ga := g.2.2.1) (gb := g.2.2.2.1) 4 0 rfl g.2.1 g.2.2.2.2 (fun t ht => by omega)
  obtain ⟨g2, G2, K2⟩ := xs_b34_loop (o := o) (p := p) (l := l) (w := w) (k := k) 6 0 rfl g1 G1
  obtain ⟨s1, s2⟩ := G2
  have S0 : xs_Sel p g2 l 0 := by
    refine ⟨⟨by omega, by omega, fun j hj => ?_⟩, by omega, fun j hj => by omega, fun t h1 h2 => by omega, fun s hs => (s2 _ (by omega)).2.2 (by omega), fun R m j hj => by omega⟩
    have a := s2 j (by omega)
    exact ⟨by omega, by omega, by omega, by omega, by omega, fun h => by have := a.2.2 h; omega⟩
  obtain ⟨g3, l3, S3, K3⟩ := xs_fs_loop (o := o) (w := w) (k := k) hz hT p.1 0 (by omega) g2 l S0
  obtain ⟨S31, S32, S33, S34, S35, S36⟩ := S3
  have g10 := S31.1
  obtain ⟨g4, w4, wk4, wo4, d, P, -, D, K4⟩ := xs_sub (o := o) (l := l3) hz hT (p.1 - 1) (by omega) g3 (xs_u w.1 (p.1 - 1) 2, xs_u w.2.1 (p.1 - 1) 3, xs_u w.2.2.1 (p.1 - 1) 0, xs_u w.2.2.2.1 (p.1 - 1) 0, w.2.2.2.2) 0 (xs_u k.2.1 0 0) (xs_u k.2.2 0 (p.1 - 1)) S31 (by rw [hlo]; omega)
    ⟨by show xs_u _ _ _ _ < _; rw [xs_us]; omega, by show xs_u _ _ _ _ < _; rw [xs_us]; omega, by show xs_u _ _ _ _ < _; rw [xs_us]; omega, by show xs_u _ _ _ _ < _; rw [xs_us]; omega⟩
    (fun j hj => ⟨(S33 j (by omega)).1, (S33 j (by omega)).2.1⟩) (xs_us _ _ _) (xs_us _ _ _) (by rw [hlo]; omega)
  obtain ⟨P1, P2, P3, P4, P5, P6⟩ := P
  rw [hlo] at P3 P4 P5 P6 D
  have x4 := P2.1
  have wr := P4.1 (p.1 - 1) (by omega)
  refine ⟨l3, g4, w4, (0, wk4, wo4), ⟨P1, fun j hj => ?_, fun t h1 h2 h3 => ?_, fun j hj => ⟨(P5 j (by omega) (by omega)).1, fun h => ?_⟩, ⟨?_, ?_, ?_, ?_⟩, fun R m => ⟨fun j hj => (P6 R m).1 j (by omega) (by omega), fun s hs => ?_, fun j hj => S36 R (gq_md_of S31 P2 m) j hj⟩⟩, fun post H => ?_⟩
  · obtain ⟨a1, a2, a3, a4⟩ := S33 j hj
    have b := P2.2.1 (l3.2 j) a2
    refine ⟨by omega, by omega, fun h => ?_, a4⟩
    rw [b.1, b.2.1]; exact a3 h
  · rcases Nat.lt_or_ge t g3.1 with h4 | h4
    · exact S34 t h1 h4 (by rw [← (P2.2.1 t h4).1]; exact h3)
    · exact absurd h3 (P2.2.2 t h4 h2)
  · have a := (P5 j (by omega) (by omega)).2 h
    exact ⟨by omega, a.2⟩
  · exact wr.1.trans (xs_us _ _ _)
  · exact wr.2.1.trans (xs_us _ _ _)
  · exact wr.2.2.1.trans (xs_us _ _ _)
  · exact wr.2.2.2.trans (xs_us _ _ _)
  · rw [(P6 R m).2 s hs, S35 s hs, m.1, rv_F_or]
  · have e1 : nI p.1 - 1 = nI (p.1 - 1) := pk_sub hz1
    have r16 : vp_in (nI (p.1 - 1)) 16 := vp_in_nI (by omega) (by omega)
    have B : wX_build_107 post (1 + d) (nI 0) (nI p.1) (nI o.1) (nI o.2.1) (nI g3.1) (nI ((0 + 1, xs_u k.2.1 0 0, xs_u k.2.2 0 (p.1 - 1)) : xs_K).1) (nI o.2.2.1) (nI o.2.2.2.1) (nI o.2.2.2.2.1) (nI o.2.2.2.2.2.1) (xs_A p.2.1) (xs_A p.2.2.1) (xs_A p.2.2.2.1) (xs_A p.2.2.2.2) (xs_A o.2.2.2.2.2.2.1) (xs_A o.2.2.2.2.2.2.2.1) (xs_A g3.2.1) (xs_A g3.2.2.1) (xs_A g3.2.2.2.1) (xs_A g3.2.2.2.2) (xs_A o.2.2.2.2.2.2.2.2.1) (xs_A ((xs_u w.1 (p.1 - 1) 2, xs_u w.2.1 (p.1 - 1) 3, xs_u w.2.2.1 (p.1 - 1) 0, xs_u w.2.2.2.1 (p.1 - 1) 0, w.2.2.2.2) : xs_W).1) (xs_A ((xs_u w.1 (p.1 - 1) 2, xs_u w.2.1 (p.1 - 1) 3, xs_u w.2.2.1 (p.1 - 1) 0, xs_u w.2.2.2.1 (p.1 - 1) 0, w.2.2.2.2) : xs_W).2.1) (xs_A ((xs_u w.1 (p.1 - 1) 2, xs_u w.2.1 (p.1 - 1) 3, xs_u w.2.2.1 (p.1 - 1) 0, xs_u w.2.2.2.1 (p.1 - 1) 0, w.2.2.2.2) : xs_W).2.2.1) (xs_A ((xs_u w.1 (p.1 - 1) 2, xs_u w.2.1 (p.1 - 1) 3, xs_u w.2.2.1 (p.1 - 1) 0, xs_u w.2.2.2.1 (p.1 - 1) 0, w.2.2.2.2) : xs_W).2.2.2.1) (xs_A ((xs_u w.1 (p.1 - 1) 2, xs_u w.2.1 (p.1 - 1) 3, xs_u w.2.2.1 (p.1 - 1) 0, xs_u w.2.2.2.1 (p.1 - 1) 0, w.2.2.2.2) : xs_W).2.2.2.2.1) (xs_A l3.1) (xs_A l3.2) (xs_A ((xs_u w.1 (p.1 - 1) 2, xs_u w.2.1 (p.1 - 1) 3, xs_u w.2.2.1 (p.1 - 1) 0, xs_u w.2.2.2.1 (p.1 - 1) 0, w.2.2.2.2) : xs_W).2.2.2.2.2) (xs_A o.2.2.2.2.2.2.2.2.2.1) (xs_A ((0 + 1, xs_u k.2.1 0 0, xs_u k.2.2 0 (p.1 - 1)) : xs_K).2.1) (xs_A ((0 + 1, xs_u k.2.1 0 0, xs_u k.2.2 0 (p.1 - 1)) : xs_K).2.2) (xs_A o.2.2.2.2.2.2.2.2.2.2) :=
      K4 post 1 0 (by omega) (by
        rw [Nat.zero_add]
        exact br_f (nI_ge (b := 64) (by omega) (by omega)) (br_t (show nI 0 ≤ 0 by decide) H))
    refine ⟨5, K1 post ⟨7, K2 post ?_⟩⟩
    refine br_t (nI_le (a := 6) (by omega) (by omega)) ⟨p.1 + 1, K3 _ (nm_r e1 (And.intro r16 (nm_r (xs_ps' (x := 2) rfl (by omega) rfl (by omega)) (And.intro r16 (nm_r (xs_ps' (x := 3) rfl (by omega) rfl (by omega)) (And.intro r16 (nm_r (xs_ps' (x := 0) rfl (by omega) rfl (by omega)) (And.intro r16 (nm_r (xs_ps' (x := 0) rfl (by omega) rfl (by omega))
      (xs_ask (o := o) (p := p) (l := l3) (g := g3) (w := (xs_u w.1 (p.1 - 1) 2, xs_u w.2.1 (p.1 - 1) 3, xs_u w.2.2.1 (p.1 - 1) 0, xs_u w.2.2.2.1 (p.1 - 1) 0, w.2.2.2.2)) (k := (0, k.2.1, k.2.2)) (c := 0) (i := p.1 - 1) rfl rfl (show 0 < 64 by omega) (by omega) (by omega) ⟨1 + d, B⟩))))))))))⟩
end
end
section
/-! ===== an instant in X: learning values ===== -/
def rv_of (v : Nat) : rv_V := (decide (v = 1), decide (v = 0))
theorem rv_of_0 : rv_of 0 = rv_F := rfl
theorem rv_of_1 : rv_of 1 = rv_T := rfl
theorem rv_of_2 : rv_of 2 = (false, false) := rfl
theorem rv_of_con (v : Nat) : rv_con (rv_of v) := by
  unfold rv_con rv_of
  by_cases h : v = 1
  · subst h; rfl
  · rw [decide_eq_false h]; rfl
theorem rv_of_kn {v : Nat} (h : v ≤ 2) (h2 : v ≠ 2) : (rv_of v).1 = true ∨ (rv_of v).2 = true := by
  have e : v = 0 ∨ v = 1 := by omega
  rcases e with e | e <;> subst e
  · exact Or.inr rfl
  · exact Or.inl rfl
theorem rv_of_inj {a b : Nat} (ha : a ≤ 2) (hb : b ≤ 2) (h : rv_of a = rv_of b) : a = b := by
  have h1 := congrArg Prod.fst h
  have h2 := congrArg Prod.snd h
  have h1 : decide (a = 1) = decide (b = 1) := h1
  have h2 : decide (a = 0) = decide (b = 0) := h2
  rw [decide_eq_decide] at h1 h2
  omega
theorem rv_of_le_2 {v : Nat} (h : v ≤ 2) (x : rv_V) (hx : x = (false, false)) (e : rv_of v = x) : v = 2 := by
  subst hx
  exact rv_of_inj h (Nat.le_refl _) e
theorem gq_fn_con {c : Nat} {x y : rv_V} (hx : rv_con x) (hy : rv_con y) : rv_con (gq_fn c x y) := by
  unfold gq_fn
  split
  · exact rv_con_and hx hy
  · split
    · exact rv_con_or hx hy
    · exact rv_con_not hx
/-- the values of what is no gate -/
def xs_src (g : xs_G) (bg : Bool) (on : Nat → Bool) (S : Nat → rv_V) (t : Nat) : rv_V :=
  if t = 0 then rv_F else if t = 1 then rv_T else if t = 2 then rv_b (!bg) else if t = 3 then rv_b bg else if t < 10 then S (t - 4) else rv_b (on (g.2.2.1 t))
/-- what gate t, or signal t, is at the values v -/
def sp_cp (g : xs_G) (v : xs_f) (t : Nat) : rv_V := if t < 10 then rv_of (v (g.2.2.2.1 t)) else gq_fn (g.2.1 t) (rv_of (v (g.2.2.1 t))) (rv_of (v (g.2.2.2.1 t)))
/-- Q is closed under all that is learnt -/
def sp_Cl (g : xs_G) (bg : Bool) (on inb : Nat → Bool) (Q : Nat → rv_V) : Prop := ∃ S, gq_full g (xs_src g bg on S) Q ∧ (∀ s, s < 6 → inb s = true → S s = rv_T) ∧ (∀ s, s < 6 → inb s = false → rv_le (Q (g.2.2.2.1 (4 + s))) (S s))
def sp_I (g : xs_G) (bg : Bool) (on inb : Nat → Bool) (v : xs_f) : Prop :=
  (∀ t, t < g.1 → v t ≤ 2) ∧ (∀ t, t < 4 → rv_of (v t) = xs_src g bg on (fun _ => rv_F) t) ∧ (∀ t, 10 ≤ t → t < g.1 → g.2.1 t = 0 → rv_of (v t) = rv_b (on (g.2.2.1 t))) ∧
  (∀ s, s < 6 → inb s = true → v (4 + s) = 1) ∧
  (∀ t, 4 ≤ t → t < g.1 → v t ≠ 2 → (t < 10 → inb (t - 4) = false) → (10 ≤ t → g.2.1 t ≠ 0) → rv_of (v t) = sp_cp g v t) ∧
  ∀ Q, sp_Cl g bg on inb Q → ∀ t, t < g.1 → rv_le (rv_of (v t)) (Q t)
section
variable {g : xs_G} {bg : Bool} {on inb : Nat → Bool}
theorem gq_z10 (hG : gq_ok g) {t : Nat} (h : t < 10) : g.2.1 t = 0 := by
  by_cases e : g.2.1 t = 0
  · exact e
  · have := ((hG.2.2 t (by have := hG.1; omega)).2.2.2.1 e).1; omega
/-- more is known, and what was known is as it was -/
theorem sp_mono {v : xs_f} {t c : Nat} (h2 : v t = 2) (j : Nat) : rv_le (rv_of (v j)) (rv_of (xs_u v t c j)) := by
  by_cases e : j = t
  · rw [e, h2, rv_of_2]; exact ⟨fun h => by simp at h, fun h => by simp at h⟩
  · rw [xs_un e]; exact rv_le_rf _
theorem sp_cp_m {v : xs_f} {t c : Nat} (h2 : v t = 2) (j : Nat) : rv_le (sp_cp g v j) (sp_cp g (xs_u v t c) j) := by
  unfold sp_cp
  split
  · exact sp_mono h2 _
  · exact gq_fn_le (sp_mono h2 _) (sp_mono h2 _)
theorem sp_cp_con (v : xs_f) (j : Nat) : rv_con (sp_cp g v j) := by
  unfold sp_cp
  split
  · exact rv_of_con _
  · exact gq_fn_con (rv_of_con _) (rv_of_con _)
theorem sp_step (hG : gq_ok g) {v : xs_f} (I : sp_I g bg on inb v) {t c : Nat} (h4 : 4 ≤ t) (ht : t < g.1) (h2 : v t = 2) (hc : c ≤ 1) (he : rv_of c = sp_cp g v t) : sp_I g bg on inb (xs_u v t c) := by
  obtain ⟨I1, I2, I3, I4, I5, I6⟩ := I
  have g10 := hG.1
  refine ⟨fun j hj => ?_, fun j hj => ?_, fun j h1 hj h3 => ?_, fun s hs hb => ?_, fun j j4 hj j2 js jg => ?_, fun Q hQ j hj => ?_⟩
  · by_cases e : j = t
    · rw [e, xs_us]; omega
    · rw [xs_un e]; exact I1 j hj
  · rw [xs_un (by omega)]; exact I2 j hj
  · have ne : j ≠ t := by
      intro e
      subst e
      have := I3 j h1 hj h3
      rw [h2] at this
      have := congrArg (fun x : rv_V => x.1 || x.2) this
      cases hh : on (g.2.2.1 j) <;> rw [hh] at this <;> exact absurd this (by decide)
    rw [xs_un ne]; exact I3 j h1 hj h3
  · have := I4 s hs hb
    rw [xs_un (by intro e; rw [e] at this; omega)]; exact this
  · by_cases e : j = t
    · subst e
      rw [xs_us, he]
      refine (rv_le_kn (sp_cp_m h2 j) (sp_cp_con _ _) ?_).symm
      rw [← he]; exact rv_of_kn (by omega) (by omega)
    · rw [xs_un e] at j2 ⊢
      have a := I5 j j4 hj j2 js jg
      rw [a]
      refine (rv_le_kn (sp_cp_m h2 j) (sp_cp_con _ _) ?_).symm
      rw [← a]; exact rv_of_kn (I1 j hj) j2
  · by_cases e : j = t
    · subst e
      rw [xs_us, he]
      have M := I6 Q hQ
      obtain ⟨S, F, q1, q2⟩ := hQ
      unfold sp_cp
      split
      · next h =>
        have hb := (hG.2.2 j hj).2.2.2.2.2 h4
        have qj : Q j = S (j - 4) := by
          rw [gq_full_s F hj (gq_z10 hG h)]
          unfold xs_src
          rw [if_neg (by omega), if_neg (by omega), if_neg (by omega), if_neg (by omega), if_pos h]
        have ej : 4 + (j - 4) = j := by omega
        cases hi : inb (j - 4) with
        | true =>
          have := I4 (j - 4) (by omega) hi
          rw [ej, h2] at this; omega
        | false =>
          have a := q2 (j - 4) (by omega) hi
          rw [ej] at a
          rw [qj]
          exact rv_le_tr (M _ hb) a
      · next h =>
        by_cases hk : g.2.1 j = 0
        · have := I3 j (by omega) hj hk
          rw [h2] at this
          have := congrArg (fun x : rv_V => x.1 || x.2) this
          cases hh : on (g.2.2.1 j) <;> rw [hh] at this <;> exact absurd this (by decide)
        · have a := (hG.2.2 j hj).2.2.2.1 hk
          rw [gq_full_g F hj hk]
          exact gq_fn_le (M _ a.2.1) (M _ a.2.2)
    · rw [xs_un e]; exact I6 Q hQ j hj
/-- how many are not known -/
def sp_U (v : xs_f) : Nat → Nat
  | 0 => 0
  | n + 1 => sp_U v n + if v n = 2 then 1 else 0
theorem sp_U_cg {v u : xs_f} {n : Nat} (h : ∀ t, t < n → v t = u t) : sp_U v n = sp_U u n := by
  induction n with
  | zero => rfl
  | succ n ih => show _ + _ = _ + _; rw [ih (fun t ht => h t (by omega)), h n (by omega)]
theorem sp_U_s {v : xs_f} {t c : Nat} (h2 : v t = 2) (hc : c ≤ 1) : ∀ n, t < n → sp_U (xs_u v t c) n + 1 = sp_U v n := by
  intro n
  induction n with
  | zero => intro h; omega
  | succ n ih =>
    intro h
    show sp_U (xs_u v t c) n + (if xs_u v t c n = 2 then 1 else 0) + 1 = sp_U v n + (if v n = 2 then 1 else 0)
    by_cases e : n = t
    · subst e
      rw [sp_U_cg (u := v) (fun t ht => xs_un (by omega)), xs_us, if_neg (by omega), if_pos h2]
    · rw [xs_un e]
      have := ih (by omega)
      omega
theorem sp_U_4 {v : xs_f} (h : ∀ t, t < 4 → v t ≠ 2) : ∀ m, sp_U v (4 + m) ≤ m := by
  intro m
  induction m with
  | zero =>
    show (((0 + (if v 0 = 2 then 1 else 0)) + (if v 1 = 2 then 1 else 0)) + (if v 2 = 2 then 1 else 0)) + (if v 3 = 2 then 1 else 0) ≤ 0
    rw [if_neg (h 0 (by omega)), if_neg (h 1 (by omega)), if_neg (h 2 (by omega)), if_neg (h 3 (by omega))]
    omega
  | succ m ih =>
    show sp_U v (4 + m) + (if v (4 + m) = 2 then 1 else 0) ≤ m + 1
    split <;> omega
end
def xs_ov (o : xs_O) (v : xs_f) : xs_O := (o.1, o.2.1, o.2.2.1, o.2.2.2.1, o.2.2.2.2.1, o.2.2.2.2.2.1, o.2.2.2.2.2.2.1, o.2.2.2.2.2.2.2.1, v, o.2.2.2.2.2.2.2.2.2)
theorem sp_c3 {P : Nat → Prop} (h0 : P 0) (h1 : P 1) (h2 : P 2) : ∀ x, x ≤ 2 → P x := by
  intro x hx
  match x, hx with
  | 0, _ => exact h0
  | 1, _ => exact h1
  | 2, _ => exact h2
theorem xs_conj {u : SX} : ∀ x, x ≤ 2 → ∀ y, y ≤ 2 → ∃ c, c ≤ 2 ∧ rv_of c = rv_and (rv_of x) (rv_of y) ∧ ∀ (post : Int32 → Prop), post (nI c) → wpX_conjunction post u (nI x) (nI y) := by
  have n1 : ¬ nI 1 = (0 : Int32) := by decide
  have n2 : ¬ nI 2 = (0 : Int32) := by decide
  have n3 : ¬ nI 2 = (1 : Int32) := by decide
  refine sp_c3 (fun y _ => ⟨0, by omega, (rv_F_and _).symm, fun post h => br_t rfl h⟩) (sp_c3 ?_ ?_ ?_) (sp_c3 ?_ ?_ ?_)
  · exact ⟨0, by omega, rfl, fun post h => br_f n1 (br_t rfl h)⟩
  · exact ⟨1, by omega, rfl, fun post h => br_f n1 (br_f n1 (br_t rfl (br_t rfl h)))⟩
  · exact ⟨2, by omega, rfl, fun post h => br_f n1 (br_f n2 (br_t rfl (br_f n3 h)))⟩
  · exact ⟨0, by omega, rfl, fun post h => br_f n2 (br_t rfl h)⟩
  · exact ⟨2, by omega, rfl, fun post h => br_f n2 (br_f n1 (br_f n3 h))⟩
  · exact ⟨2, by omega, rfl, fun post h => br_f n2 (br_f n2 (br_f n3 h))⟩
theorem xs_disj {u : SX} : ∀ x, x ≤ 2 → ∀ y, y ≤ 2 → ∃ c, c ≤ 2 ∧ rv_of c = rv_or (rv_of x) (rv_of y) ∧ ∀ (post : Int32 → Prop), post (nI c) → wpX_disjunction post u (nI x) (nI y) := by
  have n1 : ¬ nI 0 = (1 : Int32) := by decide
  have n2 : ¬ nI 2 = (0 : Int32) := by decide
  have n3 : ¬ nI 2 = (1 : Int32) := by decide
  refine sp_c3 (sp_c3 ?_ ?_ ?_) (fun y _ => ⟨1, by omega, (rv_T_or _).symm, fun post h => br_t rfl h⟩) (sp_c3 ?_ ?_ ?_)
  · exact ⟨0, by omega, rfl, fun post h => br_f n1 (br_f n1 (br_t rfl (br_t rfl h)))⟩
  · exact ⟨1, by omega, rfl, fun post h => br_f n1 (br_t rfl h)⟩
  · exact ⟨2, by omega, rfl, fun post h => br_f n1 (br_f n3 (br_t rfl (br_f n2 h)))⟩
  · exact ⟨2, by omega, rfl, fun post h => br_f n3 (br_f n1 (br_f n2 h))⟩
  · exact ⟨1, by omega, rfl, fun post h => br_f n3 (br_t rfl h)⟩
  · exact ⟨2, by omega, rfl, fun post h => br_f n3 (br_f n3 (br_f n2 h))⟩
section
variable {o : xs_O} {p : xs_P} {l : xs_L} {g : xs_G} {w : xs_W} {k : xs_K}
theorem xs_valueOf {v : xs_f} {t : Nat} (hG : gq_ok g) (hv : ∀ t, t < g.1 → v t ≤ 2) (ht : t < g.1) (hk : g.2.1 t ≠ 0) : ∃ c, c ≤ 2 ∧ rv_of c = gq_fn (g.2.1 t) (rv_of (v (g.2.2.1 t))) (rv_of (v (g.2.2.2.1 t))) ∧
    ∀ post : Int32 → Prop, post (nI c) → wpX_valueOf post (xs (xs_ov o v) p l g w k) (nI t) := by
  obtain ⟨J1, -, -, J4, -, -⟩ := hG.2.2 t ht
  have g8 := hG.2.1
  obtain ⟨-, ja, jb⟩ := J4 hk
  have va := hv _ ja
  have vb := hv _ jb
  have t31 : t < 2 ^ 31 := by omega
  have hin : vp_in (nI t) 800 := vp_in_nI (by omega) (by omega)
  have ain : vp_in (xs_A g.2.2.1 (nI t).toNatClampNeg) 800 := by rw [xs_at t31]; exact vp_in_nI (by omega) (by omega)
  have bin : vp_in (xs_A g.2.2.2.1 (nI t).toNatClampNeg) 800 := by rw [xs_at t31]; exact vp_in_nI (by omega) (by omega)
  have ea : xs_A v (xs_A g.2.2.1 (nI t).toNatClampNeg).toNatClampNeg = nI (v (g.2.2.1 t)) := by rw [xs_at t31, xs_at (by omega)]
  have eb : xs_A v (xs_A g.2.2.2.1 (nI t).toNatClampNeg).toNatClampNeg = nI (v (g.2.2.2.1 t)) := by rw [xs_at t31, xs_at (by omega)]
  have eg : xs_A g.2.1 (nI t).toNatClampNeg = nI (g.2.1 t) := xs_at t31
  by_cases h3 : g.2.1 t = 3
  · have eg3 : xs_A g.2.1 (nI t).toNatClampNeg = 3 := by rw [eg, h3]; rfl
    rw [h3]
    show ∃ c, c ≤ 2 ∧ rv_of c = rv_not (rv_of (v (g.2.2.1 t))) ∧ _
    have key : ∀ x, x ≤ 2 → ∃ c, c ≤ 2 ∧ rv_of c = rv_not (rv_of x) ∧ ∀ post : Int32 → Prop, post (nI c) → ((nI x = 2 → post 2) ∧ (¬ nI x = 2 → post (1 - nI x))) :=
      sp_c3 ⟨1, by omega, rfl, fun post h => br_f (by decide) h⟩ ⟨0, by omega, rfl, fun post h => br_f (by decide) h⟩ ⟨2, by omega, rfl, fun post h => br_t rfl h⟩
    obtain ⟨c, c1, c2, c3⟩ := key _ va
    exact ⟨c, c1, c2, fun post h => And.intro hin (And.intro ain (nm_r ea (And.intro hin (br_t eg3 (c3 post h)))))⟩
  · have eg3 : ¬ xs_A g.2.1 (nI t).toNatClampNeg = 3 := by rw [eg]; exact xs_ne 3 rfl (by omega) (by omega) h3
    by_cases h1 : g.2.1 t = 1
    · have eg1 : xs_A g.2.1 (nI t).toNatClampNeg = 1 := by rw [eg, h1]; rfl
      rw [h1]
      obtain ⟨c, c1, c2, c3⟩ := xs_conj (u := xs (xs_ov o v) p l g w k) _ va _ vb
      exact ⟨c, c1, c2, fun post h => And.intro hin (And.intro ain (nm_r ea (And.intro hin (br_f eg3 (And.intro hin (And.intro bin (nm_r eb (And.intro hin (br_t eg1 (c3 _ h))))))))))⟩
    · have eg1 : ¬ xs_A g.2.1 (nI t).toNatClampNeg = 1 := by rw [eg]; exact xs_ne 1 rfl (by omega) (by omega) h1
      have h2 : g.2.1 t = 2 := by omega
      rw [h2]
      obtain ⟨c, c1, c2, c3⟩ := xs_disj (u := xs (xs_ov o v) p l g w k) _ va _ vb
      exact ⟨c, c1, c2, fun post h => And.intro hin (And.intro ain (nm_r ea (And.intro hin (br_f eg3 (And.intro hin (And.intro bin (nm_r eb (And.intro hin (br_f eg1 (c3 _ h))))))))))⟩
theorem xs_learn {bg : Bool} {on inb : Nat → Bool} {v : xs_f} {t : Nat} (hG : gq_ok g) (I : sp_I g bg on inb v) (h4 : 4 ≤ t) (ht : t < g.1) : ∃ v' f, sp_I g bg on inb v' ∧
    ((f = 0 ∧ v' = v ∧ (v t = 2 → sp_cp g v t = (false, false))) ∨ (f = 1 ∧ sp_U v' g.1 + 1 = sp_U v g.1)) ∧
    ∀ post : Int32 → SX → Prop, post (nI f) (xs (xs_ov o v') p l g w k) → wpX_learn post (xs (xs_ov o v) p l g w k) (nI t) := by
  have g8 := hG.2.1
  have t31 : t < 2 ^ 31 := by omega
  have hin : vp_in (nI t) 800 := vp_in_nI (by omega) (by omega)
  have ev : xs_A v (nI t).toNatClampNeg = nI (v t) := xs_at t31
  have I1 := I.1 t ht
  by_cases h2 : v t = 2
  · have e2 : xs_A v (nI t).toNatClampNeg = 2 := by rw [ev, h2]; rfl
    have key : ∀ c, c ≤ 2 → rv_of c = sp_cp g v t → ∃ v' f, sp_I g bg on inb v' ∧
        ((f = 0 ∧ v' = v ∧ (v t = 2 → sp_cp g v t = (false, false))) ∨ (f = 1 ∧ sp_U v' g.1 + 1 = sp_U v g.1)) ∧ v' = xs_u v t c ∧
        ∀ post : Int32 → SX → Prop, post (nI f) (xs (xs_ov o v') p l g w k) → wX_learn_57 post (nI t) (nI p.1) (nI (xs_ov o v').1) (nI (xs_ov o v').2.1) (nI g.1) (nI k.1) (nI (xs_ov o v').2.2.1) (nI (xs_ov o v').2.2.2.1) (nI (xs_ov o v').2.2.2.2.1) (nI (xs_ov o v').2.2.2.2.2.1) (xs_A p.2.1) (xs_A p.2.2.1) (xs_A p.2.2.2.1) (xs_A p.2.2.2.2) (xs_A (xs_ov o v').2.2.2.2.2.2.1) (xs_A (xs_ov o v').2.2.2.2.2.2.2.1) (xs_A g.2.1) (xs_A g.2.2.1) (xs_A g.2.2.2.1) (xs_A g.2.2.2.2) (xs_A (xs_ov o v').2.2.2.2.2.2.2.2.1) (xs_A w.1) (xs_A w.2.1) (xs_A w.2.2.1) (xs_A w.2.2.2.1) (xs_A w.2.2.2.2.1) (xs_A l.1) (xs_A l.2) (xs_A w.2.2.2.2.2) (xs_A (xs_ov o v').2.2.2.2.2.2.2.2.2.1) (xs_A k.2.1) (xs_A k.2.2) (xs_A (xs_ov o v').2.2.2.2.2.2.2.2.2.2) := by
      intro c hc he
      by_cases e : c = 2
      · have ev : xs_u v t c = v := by
          funext j
          by_cases ej : j = t
          · rw [ej, xs_us, h2, e]
          · exact xs_un ej
        refine ⟨v, 0, I, Or.inl ⟨rfl, rfl, fun _ => by rw [← he, e]; rfl⟩, ev.symm, fun post h => And.intro hin (br_t e2 h)⟩
      · refine ⟨xs_u v t c, 1, sp_step hG I h4 ht h2 (by omega) he, Or.inr ⟨rfl, sp_U_s h2 (by omega) _ ht⟩, rfl, fun post h => And.intro hin (br_f ?_ h)⟩
        rw [show xs_A (xs_ov o (xs_u v t c)).2.2.2.2.2.2.2.2.1 (nI t).toNatClampNeg = nI c from xs_at' t31 (xs_us _ _ _)]
        exact xs_ne 2 rfl (by omega) (by omega) e
    by_cases h10 : t < 10
    · have hb := (hG.2.2 t ht).2.2.2.2.2 h4
      have vb := I.1 _ hb
      obtain ⟨v', f, a1, a2, a3, a4⟩ := key (v (g.2.2.2.1 t)) vb (by unfold sp_cp; rw [if_pos h10])
      refine ⟨v', f, a1, a2, fun post h => ?_⟩
      have a4 := a4 post h
      subst a3
      have bin : vp_in (xs_A g.2.2.2.1 (nI t).toNatClampNeg) 800 := by rw [xs_at t31]; exact vp_in_nI (by omega) (by omega)
      exact And.intro hin (br_t e2 (br_f (nI_nlt (b := 4) h4 t31) (br_f (nI_ge (b := 10) h10 (by omega)) (And.intro hin (And.intro bin (And.intro hin (nm_r (xs_pb' rfl t31 (by rw [xs_at t31]; exact xs_at (by omega)) (by omega)) a4)))))))
    · by_cases hk : g.2.1 t = 0
      · have := I.2.2.1 t (by omega) ht hk
        rw [h2] at this
        have := congrArg (fun x : rv_V => x.1 || x.2) this
        cases hh : on (g.2.2.1 t) <;> rw [hh] at this <;> exact absurd this (by decide)
      · obtain ⟨c, c1, c2, c3⟩ := xs_valueOf (o := o) (p := p) (l := l) (w := w) (k := k) hG I.1 ht hk
        obtain ⟨v', f, a1, a2, a3, a4⟩ := key c c1 (by unfold sp_cp; rw [if_neg h10]; exact c2)
        refine ⟨v', f, a1, a2, fun post h => ?_⟩
        have a4 := a4 post h
        subst a3
        exact And.intro hin (br_t e2 (br_f (nI_nlt (b := 4) h4 t31) (br_t (nI_le (a := 10) (by omega) t31) (c3 _ (And.intro hin (nm_r (xs_pb rfl t31 rfl (by omega)) a4))))))
  · have e2 : ¬ xs_A v (nI t).toNatClampNeg = 2 := by rw [ev]; exact xs_ne 2 rfl (by omega) (by omega) h2
    exact ⟨v, 0, I, Or.inl ⟨rfl, rfl, fun h => absurd h h2⟩, fun post h => And.intro hin (br_f e2 h)⟩
end
end
section
/-! ===== spread ===== -/
section
variable {o : xs_O} {p : xs_P} {l : xs_L} {g : xs_G} {w : xs_W} {k : xs_K} {bg : Bool} {on inb : Nat → Bool}
/-- one round -/
theorem xs_round (hG : gq_ok g) : ∀ d t, t + d = g.1 → 4 ≤ t → ∀ v f, f ≤ 1 → sp_I g bg on inb v → ∃ v' f', f' ≤ 1 ∧ sp_I g bg on inb v' ∧ sp_U v' g.1 ≤ sp_U v g.1 ∧
    ((f' = 0 ∧ f = 0 ∧ v' = v ∧ ∀ j, t ≤ j → j < g.1 → v j = 2 → sp_cp g v j = (false, false)) ∨ (f' = 1 ∧ (f = 0 → sp_U v' g.1 + 1 ≤ sp_U v g.1))) ∧
    ∀ (post : SX → Prop) J (x3 : Nat), J (nI f') (nI (x3 + 1)) (nI p.1) (nI (xs_ov o v').1) (nI (xs_ov o v').2.1) (nI g.1) (nI k.1) (nI (xs_ov o v').2.2.1) (nI (xs_ov o v').2.2.2.1) (nI (xs_ov o v').2.2.2.2.1) (nI (xs_ov o v').2.2.2.2.2.1) (xs_A p.2.1) (xs_A p.2.2.1) (xs_A p.2.2.2.1) (xs_A p.2.2.2.2) (xs_A (xs_ov o v').2.2.2.2.2.2.1) (xs_A (xs_ov o v').2.2.2.2.2.2.2.1) (xs_A g.2.1) (xs_A g.2.2.1) (xs_A g.2.2.2.1) (xs_A g.2.2.2.2) (xs_A (xs_ov o v').2.2.2.2.2.2.2.2.1) (xs_A w.1) (xs_A w.2.1) (xs_A w.2.2.1) (xs_A w.2.2.2.1) (xs_A w.2.2.2.2.1) (xs_A l.1) (xs_A l.2) (xs_A w.2.2.2.2.2) (xs_A (xs_ov o v').2.2.2.2.2.2.2.2.2.1) (xs_A k.2.1) (xs_A k.2.2) (xs_A (xs_ov o v').2.2.2.2.2.2.2.2.2.2) → wX_spread_25 post J (nI x3) (d + 1) (nI f) (nI t) (nI p.1) (nI (xs_ov o v).1) (nI (xs_ov o v).2.1) (nI g.1) (nI k.1) (nI (xs_ov o v).2.2.1) (nI (xs_ov o v).2.2.2.1) (nI (xs_ov o v).2.2.2.2.1) (nI (xs_ov o v).2.2.2.2.2.1) (xs_A p.2.1) (xs_A p.2.2.1) (xs_A p.2.2.2.1) (xs_A p.2.2.2.2) (xs_A (xs_ov o v).2.2.2.2.2.2.1) (xs_A (xs_ov o v).2.2.2.2.2.2.2.1) (xs_A g.2.1) (xs_A g.2.2.1) (xs_A g.2.2.2.1) (xs_A g.2.2.2.2) (xs_A (xs_ov o v).2.2.2.2.2.2.2.2.1) (xs_A w.1) (xs_A w.2.1) (xs_A w.2.2.1) (xs_A w.2.2.2.1) (xs_A w.2.2.2.2.1) (xs_A l.1) (xs_A l.2) (xs_A w.2.2.2.2.2) (xs_A (xs_ov o v).2.2.2.2.2.2.2.2.2.1) (xs_A k.2.1) (xs_A k.2.2) (xs_A (xs_ov o v).2.2.2.2.2.2.2.2.2.2) := by
  have g8 := hG.2.1
  intro d
  induction d with
  | zero =>
    intro t ht h4 v f hf I
    have fin : ∀ (post : SX → Prop) J (x3 : Nat), J (nI f) (nI (x3 + 1)) (nI p.1) (nI (xs_ov o v).1) (nI (xs_ov o v).2.1) (nI g.1) (nI k.1) (nI (xs_ov o v).2.2.1) (nI (xs_ov o v).2.2.2.1) (nI (xs_ov o v).2.2.2.2.1) (nI (xs_ov o v).2.2.2.2.2.1) (xs_A p.2.1) (xs_A p.2.2.1) (xs_A p.2.2.2.1) (xs_A p.2.2.2.2) (xs_A (xs_ov o v).2.2.2.2.2.2.1) (xs_A (xs_ov o v).2.2.2.2.2.2.2.1) (xs_A g.2.1) (xs_A g.2.2.1) (xs_A g.2.2.2.1) (xs_A g.2.2.2.2) (xs_A (xs_ov o v).2.2.2.2.2.2.2.2.1) (xs_A w.1) (xs_A w.2.1) (xs_A w.2.2.1) (xs_A w.2.2.2.1) (xs_A w.2.2.2.2.1) (xs_A l.1) (xs_A l.2) (xs_A w.2.2.2.2.2) (xs_A (xs_ov o v).2.2.2.2.2.2.2.2.2.1) (xs_A k.2.1) (xs_A k.2.2) (xs_A (xs_ov o v).2.2.2.2.2.2.2.2.2.2) → wX_spread_25 post J (nI x3) (0 + 1) (nI f) (nI t) (nI p.1) (nI (xs_ov o v).1) (nI (xs_ov o v).2.1) (nI g.1) (nI k.1) (nI (xs_ov o v).2.2.1) (nI (xs_ov o v).2.2.2.1) (nI (xs_ov o v).2.2.2.2.1) (nI (xs_ov o v).2.2.2.2.2.1) (xs_A p.2.1) (xs_A p.2.2.1) (xs_A p.2.2.2.1) (xs_A p.2.2.2.2) (xs_A (xs_ov o v).2.2.2.2.2.2.1) (xs_A (xs_ov o v).2.2.2.2.2.2.2.1) (xs_A g.2.1) (xs_A g.2.2.1) (xs_A g.2.2.2.1) (xs_A g.2.2.2.2) (xs_A (xs_ov o v).2.2.2.2.2.2.2.2.1) (xs_A w.1) (xs_A w.2.1) (xs_A w.2.2.1) (xs_A w.2.2.2.1) (xs_A w.2.2.2.2.1) (xs_A l.1) (xs_A l.2) (xs_A w.2.2.2.2.2) (xs_A (xs_ov o v).2.2.2.2.2.2.2.2.2.1) (xs_A k.2.1) (xs_A k.2.2) (xs_A (xs_ov o v).2.2.2.2.2.2.2.2.2.2) :=
      fun post J x3 H => br_t (nI_le (by omega) (by omega)) (nm_r (nI_1 x3) H)
    by_cases e : f = 0
    · exact ⟨v, f, hf, I, Nat.le_refl _, Or.inl ⟨e, e, rfl, fun j h1 h2 => by omega⟩, fin⟩
    · exact ⟨v, f, hf, I, Nat.le_refl _, Or.inr ⟨by omega, fun h => absurd h e⟩, fin⟩
  | succ d ih =>
    intro t ht h4 v f hf I
    obtain ⟨v1, f1, I1, D1, K1⟩ := xs_learn (o := o) (p := p) (l := l) (w := w) (k := k) hG I h4 (by omega)
    have le : ¬ nI g.1 ≤ nI t := nI_ge (by omega) (by omega)
    have U1 : sp_U v1 g.1 ≤ sp_U v g.1 := by
      rcases D1 with ⟨-, e, -⟩ | ⟨-, e⟩
      · rw [e]; exact Nat.le_refl _
      · omega
    by_cases hf0 : f = 0
    · rcases D1 with ⟨e1, e2, e3⟩ | ⟨e1, e2⟩
      · subst e1 e2 hf0
        obtain ⟨v', f', F, I', U', D', K'⟩ := ih (t + 1) (by omega) (by omega) v1 0 (by omega) I1
        refine ⟨v', f', F, I', U', ?_, fun post J x3 H => br_f le (K1 _ (br_t rfl (br_t rfl (nm_r (nI_1 t) (K' post J x3 H)))))⟩
        rcases D' with ⟨d1, d2, d3, d4⟩ | d
        · refine Or.inl ⟨d1, d2, d3, fun j h1 h2 h3 => ?_⟩
          by_cases ej : j = t
          · rw [ej] at h3 ⊢; exact e3 h3
          · exact d4 j (by omega) h2 h3
        · exact Or.inr d
      · subst e1 hf0
        obtain ⟨v', f', F, I', U', D', K'⟩ := ih (t + 1) (by omega) (by omega) v1 1 (by omega) I1
        refine ⟨v', f', F, I', by omega, ?_, fun post J x3 H => br_f le (K1 _ (br_t rfl (br_f (by decide) (nm_r (nI_1 t) (K' post J x3 H)))))⟩
        rcases D' with ⟨d1, d2, d3, d4⟩ | ⟨d1, d2⟩
        · omega
        · exact Or.inr ⟨d1, fun _ => by omega⟩
    · have e : f = 1 := by omega
      subst e
      obtain ⟨v', f', F, I', U', D', K'⟩ := ih (t + 1) (by omega) (by omega) v1 1 (by omega) I1
      refine ⟨v', f', F, I', by omega, ?_, fun post J x3 H => br_f le (K1 _ (br_f (by decide) (nm_r (nI_1 t) (K' post J x3 H))))⟩
      rcases D' with ⟨d1, d2, d3, d4⟩ | ⟨d1, d2⟩
      · omega
      · exact Or.inr ⟨d1, fun h => by omega⟩
/-- nothing more can be learnt -/
def sp_Fx (g : xs_G) (v : xs_f) : Prop := ∀ j, 4 ≤ j → j < g.1 → v j = 2 → sp_cp g v j = (false, false)
theorem xs_rounds (hG : gq_ok g) : ∀ n v x3, sp_I g bg on inb v → sp_U v g.1 + x3 ≤ 796 → sp_U v g.1 ≤ n → ∃ v', sp_I g bg on inb v' ∧ sp_Fx g v' ∧
    ∀ post : SX → Prop, post (xs (xs_ov o v') p l g w k) → wX_spread_9 post (n + 2) (nI 1) (nI x3) (nI p.1) (nI (xs_ov o v).1) (nI (xs_ov o v).2.1) (nI g.1) (nI k.1) (nI (xs_ov o v).2.2.1) (nI (xs_ov o v).2.2.2.1) (nI (xs_ov o v).2.2.2.2.1) (nI (xs_ov o v).2.2.2.2.2.1) (xs_A p.2.1) (xs_A p.2.2.1) (xs_A p.2.2.2.1) (xs_A p.2.2.2.2) (xs_A (xs_ov o v).2.2.2.2.2.2.1) (xs_A (xs_ov o v).2.2.2.2.2.2.2.1) (xs_A g.2.1) (xs_A g.2.2.1) (xs_A g.2.2.2.1) (xs_A g.2.2.2.2) (xs_A (xs_ov o v).2.2.2.2.2.2.2.2.1) (xs_A w.1) (xs_A w.2.1) (xs_A w.2.2.1) (xs_A w.2.2.2.1) (xs_A w.2.2.2.2.1) (xs_A l.1) (xs_A l.2) (xs_A w.2.2.2.2.2) (xs_A (xs_ov o v).2.2.2.2.2.2.2.2.2.1) (xs_A k.2.1) (xs_A k.2.2) (xs_A (xs_ov o v).2.2.2.2.2.2.2.2.2.2) := by
  have g10 := hG.1
  intro n
  induction n with
  | zero =>
    intro v x3 I hx hn
    obtain ⟨v', f', F, I', U', D', K'⟩ := xs_round (o := o) (p := p) (l := l) (w := w) (k := k) hG (g.1 - 4) 4 (by omega) (by omega) v 0 (by omega) I
    rcases D' with ⟨d1, d2, d3, d4⟩ | ⟨d1, d2⟩
    · subst d1 d3
      exact ⟨v', I', d4, fun post H => br_f (nI_ge (b := 800) (by omega) (by omega)) (br_f (by decide) ⟨_, K' post _ x3 (br_c (fun _ => H) (fun _ => br_t rfl H))⟩)⟩
    · have := d2 rfl; omega
  | succ n ih =>
    intro v x3 I hx hn
    obtain ⟨v', f', F, I', U', D', K'⟩ := xs_round (o := o) (p := p) (l := l) (w := w) (k := k) hG (g.1 - 4) 4 (by omega) (by omega) v 0 (by omega) I
    rcases D' with ⟨d1, d2, d3, d4⟩ | ⟨d1, d2⟩
    · subst d1 d3
      exact ⟨v', I', d4, fun post H => br_f (nI_ge (b := 800) (by omega) (by omega)) (br_f (by decide) ⟨_, K' post _ x3 (br_c (fun _ => H) (fun _ => br_t rfl H))⟩)⟩
    · subst d1
      have d2 := d2 rfl
      obtain ⟨v2, I2, F2, K2⟩ := ih v' (x3 + 1) I' (by omega) (by omega)
      exact ⟨v2, I2, F2, fun post H => br_f (nI_ge (b := 800) (by omega) (by omega)) (br_f (by decide) ⟨_, K' post _ x3 (K2 post H)⟩)⟩
end
/-- what is found out at last: a model of all gates -/
theorem sp_full {g : xs_G} {bg : Bool} {on inb : Nat → Bool} {v : xs_f} (hG : gq_ok g) (I : sp_I g bg on inb v) (F : sp_Fx g v) :
    gq_full g (xs_src g bg on (fun s => rv_of (v (4 + s)))) (fun t => rv_of (v t)) ∧ ∀ s, s < 6 → rv_of (v (4 + s)) = if inb s = true then rv_T else rv_of (v (g.2.2.2.1 (4 + s))) := by
  obtain ⟨I1, I2, I3, I4, I5, I6⟩ := I
  have g10 := hG.1
  refine ⟨fun t ht => ?_, fun s hs => ?_⟩
  · unfold gq_phi
    by_cases hk : g.2.1 t = 0
    · rw [if_neg (fun h => h.2 hk)]
      by_cases h4 : t < 4
      · have a := I2 t h4
        show rv_of (v t) = _
        rw [a]; unfold xs_src
        by_cases e0 : t = 0
        · rw [if_pos e0, if_pos e0]
        by_cases e1 : t = 1
        · rw [if_neg e0, if_neg e0, if_pos e1, if_pos e1]
        by_cases e2 : t = 2
        · rw [if_neg e0, if_neg e0, if_neg e1, if_neg e1, if_pos e2, if_pos e2]
        · rw [if_neg e0, if_neg e0, if_neg e1, if_neg e1, if_neg e2, if_neg e2, if_pos (by omega), if_pos (by omega)]
      · by_cases h10 : t < 10
        · unfold xs_src
          rw [if_neg (by omega), if_neg (by omega), if_neg (by omega), if_neg (by omega), if_pos h10]
          show rv_of (v t) = rv_of (v (4 + (t - 4)))
          rw [show 4 + (t - 4) = t by omega]
        · unfold xs_src
          rw [if_neg (by omega), if_neg (by omega), if_neg (by omega), if_neg (by omega), if_neg h10]
          exact I3 t (by omega) ht hk
    · rw [if_pos ⟨ht, hk⟩]
      have a := ((hG.2.2 t ht).2.2.2.1 hk).1
      have ecp : sp_cp g v t = gq_fn (g.2.1 t) (rv_of (v (g.2.2.1 t))) (rv_of (v (g.2.2.2.1 t))) := by unfold sp_cp; rw [if_neg (by omega)]
      show rv_of (v t) = gq_fn (g.2.1 t) (rv_of (v (g.2.2.1 t))) (rv_of (v (g.2.2.2.1 t)))
      by_cases h2 : v t = 2
      · rw [← ecp, F t (by omega) ht h2, h2]; rfl
      · rw [← ecp]; exact I5 t (by omega) ht h2 (fun h => by omega) (fun _ => hk)
  · cases hb : inb s with
    | true => rw [if_pos rfl, I4 s hs hb]; rfl
    | false =>
      rw [if_neg Bool.false_ne_true]
      have ecp : sp_cp g v (4 + s) = rv_of (v (g.2.2.2.1 (4 + s))) := by unfold sp_cp; rw [if_pos (by omega)]
      by_cases h2 : v (4 + s) = 2
      · rw [← ecp, F (4 + s) (by omega) (by omega) h2, h2]; rfl
      · rw [← ecp]; exact I5 (4 + s) (by omega) (by omega) h2 (fun h => by rw [show 4 + s - 4 = s by omega]; exact hb) (fun h => by omega)
theorem xs_pk {f : xs_f} {k x : Nat} {y : Int32} (hy : y = nI x) (h : x < 128) : upd (xs_A f) k (vp_nar .byte y) = xs_A (xs_u f k x) := by
  rw [hy, vp_nar_byte, xs_by h, xs_upd]
theorem xs_pk' {f : xs_f} {k x : Nat} {y : Int32} (hy : y = nI x) (h : x < 128) : upd (xs_A f) k (vp_nar .byte y.toInt8.toInt32) = xs_A (xs_u f k x) := by
  rw [hy, vp_nar_byte, xs_by h, xs_by h, xs_upd]
section
variable {o : xs_O} {p : xs_P} {l : xs_L} {g : xs_G} {w : xs_W} {k : xs_K}
theorem xs_s2_loop {x1 : Int32} (h8 : g.1 ≤ 800) : ∀ d j, j + d = g.1 → ∀ v, (∀ t, t < j → v t = 2) → ∃ v', (∀ t, t < g.1 → v' t = 2) ∧
    ∀ post : SX → Prop, wX_setSources_2 post x1 (nI p.1) (nI (xs_ov o v').1) (nI (xs_ov o v').2.1) (nI g.1) (nI k.1) (nI (xs_ov o v').2.2.1) (nI (xs_ov o v').2.2.2.1) (nI (xs_ov o v').2.2.2.2.1) (nI (xs_ov o v').2.2.2.2.2.1) 1 (nI g.1) (xs_A p.2.1) (xs_A p.2.2.1) (xs_A p.2.2.2.1) (xs_A p.2.2.2.2) (xs_A (xs_ov o v').2.2.2.2.2.2.1) (xs_A (xs_ov o v').2.2.2.2.2.2.2.1) (xs_A g.2.1) (xs_A g.2.2.1) (xs_A g.2.2.2.1) (xs_A g.2.2.2.2) (xs_A (xs_ov o v').2.2.2.2.2.2.2.2.1) (xs_A w.1) (xs_A w.2.1) (xs_A w.2.2.1) (xs_A w.2.2.2.1) (xs_A w.2.2.2.2.1) (xs_A l.1) (xs_A l.2) (xs_A w.2.2.2.2.2) (xs_A (xs_ov o v').2.2.2.2.2.2.2.2.2.1) (xs_A k.2.1) (xs_A k.2.2) (xs_A (xs_ov o v').2.2.2.2.2.2.2.2.2.2) → wX_setSources_2 post x1 (nI p.1) (nI (xs_ov o v).1) (nI (xs_ov o v).2.1) (nI g.1) (nI k.1) (nI (xs_ov o v).2.2.1) (nI (xs_ov o v).2.2.2.1) (nI (xs_ov o v).2.2.2.2.1) (nI (xs_ov o v).2.2.2.2.2.1) (1 + d) (nI j) (xs_A p.2.1) (xs_A p.2.2.1) (xs_A p.2.2.2.1) (xs_A p.2.2.2.2) (xs_A (xs_ov o v).2.2.2.2.2.2.1) (xs_A (xs_ov o v).2.2.2.2.2.2.2.1) (xs_A g.2.1) (xs_A g.2.2.1) (xs_A g.2.2.2.1) (xs_A g.2.2.2.2) (xs_A (xs_ov o v).2.2.2.2.2.2.2.2.1) (xs_A w.1) (xs_A w.2.1) (xs_A w.2.2.1) (xs_A w.2.2.2.1) (xs_A w.2.2.2.2.1) (xs_A l.1) (xs_A l.2) (xs_A w.2.2.2.2.2) (xs_A (xs_ov o v).2.2.2.2.2.2.2.2.2.1) (xs_A k.2.1) (xs_A k.2.2) (xs_A (xs_ov o v).2.2.2.2.2.2.2.2.2.2) := by
  intro d
  induction d with
  | zero => intro j hj v h; have e : j = g.1 := by omega
            subst e; exact ⟨v, h, fun post H => H⟩
  | succ d ih =>
    intro j hj v h
    have hin : vp_in (nI j) 800 := vp_in_nI (by omega) (by omega)
    obtain ⟨v', H', K⟩ := ih (j + 1) (by omega) (xs_u v j 2) (fun t ht => by
      by_cases e : t = j
      · rw [e, xs_us]
      · rw [xs_un e]; exact h t (by omega))
    exact ⟨v', H', fun post H => br_f (nI_ge (by omega) (by omega)) (And.intro hin (nm_r (xs_pb' (x := 2) rfl (by omega) rfl (by omega)) (nm_r (nI_1 j) (K post H))))⟩
/-- a bit of the inputs, as both sides look at it -/
theorem bt_1 (x : Int32) {s : Nat} (hs : s < 31) : ((x >>> (nI s &&& 31)) &&& 1) = 1 ↔ bt x s = true := by
  have e : ((x >>> (nI s &&& 31)) &&& 1) = if bt x s = true then 1 else 0 := by
    refine b_ext (fun i hi => ?_)
    rw [b_and, b_sshr s (by omega) x hi]
    have o : ∀ i, i < 32 → bt 1 i = decide (i = 0) := by decide +kernel
    rw [o i hi]
    by_cases e : i = 0
    · subst e
      rw [if_pos (by omega), Nat.add_zero]
      cases h : bt x s
      · rfl
      · rfl
    · rw [decide_eq_false e, Bool.and_false]
      cases h : bt x s
      · exact (b_0 i).symm
      · rw [if_pos rfl, o i hi, decide_eq_false e]
  rw [e]
  cases bt x s
  · exact ⟨fun h => absurd h (by decide), fun h => absurd h (by decide)⟩
  · exact ⟨fun _ => rfl, fun _ => rfl⟩
theorem xs_s77_loop {x1 : Int32} (hG : gq_ok g) : ∀ d s, s + d = 6 → ∀ v : xs_f, (∀ t, t < s → v (4 + t) = if bt x1 t = true then 1 else 2) → ∃ v', (∀ t, t < 4 ∨ 10 ≤ t → v' t = v t) ∧ (∀ t, t < 6 → v' (4 + t) = if bt x1 t = true then 1 else 2) ∧
    ∀ post : SX → Prop, (∃ n, wX_setSources_114 post (nI p.1) (nI (xs_ov o v').1) (nI (xs_ov o v').2.1) (nI g.1) (nI k.1) (nI (xs_ov o v').2.2.1) (nI (xs_ov o v').2.2.2.1) (nI (xs_ov o v').2.2.2.2.1) (nI (xs_ov o v').2.2.2.2.2.1) n 0 (xs_A p.2.1) (xs_A p.2.2.1) (xs_A p.2.2.2.1) (xs_A p.2.2.2.2) (xs_A (xs_ov o v').2.2.2.2.2.2.1) (xs_A (xs_ov o v').2.2.2.2.2.2.2.1) (xs_A g.2.1) (xs_A g.2.2.1) (xs_A g.2.2.2.1) (xs_A g.2.2.2.2) (xs_A (xs_ov o v').2.2.2.2.2.2.2.2.1) (xs_A w.1) (xs_A w.2.1) (xs_A w.2.2.1) (xs_A w.2.2.2.1) (xs_A w.2.2.2.2.1) (xs_A l.1) (xs_A l.2) (xs_A w.2.2.2.2.2) (xs_A (xs_ov o v').2.2.2.2.2.2.2.2.2.1) (xs_A k.2.1) (xs_A k.2.2) (xs_A (xs_ov o v').2.2.2.2.2.2.2.2.2.2)) → wX_setSources_77 post x1 (nI p.1) (nI (xs_ov o v).1) (nI (xs_ov o v).2.1) (nI g.1) (nI k.1) (nI (xs_ov o v).2.2.1) (nI (xs_ov o v).2.2.2.1) (nI (xs_ov o v).2.2.2.2.1) (nI (xs_ov o v).2.2.2.2.2.1) (d + 1) (nI s) (xs_A p.2.1) (xs_A p.2.2.1) (xs_A p.2.2.2.1) (xs_A p.2.2.2.2) (xs_A (xs_ov o v).2.2.2.2.2.2.1) (xs_A (xs_ov o v).2.2.2.2.2.2.2.1) (xs_A g.2.1) (xs_A g.2.2.1) (xs_A g.2.2.2.1) (xs_A g.2.2.2.2) (xs_A (xs_ov o v).2.2.2.2.2.2.2.2.1) (xs_A w.1) (xs_A w.2.1) (xs_A w.2.2.1) (xs_A w.2.2.2.1) (xs_A w.2.2.2.2.1) (xs_A l.1) (xs_A l.2) (xs_A w.2.2.2.2.2) (xs_A (xs_ov o v).2.2.2.2.2.2.2.2.2.1) (xs_A k.2.1) (xs_A k.2.2) (xs_A (xs_ov o v).2.2.2.2.2.2.2.2.2.2) := by
  intro d
  induction d with
  | zero => intro s hs v h; exact ⟨v, fun _ _ => rfl, fun t ht => h t (by omega), fun post H => br_t (nI_le (a := 6) (by omega) (by omega)) H⟩
  | succ d ih =>
    intro s hs v h
    have e4 : (4 : Int32) + nI s = nI (4 + s) := nI_add 4 s
    have hin : vp_in (4 + nI s) 800 := by rw [e4]; exact vp_in_nI (by omega) (by omega)
    have go : ∀ c, (c = if bt x1 s = true then 1 else 2) → c ≤ 2 → ∃ v', (∀ t, t < 4 ∨ 10 ≤ t → v' t = v t) ∧ (∀ t, t < 6 → v' (4 + t) = if bt x1 t = true then 1 else 2) ∧
        ∀ post : SX → Prop, (∃ n, wX_setSources_114 post (nI p.1) (nI (xs_ov o v').1) (nI (xs_ov o v').2.1) (nI g.1) (nI k.1) (nI (xs_ov o v').2.2.1) (nI (xs_ov o v').2.2.2.1) (nI (xs_ov o v').2.2.2.2.1) (nI (xs_ov o v').2.2.2.2.2.1) n 0 (xs_A p.2.1) (xs_A p.2.2.1) (xs_A p.2.2.2.1) (xs_A p.2.2.2.2) (xs_A (xs_ov o v').2.2.2.2.2.2.1) (xs_A (xs_ov o v').2.2.2.2.2.2.2.1) (xs_A g.2.1) (xs_A g.2.2.1) (xs_A g.2.2.2.1) (xs_A g.2.2.2.2) (xs_A (xs_ov o v').2.2.2.2.2.2.2.2.1) (xs_A w.1) (xs_A w.2.1) (xs_A w.2.2.1) (xs_A w.2.2.2.1) (xs_A w.2.2.2.2.1) (xs_A l.1) (xs_A l.2) (xs_A w.2.2.2.2.2) (xs_A (xs_ov o v').2.2.2.2.2.2.2.2.2.1) (xs_A k.2.1) (xs_A k.2.2) (xs_A (xs_ov o v').2.2.2.2.2.2.2.2.2.2)) → wX_setSources_77 post x1 (nI p.1) (nI (xs_ov o v).1) (nI (xs_ov o v).2.1) (nI g.1) (nI k.1) (nI (xs_ov o v).2.2.1) (nI (xs_ov o v).2.2.2.1) (nI (xs_ov o v).2.2.2.2.1) (nI (xs_ov o v).2.2.2.2.2.1) (d + 1) (nI (s + 1)) (xs_A p.2.1) (xs_A p.2.2.1) (xs_A p.2.2.2.1) (xs_A p.2.2.2.2) (xs_A (xs_ov o (xs_u v (4 + s) c)).2.2.2.2.2.2.1) (xs_A (xs_ov o (xs_u v (4 + s) c)).2.2.2.2.2.2.2.1) (xs_A g.2.1) (xs_A g.2.2.1) (xs_A g.2.2.2.1) (xs_A g.2.2.2.2) (xs_A (xs_ov o (xs_u v (4 + s) c)).2.2.2.2.2.2.2.2.1) (xs_A w.1) (xs_A w.2.1) (xs_A w.2.2.1) (xs_A w.2.2.2.1) (xs_A w.2.2.2.2.1) (xs_A l.1) (xs_A l.2) (xs_A w.2.2.2.2.2) (xs_A (xs_ov o (xs_u v (4 + s) c)).2.2.2.2.2.2.2.2.2.1) (xs_A k.2.1) (xs_A k.2.2) (xs_A (xs_ov o (xs_u v (4 + s) c)).2.2.2.2.2.2.2.2.2.2) := by
      intro c hc hc2
      obtain ⟨v', a1, a2, a3⟩ := ih (s + 1) (by omega) (xs_u v (4 + s) c) (fun t ht => by
        by_cases e : t = s
        · rw [e, xs_us, hc]
        · rw [xs_un (by omega)]; exact h t (by omega))
      exact ⟨v', fun t ht => (a1 t ht).trans (xs_un (by omega)), a2, a3⟩
    cases hb : bt x1 s with
    | true =>
      obtain ⟨v', a1, a2, a3⟩ := go 1 (by rw [hb]; rfl) (by omega)
      exact ⟨v', a1, a2, fun post H => br_f (nI_ge (b := 6) (by omega) (by omega)) (br_t ((bt_1 x1 (by omega)).mpr hb) (And.intro hin (nm_r (xs_pb (x := 1) e4 (by omega) rfl (by omega)) (nm_r (nI_1 s) (a3 post H)))))⟩
    | false =>
      obtain ⟨v', a1, a2, a3⟩ := go 2 (by rw [hb]; rfl) (by omega)
      exact ⟨v', a1, a2, fun post H => br_f (nI_ge (b := 6) (by omega) (by omega)) (br_f (fun h => absurd (hb.symm.trans ((bt_1 x1 (by omega)).mp h)) (by decide)) (And.intro hin (nm_r (xs_pb (x := 2) e4 (by omega) rfl (by omega)) (nm_r (nI_1 s) (a3 post H)))))⟩
theorem xs_s114_loop (hG : gq_ok g) (hz : p.1 ≤ 16) (hR : ∀ j, j < p.1 → xs_Rg p g l j) (hon : ∀ j, j < 16 → o.2.2.2.2.2.2.2.2.2.1 j ≤ 1) : ∀ d j, j + d = p.1 → ∀ v : xs_f,
    (∀ i, i < j → p.2.1 i = 1 ∨ p.2.1 i = 4 → v (l.2 i) = o.2.2.2.2.2.2.2.2.2.1 i) → ∃ v', (∀ t, t < 10 → v' t = v t) ∧ (∀ t, t < g.1 → g.2.1 t ≠ 0 → v' t = v t) ∧
    (∀ i, i < p.1 → p.2.1 i = 1 ∨ p.2.1 i = 4 → v' (l.2 i) = o.2.2.2.2.2.2.2.2.2.1 i) ∧
    ∀ post : SX → Prop, post (xs (xs_ov o v') p l g w k) → wX_setSources_114 post (nI p.1) (nI (xs_ov o v).1) (nI (xs_ov o v).2.1) (nI g.1) (nI k.1) (nI (xs_ov o v).2.2.1) (nI (xs_ov o v).2.2.2.1) (nI (xs_ov o v).2.2.2.2.1) (nI (xs_ov o v).2.2.2.2.2.1) (d + 1) (nI j) (xs_A p.2.1) (xs_A p.2.2.1) (xs_A p.2.2.2.1) (xs_A p.2.2.2.2) (xs_A (xs_ov o v).2.2.2.2.2.2.1) (xs_A (xs_ov o v).2.2.2.2.2.2.2.1) (xs_A g.2.1) (xs_A g.2.2.1) (xs_A g.2.2.2.1) (xs_A g.2.2.2.2) (xs_A (xs_ov o v).2.2.2.2.2.2.2.2.1) (xs_A w.1) (xs_A w.2.1) (xs_A w.2.2.1) (xs_A w.2.2.2.1) (xs_A w.2.2.2.2.1) (xs_A l.1) (xs_A l.2) (xs_A w.2.2.2.2.2) (xs_A (xs_ov o v).2.2.2.2.2.2.2.2.2.1) (xs_A k.2.1) (xs_A k.2.2) (xs_A (xs_ov o v).2.2.2.2.2.2.2.2.2.2) := by
  have g8 := hG.2.1
  intro d
  induction d with
  | zero => intro j hj v h; exact ⟨v, fun _ _ => rfl, fun _ _ _ => rfl, fun i hi => h i (by omega), fun post H => br_t (nI_le (by omega) (by omega)) H⟩
  | succ d ih =>
    intro j hj v h
    obtain ⟨r1, r2, r3, r4⟩ := hR j (by omega)
    have h16 : vp_in (nI j) 16 := vp_in_nI (by omega) (by omega)
    have j31 : j < 2 ^ 31 := by omega
    have le : ¬ nI p.1 ≤ nI j := nI_ge (by omega) (by omega)
    by_cases hk : p.2.1 j = 1 ∨ p.2.1 j = 4
    · obtain ⟨q1, q2, q3⟩ := r3 hk
      have er : xs_A l.2 (nI j).toNatClampNeg = nI (l.2 j) := xs_at j31
      have rne : ¬ xs_A l.2 (nI j).toNatClampNeg = 0 := by rw [er]; exact nI_ne0 (by omega) (by omega)
      have rin : vp_in (xs_A l.2 (nI j).toNatClampNeg) 800 := by rw [er]; exact vp_in_nI (by omega) (by omega)
      have on1 := hon j (by omega)
      obtain ⟨v', a1, a2, a3, a4⟩ := ih (j + 1) (by omega) (xs_u v (l.2 j) (o.2.2.2.2.2.2.2.2.2.1 j)) (fun i hi hki => by
        by_cases e : l.2 i = l.2 j
        · have e2 : i = j := by
            have := (r3 hk).2.2
            have b := ((hR i (by omega)).2.2.1 hki).2.2
            rw [e] at b; omega
          rw [e2, xs_us]
        · rw [xs_un e]; exact h i (by
            by_cases e2 : i = j
            · rw [e2] at e; exact absurd rfl e
            · omega) hki)
      refine ⟨v', fun t ht => (a1 t ht).trans (xs_un (by omega)), fun t ht hg => (a2 t ht hg).trans (xs_un (by intro e; rw [e] at hg; exact hg q2)), a3, fun post H => br_f le (And.intro h16 (br_f rne (And.intro h16 (And.intro h16 ?_))))⟩
      have a4 := a4 post H
      by_cases e : o.2.2.2.2.2.2.2.2.2.1 j = 0
      · rw [e] at a4
        exact br_t (xs_at' j31 e) (And.intro rin (nm_r (xs_pb (x := 0) er (by omega) rfl (by omega)) (nm_r (nI_1 j) a4)))
      · have e1 : o.2.2.2.2.2.2.2.2.2.1 j = 1 := by omega
        rw [e1] at a4
        exact br_f (by rw [show xs_A (xs_ov o v).2.2.2.2.2.2.2.2.2.1 (nI j).toNatClampNeg = nI 1 from xs_at' j31 e1]; decide) (And.intro rin (nm_r (xs_pb (x := 1) er (by omega) rfl (by omega)) (nm_r (nI_1 j) a4)))
    · have e := r4 (by omega) (by omega)
      obtain ⟨v', a1, a2, a3, a4⟩ := ih (j + 1) (by omega) v (fun i hi hki => h i (by
        by_cases e2 : i = j
        · rw [e2] at hki; exact absurd hki hk
        · omega) hki)
      exact ⟨v', a1, a2, a3, fun post H => br_f le (And.intro h16 (br_t (xs_at' j31 e) (nm_r (nI_1 j) (a4 post H))))⟩
end
end
section
/-! ===== setSources and spread as wholes ===== -/
def sp_Res (g : xs_G) (bg : Bool) (on inb : Nat → Bool) (v : xs_f) : Prop := (∀ t, t < g.1 → v t ≤ 2) ∧ gq_full g (xs_src g bg on (fun s => rv_of (v (4 + s)))) (fun t => rv_of (v t)) ∧
  (∀ s, s < 6 → rv_of (v (4 + s)) = if inb s = true then rv_T else rv_of (v (g.2.2.2.1 (4 + s)))) ∧ ∀ Q, sp_Cl g bg on inb Q → ∀ t, t < g.1 → rv_le (rv_of (v t)) (Q t)
theorem rv_of_b {x : Nat} (h : x ≤ 1) : rv_of x = rv_b (decide (x = 1)) := by
  have e : x = 0 ∨ x = 1 := by omega
  rcases e with e | e <;> subst e <;> rfl
theorem rv_le_U (x : rv_V) : rv_le (rv_of 2) x := ⟨fun h => by simp [rv_of] at h, fun h => by simp [rv_of] at h⟩
section
variable {o : xs_O} {p : xs_P} {lo : xs_f} {l : xs_L} {g : xs_G} {w : xs_W} {k : xs_K} {x1 : Int32}
theorem xs_setSources (hG : gq_ok g) (hz : p.1 ≤ 16) (hR : ∀ j, j < p.1 → xs_Rg p g l j) (hS : ∀ t, 10 ≤ t → t < g.1 → g.2.1 t = 0 → ∃ j, j < p.1 ∧ (p.2.1 j = 1 ∨ p.2.1 j = 4) ∧ l.2 j = t)
    (hon : ∀ j, j < 16 → o.2.2.2.2.2.2.2.2.2.1 j ≤ 1) (hb : o.2.2.1 ≤ 1) : ∃ v, sp_I g (decide (o.2.2.1 = 1)) (fun j => decide (o.2.2.2.2.2.2.2.2.2.1 j = 1)) (bt x1) v ∧ (∀ t, t < 4 → v t ≠ 2) ∧
    ∀ post : SX → Prop, post (xs (xs_ov o v) p l g w k) → wpX_setSources post (xs o p l g w k) x1 := by
  have g10 := hG.1
  have g8 := hG.2.1
  obtain ⟨v2, A2, K2⟩ := xs_s2_loop (o := o) (p := p) (l := l) (w := w) (k := k) (x1 := x1) g8 g.1 0 (by omega) o.2.2.2.2.2.2.2.2.1 (fun t ht => by omega)
  have c2 : ∃ c2 c3, c2 ≤ 1 ∧ c3 ≤ 1 ∧ rv_of c2 = rv_b (!decide (o.2.2.1 = 1)) ∧ rv_of c3 = rv_b (decide (o.2.2.1 = 1)) ∧ ((o.2.2.1 = 0 ∧ c2 = 1 ∧ c3 = 0) ∨ (o.2.2.1 = 1 ∧ c2 = 0 ∧ c3 = 1)) := by
    by_cases e : o.2.2.1 = 0
    · exact ⟨1, 0, by omega, by omega, by rw [e]; rfl, by rw [e]; rfl, Or.inl ⟨e, rfl, rfl⟩⟩
    · have e1 : o.2.2.1 = 1 := by omega
      exact ⟨0, 1, by omega, by omega, by rw [e1]; rfl, by rw [e1]; rfl, Or.inr ⟨e1, rfl, rfl⟩⟩
  obtain ⟨c2, c3, h2, h3, r2, r3, hc⟩ := c2
  obtain ⟨v4, A4, B4, K4⟩ := xs_s77_loop (o := o) (p := p) (l := l) (w := w) (k := k) (x1 := x1) hG 6 0 rfl (xs_u (xs_u (xs_u (xs_u v2 0 0) 1 1) 2 c2) 3 c3) (fun t ht => by omega)
  obtain ⟨v5, A5, B5, C5, K5⟩ := xs_s114_loop (o := o) (w := w) (k := k) hG hz hR hon p.1 0 (by omega) v4 (fun t ht => by omega)
  have e0 : v5 0 = 0 := by rw [A5 0 (by omega), A4 0 (by omega), xs_un (by omega), xs_un (by omega), xs_un (by omega), xs_us]
  have e1 : v5 1 = 1 := by rw [A5 1 (by omega), A4 1 (by omega), xs_un (by omega), xs_un (by omega), xs_us]
  have e2 : v5 2 = c2 := by rw [A5 2 (by omega), A4 2 (by omega), xs_un (by omega), xs_us]
  have e3 : v5 3 = c3 := by rw [A5 3 (by omega), A4 3 (by omega), xs_us]
  have es : ∀ s, s < 6 → v5 (4 + s) = if bt x1 s = true then 1 else 2 := fun s hs => (A5 _ (by omega)).trans (B4 s hs)
  have eg : ∀ t, 10 ≤ t → t < g.1 → g.2.1 t ≠ 0 → v5 t = 2 := fun t h1 h2 h3 => by rw [B5 t h2 h3, A4 t (by omega), xs_un (by omega), xs_un (by omega), xs_un (by omega), xs_un (by omega)]; exact A2 t h2
  have er : ∀ t, 10 ≤ t → t < g.1 → g.2.1 t = 0 → v5 t ≤ 1 ∧ rv_of (v5 t) = rv_b (decide (o.2.2.2.2.2.2.2.2.2.1 (g.2.2.1 t) = 1)) := by
    intro t h1 h2 h3
    obtain ⟨j, j1, j2, j3⟩ := hS t h1 h2 h3
    have a := C5 j j1 j2
    have b := ((hR j j1).2.2.1 j2).2.2
    rw [j3] at a b
    have c := hon j (by omega)
    rw [a, b]
    exact ⟨c, rv_of_b c⟩
  have k4 : ∀ t, t < 4 → v5 t ≤ 1 := by
    intro t ht
    have c : t = 0 ∨ t = 1 ∨ t = 2 ∨ t = 3 := by omega
    rcases c with c | c | c | c <;> subst c <;> omega
  have s4 : ∀ S t, t < 4 → rv_of (v5 t) = xs_src g (decide (o.2.2.1 = 1)) (fun j => decide (o.2.2.2.2.2.2.2.2.2.1 j = 1)) S t := by
    intro S t ht
    have c : t = 0 ∨ t = 1 ∨ t = 2 ∨ t = 3 := by omega
    rcases c with c | c | c | c <;> subst c
    · rw [e0]; rfl
    · rw [e1]; rfl
    · rw [e2, r2]; rfl
    · rw [e3, r3]; rfl
  refine ⟨v5, ⟨fun t ht => ?_, s4 _, fun t h1 h2 h3 => (er t h1 h2 h3).2, fun s hs hb => ?_, fun t h4 ht hne hs hg => ?_, fun Q hQ t ht => ?_⟩, fun t ht => by have := k4 t ht; omega, fun post H => ?_⟩
  · by_cases h4 : t < 4
    · have := k4 t h4; omega
    by_cases h10 : t < 10
    · have := es (t - 4) (by omega)
      rw [show 4 + (t - 4) = t by omega] at this
      rw [this]; split <;> omega
    · by_cases hk : g.2.1 t = 0
      · have := (er t (by omega) ht hk).1; omega
      · rw [eg t (by omega) ht hk]; omega
  · rw [es s hs, hb]; rfl
  · by_cases h10 : t < 10
    · have a := es (t - 4) (by omega)
      rw [show 4 + (t - 4) = t by omega, hs h10] at a
      exact absurd a hne
    · exact absurd (eg t (by omega) ht (hg (by omega))) hne
  · obtain ⟨S, F, q1, q2⟩ := hQ
    by_cases h4 : t < 4
    · rw [gq_full_s F ht (gq_z10 hG (by omega)), s4 S t h4]; exact rv_le_rf _
    by_cases h10 : t < 10
    · have qj : Q t = S (t - 4) := by
        rw [gq_full_s F ht (gq_z10 hG h10)]
        unfold xs_src
        rw [if_neg (by omega), if_neg (by omega), if_neg (by omega), if_neg (by omega), if_pos h10]
      have a := es (t - 4) (by omega)
      rw [show 4 + (t - 4) = t by omega] at a
      cases hb : bt x1 (t - 4) with
      | true => rw [a, hb, if_pos rfl, qj, q1 _ (by omega) hb]; exact rv_le_rf _
      | false => rw [a, hb, if_neg Bool.false_ne_true]; exact rv_le_U _
    · by_cases hk : g.2.1 t = 0
      · rw [(er t (by omega) ht hk).2, gq_full_s F ht hk]
        unfold xs_src
        rw [if_neg (by omega), if_neg (by omega), if_neg (by omega), if_neg (by omega), if_neg h10]; exact rv_le_rf _
      · rw [eg t (by omega) ht hk]; exact rv_le_U _
  · refine ⟨1 + g.1, K2 post (br_t (nI_le (Nat.le_refl _) (by omega)) (nm_r (xs_pk (x := 0) rfl (by omega)) (nm_r (xs_pk (x := 1) rfl (by omega)) ?_)))⟩
    have L4 := K4 post ⟨p.1 + 1, K5 post H⟩
    have i2 : vp_in (2 : Int32) 800 := vp_in_nI (n := 2) (by omega) (by omega)
    rcases hc with ⟨a, b, c⟩ | ⟨a, b, c⟩
    · subst b c
      exact br_t (by show nI o.2.2.1 = 0; rw [a]; rfl) (And.intro i2 (nm_r (xs_pb (k := 2) (x := 1) rfl (by omega) rfl (by omega)) (br_t (by show nI o.2.2.1 = 0; rw [a]; rfl) (nm_r (xs_pk' (x := 0) rfl (by omega)) ⟨7, L4⟩))))
    · subst b c
      have nz : ¬ nI o.2.2.1 = 0 := by rw [a]; decide
      exact br_f nz (And.intro i2 (nm_r (xs_pb (k := 2) (x := 0) rfl (by omega) rfl (by omega)) (br_f nz (nm_r (xs_pk' (x := 1) rfl (by omega)) ⟨7, L4⟩))))
theorem xs_spread (hG : gq_ok g) (hz : p.1 ≤ 16) (hR : ∀ j, j < p.1 → xs_Rg p g l j) (hS : ∀ t, 10 ≤ t → t < g.1 → g.2.1 t = 0 → ∃ j, j < p.1 ∧ (p.2.1 j = 1 ∨ p.2.1 j = 4) ∧ l.2 j = t)
    (hon : ∀ j, j < 16 → o.2.2.2.2.2.2.2.2.2.1 j ≤ 1) (hb : o.2.2.1 ≤ 1) : ∃ v, sp_Res g (decide (o.2.2.1 = 1)) (fun j => decide (o.2.2.2.2.2.2.2.2.2.1 j = 1)) (bt x1) v ∧
    ∀ post : SX → Prop, post (xs (xs_ov o v) p l g w k) → wpX_spread post (xs o p l g w k) x1 := by
  have g10 := hG.1
  have g8 := hG.2.1
  obtain ⟨v, I, N, K⟩ := xs_setSources (o := o) (w := w) (k := k) (x1 := x1) hG hz hR hS hon hb
  have U := sp_U_4 N (g.1 - 4)
  rw [show 4 + (g.1 - 4) = g.1 by omega] at U
  obtain ⟨v', I', F', K'⟩ := xs_rounds (o := o) (p := p) (l := l) (w := w) (k := k) hG _ v 0 I (by omega) (Nat.le_refl _)
  obtain ⟨f1, f2⟩ := sp_full hG I' F'
  exact ⟨v', ⟨I'.1, f1, f2, I'.2.2.2.2.2⟩, fun post H => K _ ⟨_, K' post H⟩⟩
end
end
section
/-! ===== Y's state by naturals; must and can as ternary values ===== -/
def ys_m (n : Nat) : Int32 := if n = 5 then (-1) else nI n
def ys_E (f : xs_f) : Nat → Int32 := fun i => ys_m (f i)
/-- size, sorts, numbers, firsts, seconds -/
abbrev ys_P : Type := Nat × xs_f × (Nat → Int32) × xs_f × xs_f
/-- made, depth, begun, over, ticks, any, lastPresent, lastAbsent, stack, around, on -/
abbrev ys_O : Type := Nat × Nat × Nat × Nat × Nat × Nat × Nat × Nat × xs_f × xs_f × xs_f
/-- mustEmit, canEmit, mustEnd (5: none), canEnd -/
abbrev ys_J : Type := xs_f × xs_f × xs_f × xs_f
/-- done, frozen, killed, after -/
abbrev ys_D : Type := xs_f × xs_f × xs_f × xs_f
def ys (p : ys_P) (o : ys_O) (s : Nat × Nat) (l : xs_f) (j : ys_J) (d : ys_D) : SY := ((nI o.1), (nI o.2.1), (nI p.1), (nI o.2.2.1), (nI o.2.2.2.1), (nI o.2.2.2.2.1), (nI s.1), (nI s.2), (nI o.2.2.2.2.2.1), (nI o.2.2.2.2.2.2.1), (nI o.2.2.2.2.2.2.2.1), (xs_A p.2.1), p.2.2.1, (xs_A p.2.2.2.1), (xs_A p.2.2.2.2), (xs_A o.2.2.2.2.2.2.2.2.1), (xs_A o.2.2.2.2.2.2.2.2.2.1), (xs_A o.2.2.2.2.2.2.2.2.2.2), (xs_A l), (xs_A j.1), (xs_A j.2.1), (ys_E j.2.2.1), (xs_A j.2.2.2), (xs_A d.1), (xs_A d.2.1), (xs_A d.2.2.1), (xs_A d.2.2.2))
theorem ys_updE (f : xs_f) (k x : Nat) : upd (ys_E f) k (ys_m x) = ys_E (xs_u f k x) := by
  funext j; unfold upd ys_E xs_u; split <;> rfl
theorem ys_atE {f : xs_f} {i : Nat} (h : i < 2 ^ 31) : ys_E f (nI i).toNatClampNeg = ys_m (f i) := by rw [nI_clamp h]; rfl
/-- an int is stored -/
theorem ys_pi {f : xs_f} {k x : Nat} {i y : Int32} (hi : i = nI k) (hk : k < 2 ^ 31) (hy : y = nI x) : upd (xs_A f) i.toNatClampNeg y = xs_A (xs_u f k x) := by
  rw [hi, hy, nI_clamp hk, xs_upd]
theorem ys_pE {f : xs_f} {k x : Nat} {i y : Int32} (hi : i = nI k) (hk : k < 2 ^ 31) (hy : y = ys_m x) : upd (ys_E f) i.toNatClampNeg y = ys_E (xs_u f k x) := by
  rw [hi, hy, nI_clamp hk, ys_updE]
def ys_put (j : ys_J) (t me ce m cn : Nat) : ys_J := (xs_u j.1 t me, xs_u j.2.1 t ce, xs_u j.2.2.1 t m, xs_u j.2.2.2 t cn)
/-- codes and signals of what is at t -/
def yc (j : ys_J) (t k : Nat) : rv_V := (decide (j.2.2.1 t = k), !(j.2.2.2 t).testBit k)
def ye (j : ys_J) (t s : Nat) : rv_V := ((j.1 t).testBit s, !(j.2.1 t).testBit s)
def ys_B (j : ys_J) (t : Nat) : Prop := j.1 t < 64 ∧ j.2.1 t < 64 ∧ j.2.2.1 t ≤ 5 ∧ j.2.2.2 t < 32
def ys_out (me ce m cn : Nat) (c e : Nat → rv_V) : Prop := me < 64 ∧ ce < 64 ∧ m ≤ 5 ∧ cn < 32 ∧ (∀ k, k < 5 → ((decide (m = k), !cn.testBit k) : rv_V) = c k) ∧ (∀ s, s < 6 → ((me.testBit s, !ce.testBit s) : rv_V) = e s)
/-! bits -/
theorem nx_or (a b : Nat) : nI a ||| nI b = nI (a ||| b) := by
  apply Int32.toBitVec_inj.1
  show BitVec.ofNat 32 a ||| BitVec.ofNat 32 b = BitVec.ofNat 32 (a ||| b)
  apply BitVec.eq_of_getLsbD_eq
  intro i hi
  simp [hi]
theorem nx_and (a b : Nat) : nI a &&& nI b = nI (a &&& b) := by
  apply Int32.toBitVec_inj.1
  show BitVec.ofNat 32 a &&& BitVec.ofNat 32 b = BitVec.ofNat 32 (a &&& b)
  apply BitVec.eq_of_getLsbD_eq
  intro i hi
  simp [hi]
theorem nx_bt (a : Nat) {i : Nat} (hi : i < 32) : bt (nI a) i = a.testBit i := by
  unfold bt
  show (BitVec.ofNat 32 a).getLsbD i = _
  rw [BitVec.getLsbD_ofNat, decide_eq_true hi, Bool.true_and]
theorem nx_b1 (a : Nat) {s : Nat} (hs : s < 31) : ((nI a >>> (nI s &&& 31)) &&& 1) = 1 ↔ a.testBit s = true := by
  rw [bt_1 _ hs, nx_bt _ (by omega)]
theorem nx_orlt {a b n : Nat} (ha : a < 2 ^ n) (hb : b < 2 ^ n) : a ||| b < 2 ^ n := Nat.or_lt_two_pow ha hb
theorem yt_m0 : ∀ m, m < 6 → (ys_m m = 0 ↔ m = 0) := by decide +kernel
theorem yt_c1 : ∀ c, c < 32 → ((nI c &&& 1) = 1 ↔ c.testBit 0 = true) := by decide +kernel
theorem yt_c4 : ∀ c, c < 32 → ((nI c &&& 4) = 0 ↔ c.testBit 2 = false) := by decide +kernel
theorem yt_m2 : ∀ c, c < 32 → (nI c &&& (-2)) = nI (c &&& 30) := by decide +kernel
theorem yt_tr : ∀ c, c < 32 → ((nI c &&& (3 : Int32)) ||| ((nI c >>> ((1 : Int32) &&& 31)) &&& (12 : Int32))) = nI ((c &&& 3) ||| ((c >>> 1) &&& 12)) := by decide +kernel
theorem yt_e2 : ∀ m, m < 6 → (ys_m m = 2 ↔ m = 2) := by decide +kernel
theorem yt_l2 : ∀ m, m < 6 → (ys_m m ≤ 2 ↔ (m ≤ 2 ∨ m = 5)) := by decide +kernel
theorem yt_p1 : ∀ m, m < 6 → 2 < m → m ≠ 5 → ys_m m - 1 = ys_m (m - 1) := by decide +kernel
theorem yt_sh1 : ∀ n, n < 6 → (1 : Int32) <<< (nI n &&& 31) = nI (1 <<< n) := by decide +kernel
theorem yt_sh4 : ∀ n, n < 3 → (4 : Int32) <<< (nI n &&& 31) = nI (4 <<< n) := by decide +kernel
/-! tables: a loop, a trap -/
theorem yt_loop : ∀ m, m < 6 → ∀ c, c < 32 → ∀ k, k < 5 → ((decide ((if m = 0 then 1 else m) = k), !(if c.testBit 0 = true then (c &&& 30) ||| 2 else c).testBit k) : rv_V) = fa_loop (fun k => (decide (m = k), !c.testBit k)) k := by decide +kernel
theorem yt_trap : ∀ m, m < 6 → ∀ c, c < 32 → ∀ k, k < 5 → ((decide ((if m = 2 then 0 else if m ≤ 2 ∨ m = 5 then m else m - 1) = k), !(if c.testBit 2 = false then (c &&& 3) ||| ((c >>> 1) &&& 12) else ((c &&& 3) ||| ((c >>> 1) &&& 12)) ||| 1).testBit k) : rv_V) = fa_trap (fun k => (decide (m = k), !c.testBit k)) k := by decide +kernel
theorem yt_lb : ∀ c, c < 32 → (if c.testBit 0 = true then (c &&& 30) ||| 2 else c) < 32 := by decide +kernel
theorem yt_tb : ∀ c, c < 32 → (if c.testBit 2 = false then (c &&& 3) ||| ((c >>> 1) &&& 12) else ((c &&& 3) ||| ((c >>> 1) &&& 12)) ||| 1) < 32 := by decide +kernel
theorem yt_seq0 : ∀ c, c < 32 → ∀ d, d < 32 → ∀ k, k < 5 → (!(if c.testBit 0 = true then (c &&& 30) ||| d else c).testBit k) = ((if k = 0 then true else !c.testBit k) && (!c.testBit 0 || !d.testBit k)) := by decide +kernel
theorem yt_seqb : ∀ c, c < 32 → ∀ d, d < 32 → (if c.testBit 0 = true then (c &&& 30) ||| d else c) < 32 := by decide +kernel
theorem yt_seq1 : ∀ m, m < 6 → ∀ n, n < 6 → ∀ k, k < 5 → decide ((if m = 0 then n else m) = k) = ((if k = 0 then false else decide (m = k)) || (decide (m = 0) && decide (n = k))) := by decide +kernel
theorem fa_seq_1 (c d : Nat → rv_V) (k : Nat) : (fa_seq c d k).1 = ((if k = 0 then false else (c k).1) || ((c 0).1 && (d k).1)) := by
  unfold fa_seq rv_or rv_and; split <;> rfl
theorem fa_seq_2 (c d : Nat → rv_V) (k : Nat) : (fa_seq c d k).2 = ((if k = 0 then true else (c k).2) && ((c 0).2 || (d k).2)) := by
  unfold fa_seq rv_or rv_and; split <;> rfl
end
section
/-! ===== set, copy, again, trapped, follow, either, suspended ===== -/
section
variable {p : ys_P} {o : ys_O} {s : Nat × Nat} {l : xs_f} {j : ys_J} {d : ys_D}
theorem ys_set {post : SY → Prop} {t me ce m cn : Nat} {x a b c e : Int32} (hx : x = nI t) (ht : t < 32) (ha : a = nI me) (hb : b = nI ce) (hc : c = ys_m m) (he : e = nI cn)
    (h : post (ys p o s l (ys_put j t me ce m cn) d)) : wpY_set post (ys p o s l j d) x a b c e := by
  have hin : vp_in x 32 := by rw [hx]; exact vp_in_nI ht (by omega)
  have t31 : t < 2 ^ 31 := by omega
  exact And.intro hin (nm_r (ys_pi hx t31 ha) (And.intro hin (nm_r (ys_pi hx t31 hb) (And.intro hin (nm_r (ys_pE hx t31 hc) (And.intro hin (nm_r (ys_pi hx t31 he) h)))))))
/-- a part's own outcome -/
theorem ys_out_self {t : Nat} (B : ys_B j t) : ys_out (j.1 t) (j.2.1 t) (j.2.2.1 t) (j.2.2.2 t) (yc j t) (ye j t) := ⟨B.1, B.2.1, B.2.2.1, B.2.2.2, fun _ _ => rfl, fun _ _ => rfl⟩
theorem ys_copy {a t : Nat} (ha : a < 32) (ht : t < 32) (post : SY → Prop) (x y : Int32) (hx : x = nI a) (hy : y = nI t) (h : post (ys p o s l (ys_put j a (j.1 t) (j.2.1 t) (j.2.2.1 t) (j.2.2.2 t)) d)) : wpY_copy post (ys p o s l j d) x y := by
  subst hy
  have hin : vp_in (nI t) 32 := vp_in_nI ht (by omega)
  have t31 : t < 2 ^ 31 := by omega
  exact And.intro hin (And.intro hin (And.intro hin (And.intro hin (ys_set hx ha (xs_at t31) (xs_at t31) (ys_atE t31) (xs_at t31) h))))
theorem ys_again {a t : Nat} (ha : a < 32) (ht : t < 32) (B : ys_B j t) : ∃ me ce m cn, ys_out me ce m cn (fa_loop (yc j t)) (ye j t) ∧
    ∀ (post : SY → Prop) (x y : Int32), x = nI a → y = nI t → post (ys p o s l (ys_put j a me ce m cn) d) → wpY_again post (ys p o s l j d) x y := by
  obtain ⟨b1, b2, b3, b4⟩ := B
  have hin : vp_in (nI t) 32 := vp_in_nI ht (by omega)
  have t31 : t < 2 ^ 31 := by omega
  refine ⟨j.1 t, j.2.1 t, if j.2.2.1 t = 0 then 1 else j.2.2.1 t, if (j.2.2.2 t).testBit 0 = true then (j.2.2.2 t &&& 30) ||| 2 else j.2.2.2 t, ⟨b1, b2, by split <;> omega, yt_lb _ b4, fun k hk => yt_loop _ (by omega) _ b4 k hk, fun _ _ => rfl⟩, fun post x y hx hy h => ?_⟩
  subst hy
  have fin : ∀ z, z = ys_m (if j.2.2.1 t = 0 then 1 else j.2.2.1 t) → wY_again_40 post (nI (j.2.2.2 t)) z (xs_A j.2.1 (nI t).toNatClampNeg) (xs_A j.1 (nI t).toNatClampNeg) x (nI o.1) (nI o.2.1) (nI p.1) (nI o.2.2.1) (nI o.2.2.2.1) (nI o.2.2.2.2.1) (nI s.1) (nI s.2) (nI o.2.2.2.2.2.1) (nI o.2.2.2.2.2.2.1) (nI o.2.2.2.2.2.2.2.1) (xs_A p.2.1) p.2.2.1 (xs_A p.2.2.2.1) (xs_A p.2.2.2.2) (xs_A o.2.2.2.2.2.2.2.2.1) (xs_A o.2.2.2.2.2.2.2.2.2.1) (xs_A o.2.2.2.2.2.2.2.2.2.2) (xs_A l) (xs_A j.1) (xs_A j.2.1) (ys_E j.2.2.1) (xs_A j.2.2.2) (xs_A d.1) (xs_A d.2.1) (xs_A d.2.2.1) (xs_A d.2.2.2) := by
    intro z hz
    by_cases e : (j.2.2.2 t).testBit 0 = true
    · rw [if_pos e] at h
      exact br_t ((yt_c1 _ b4).mpr e) (ys_set hx ha (xs_at t31) (xs_at t31) hz (by rw [yt_m2 _ b4]; exact nx_or _ 2) h)
    · rw [if_neg e] at h
      exact br_f (fun q => e ((yt_c1 _ b4).mp q)) (ys_set hx ha (xs_at t31) (xs_at t31) hz rfl h)
  refine And.intro hin (nm_r (e' := nI (j.2.2.2 t)) (xs_at t31) (And.intro hin (And.intro hin (And.intro hin ?_))))
  by_cases e : j.2.2.1 t = 0
  · exact br_t (by rw [show ys_E j.2.2.1 (nI t).toNatClampNeg = _ from ys_atE t31, e]; rfl) (fin _ (by rw [if_pos e]; rfl))
  · exact br_f (by rw [show ys_E j.2.2.1 (nI t).toNatClampNeg = _ from ys_atE t31]; exact fun q => e ((yt_m0 _ (by omega)).mp q)) (And.intro hin (fin _ (by rw [if_neg e]; exact ys_atE t31)))
theorem ys_trapped {a t : Nat} (ha : a < 32) (ht : t < 32) (B : ys_B j t) : ∃ me ce m cn, ys_out me ce m cn (fa_trap (yc j t)) (ye j t) ∧
    ∀ (post : SY → Prop) (x y : Int32), x = nI a → y = nI t → post (ys p o s l (ys_put j a me ce m cn) d) → wpY_trapped post (ys p o s l j d) x y := by
  obtain ⟨b1, b2, b3, b4⟩ := B
  have hin : vp_in (nI t) 32 := vp_in_nI ht (by omega)
  have t31 : t < 2 ^ 31 := by omega
  refine ⟨j.1 t, j.2.1 t, if j.2.2.1 t = 2 then 0 else if j.2.2.1 t ≤ 2 ∨ j.2.2.1 t = 5 then j.2.2.1 t else j.2.2.1 t - 1, if (j.2.2.2 t).testBit 2 = false then (j.2.2.2 t &&& 3) ||| ((j.2.2.2 t >>> 1) &&& 12) else ((j.2.2.2 t &&& 3) ||| ((j.2.2.2 t >>> 1) &&& 12)) ||| 1,
    ⟨b1, b2, by split <;> (try split) <;> omega, yt_tb _ b4, fun k hk => yt_trap _ (by omega) _ b4 k hk, fun _ _ => rfl⟩, fun post x y hx hy h => ?_⟩
  subst hy
  have fin : ∀ z, z = nI (if (j.2.2.2 t).testBit 2 = false then (j.2.2.2 t &&& 3) ||| ((j.2.2.2 t >>> 1) &&& 12) else ((j.2.2.2 t &&& 3) ||| ((j.2.2.2 t >>> 1) &&& 12)) ||| 1) → wY_trapped_42 post x (nI t) (ys_m (j.2.2.1 t)) z (nI o.1) (nI o.2.1) (nI p.1) (nI o.2.2.1) (nI o.2.2.2.1) (nI o.2.2.2.2.1) (nI s.1) (nI s.2) (nI o.2.2.2.2.2.1) (nI o.2.2.2.2.2.2.1) (nI o.2.2.2.2.2.2.2.1) (xs_A p.2.1) p.2.2.1 (xs_A p.2.2.2.1) (xs_A p.2.2.2.2) (xs_A o.2.2.2.2.2.2.2.2.1) (xs_A o.2.2.2.2.2.2.2.2.2.1) (xs_A o.2.2.2.2.2.2.2.2.2.2) (xs_A l) (xs_A j.1) (xs_A j.2.1) (ys_E j.2.2.1) (xs_A j.2.2.2) (xs_A d.1) (xs_A d.2.1) (xs_A d.2.2.1) (xs_A d.2.2.2) := by
    intro z hz
    refine And.intro hin (And.intro hin ?_)
    by_cases e2 : j.2.2.1 t = 2
    · rw [if_pos e2] at h
      exact br_t ((yt_e2 _ (by omega)).mpr e2) (ys_set hx ha (xs_at t31) (xs_at t31) rfl hz h)
    rw [if_neg e2] at h
    by_cases e3 : j.2.2.1 t ≤ 2 ∨ j.2.2.1 t = 5
    · rw [if_pos e3] at h
      exact br_f (fun q => e2 ((yt_e2 _ (by omega)).mp q)) (br_t ((yt_l2 _ (by omega)).mpr e3) (ys_set hx ha (xs_at t31) (xs_at t31) rfl hz h))
    · rw [if_neg e3] at h
      exact br_f (fun q => e2 ((yt_e2 _ (by omega)).mp q)) (br_f (fun q => e3 ((yt_l2 _ (by omega)).mp q)) (ys_set hx ha (xs_at t31) (xs_at t31) (yt_p1 _ (by omega) (by omega) (by omega)) hz h))
  refine And.intro hin (nm_r (e' := ys_m (j.2.2.1 t)) (ys_atE t31) (And.intro hin (nm_r (e' := nI (j.2.2.2 t)) (xs_at t31) (nm_r (yt_tr _ b4) ?_))))
  by_cases e : (j.2.2.2 t).testBit 2 = false
  · exact br_t ((yt_c4 _ b4).mpr e) (fin _ (by rw [if_pos e]))
  · exact br_f (fun q => e ((yt_c4 _ b4).mp q)) (nm_r (nx_or _ 1) (fin _ (by rw [if_neg e])))
theorem ys_follow {a t u : Nat} (ha : a < 32) (ht : t < 32) (hu : u < 32) (B : ys_B j t) (C : ys_B j u) : ∃ me ce m cn, ys_out me ce m cn (fa_seq (yc j t) (yc j u)) (fun s => rv_or (ye j t s) (rv_and (yc j t 0) (ye j u s))) ∧
    ∀ (post : SY → Prop) (x y z : Int32), x = nI a → y = nI t → z = nI u → post (ys p o s l (ys_put j a me ce m cn) d) → wpY_follow post (ys p o s l j d) x y z := by
  obtain ⟨b1, b2, b3, b4⟩ := B
  obtain ⟨c1, c2, c3, c4⟩ := C
  have hin : vp_in (nI t) 32 := vp_in_nI ht (by omega)
  have uin : vp_in (nI u) 32 := vp_in_nI hu (by omega)
  have t31 : t < 2 ^ 31 := by omega
  have u31 : u < 2 ^ 31 := by omega
  have o1 := nx_orlt (n := 6) b1 c1
  have o2 := nx_orlt (n := 6) b2 c2
  refine ⟨if j.2.2.1 t = 0 then j.1 t ||| j.1 u else j.1 t, if (j.2.2.2 t).testBit 0 = true then j.2.1 t ||| j.2.1 u else j.2.1 t, if j.2.2.1 t = 0 then j.2.2.1 u else j.2.2.1 t, if (j.2.2.2 t).testBit 0 = true then (j.2.2.2 t &&& 30) ||| j.2.2.2 u else j.2.2.2 t,
    ⟨by split <;> omega, by split <;> omega, by split <;> omega, yt_seqb _ b4 _ c4, fun k hk => ?_, fun q hq => ?_⟩, fun post x y z hx hy hz h => ?_⟩
  · refine Prod.ext ?_ ?_
    · rw [fa_seq_1]; exact yt_seq1 _ (by omega) _ (by omega) k hk
    · rw [fa_seq_2]; exact yt_seq0 _ b4 _ c4 k hk
  · refine Prod.ext ?_ ?_
    · show (if j.2.2.1 t = 0 then j.1 t ||| j.1 u else j.1 t).testBit q = ((j.1 t).testBit q || (decide (j.2.2.1 t = 0) && (j.1 u).testBit q))
      by_cases e : j.2.2.1 t = 0
      · rw [if_pos e, decide_eq_true e, Nat.testBit_or, Bool.true_and]
      · rw [if_neg e, decide_eq_false e, Bool.false_and, Bool.or_false]
    · show (!(if (j.2.2.2 t).testBit 0 = true then j.2.1 t ||| j.2.1 u else j.2.1 t).testBit q) = (!(j.2.1 t).testBit q && (!(j.2.2.2 t).testBit 0 || !(j.2.1 u).testBit q))
      by_cases e : (j.2.2.2 t).testBit 0 = true
      · rw [if_pos e, e, Nat.testBit_or, Bool.not_or]; rfl
      · rw [if_neg e, Bool.eq_false_iff.mpr e]; simp
  · subst hy hz
    have fin : ∀ z1 z2, z1 = nI (if j.2.2.1 t = 0 then j.1 t ||| j.1 u else j.1 t) → z2 = nI (if (j.2.2.2 t).testBit 0 = true then j.2.1 t ||| j.2.1 u else j.2.1 t) → ∀ f1 f2 : Nat, (f1 = if j.2.2.1 t = 0 then 1 else 0) → (f2 = if (j.2.2.2 t).testBit 0 = true then 1 else 0) →
        wY_follow_91 post x (nI t) (nI u) (nI f1) (nI f2) z1 z2 (nI o.1) (nI o.2.1) (nI p.1) (nI o.2.2.1) (nI o.2.2.2.1) (nI o.2.2.2.2.1) (nI s.1) (nI s.2) (nI o.2.2.2.2.2.1) (nI o.2.2.2.2.2.2.1) (nI o.2.2.2.2.2.2.2.1) (xs_A p.2.1) p.2.2.1 (xs_A p.2.2.2.1) (xs_A p.2.2.2.2) (xs_A o.2.2.2.2.2.2.2.2.1) (xs_A o.2.2.2.2.2.2.2.2.2.1) (xs_A o.2.2.2.2.2.2.2.2.2.2) (xs_A l) (xs_A j.1) (xs_A j.2.1) (ys_E j.2.2.1) (xs_A j.2.2.2) (xs_A d.1) (xs_A d.2.1) (xs_A d.2.2.1) (xs_A d.2.2.2) := by
      intro z1 z2 h1 h2 f1 f2 hf1 hf2
      have fin2 : ∀ z3, z3 = ys_m (if j.2.2.1 t = 0 then j.2.2.1 u else j.2.2.1 t) → wY_follow_119 post (nI t) (nI u) (nI f2) z3 z2 z1 x (nI o.1) (nI o.2.1) (nI p.1) (nI o.2.2.1) (nI o.2.2.2.1) (nI o.2.2.2.2.1) (nI s.1) (nI s.2) (nI o.2.2.2.2.2.1) (nI o.2.2.2.2.2.2.1) (nI o.2.2.2.2.2.2.2.1) (xs_A p.2.1) p.2.2.1 (xs_A p.2.2.2.1) (xs_A p.2.2.2.2) (xs_A o.2.2.2.2.2.2.2.2.1) (xs_A o.2.2.2.2.2.2.2.2.2.1) (xs_A o.2.2.2.2.2.2.2.2.2.2) (xs_A l) (xs_A j.1) (xs_A j.2.1) (ys_E j.2.2.1) (xs_A j.2.2.2) (xs_A d.1) (xs_A d.2.1) (xs_A d.2.2.1) (xs_A d.2.2.2) := by
        intro z3 h3
        by_cases e : (j.2.2.2 t).testBit 0 = true
        · rw [if_pos e] at hf2
          subst hf2
          refine br_f (by decide) (And.intro hin (And.intro uin (ys_set hx ha h1 h2 h3 ?_ h)))
          rw [if_pos e, show xs_A j.2.2.2 (nI t).toNatClampNeg = _ from xs_at t31, show xs_A j.2.2.2 (nI u).toNatClampNeg = _ from xs_at u31, yt_m2 _ b4]; exact nx_or _ _
        · rw [if_neg e] at hf2
          subst hf2
          exact br_t rfl (And.intro hin (ys_set hx ha h1 h2 h3 (by rw [if_neg e]; exact xs_at t31) h))
      by_cases e : j.2.2.1 t = 0
      · rw [if_pos e] at hf1
        subst hf1
        exact br_f (by decide) (And.intro uin (fin2 _ (by rw [if_pos e]; exact ys_atE u31)))
      · rw [if_neg e] at hf1
        subst hf1
        exact br_t rfl (And.intro hin (fin2 _ (by rw [if_neg e]; exact ys_atE t31)))
    have st62 : ∀ z1, z1 = nI (if j.2.2.1 t = 0 then j.1 t ||| j.1 u else j.1 t) → ∀ f1 f2 : Nat, (f1 = if j.2.2.1 t = 0 then 1 else 0) → (f2 = if (j.2.2.2 t).testBit 0 = true then 1 else 0) → wY_follow_62 post x (nI t) (nI u) (nI f1) (nI f2) z1 (nI o.1) (nI o.2.1) (nI p.1) (nI o.2.2.1) (nI o.2.2.2.1) (nI o.2.2.2.2.1) (nI s.1) (nI s.2) (nI o.2.2.2.2.2.1) (nI o.2.2.2.2.2.2.1) (nI o.2.2.2.2.2.2.2.1) (xs_A p.2.1) p.2.2.1 (xs_A p.2.2.2.1) (xs_A p.2.2.2.2) (xs_A o.2.2.2.2.2.2.2.2.1) (xs_A o.2.2.2.2.2.2.2.2.2.1) (xs_A o.2.2.2.2.2.2.2.2.2.2) (xs_A l) (xs_A j.1) (xs_A j.2.1) (ys_E j.2.2.1) (xs_A j.2.2.2) (xs_A d.1) (xs_A d.2.1) (xs_A d.2.2.1) (xs_A d.2.2.2) := by
      intro z1 h1 f1 f2 hf1 hf2
      by_cases e : (j.2.2.2 t).testBit 0 = true
      · have hf2' := hf2
        rw [if_pos e] at hf2'
        refine br_f (by rw [hf2']; decide) (And.intro hin (And.intro uin (fin z1 _ h1 ?_ f1 f2 hf1 hf2)))
        rw [if_pos e, show xs_A j.2.1 (nI t).toNatClampNeg = _ from xs_at t31, show xs_A j.2.1 (nI u).toNatClampNeg = _ from xs_at u31]; exact nx_or _ _
      · have hf2' := hf2
        rw [if_neg e] at hf2'
        exact br_t (by rw [hf2']; rfl) (And.intro hin (fin z1 _ h1 (by rw [if_neg e]; exact xs_at t31) f1 f2 hf1 hf2))
    have st33 : ∀ f1 f2 : Nat, (f1 = if j.2.2.1 t = 0 then 1 else 0) → (f2 = if (j.2.2.2 t).testBit 0 = true then 1 else 0) → wY_follow_33 post x (nI t) (nI u) (nI f1) (nI f2) (nI o.1) (nI o.2.1) (nI p.1) (nI o.2.2.1) (nI o.2.2.2.1) (nI o.2.2.2.2.1) (nI s.1) (nI s.2) (nI o.2.2.2.2.2.1) (nI o.2.2.2.2.2.2.1) (nI o.2.2.2.2.2.2.2.1) (xs_A p.2.1) p.2.2.1 (xs_A p.2.2.2.1) (xs_A p.2.2.2.2) (xs_A o.2.2.2.2.2.2.2.2.1) (xs_A o.2.2.2.2.2.2.2.2.2.1) (xs_A o.2.2.2.2.2.2.2.2.2.2) (xs_A l) (xs_A j.1) (xs_A j.2.1) (ys_E j.2.2.1) (xs_A j.2.2.2) (xs_A d.1) (xs_A d.2.1) (xs_A d.2.2.1) (xs_A d.2.2.2) := by
      intro f1 f2 hf1 hf2
      by_cases e : j.2.2.1 t = 0
      · have hf1' := hf1
        rw [if_pos e] at hf1'
        refine br_f (by rw [hf1']; decide) (And.intro hin (And.intro uin (st62 _ ?_ f1 f2 hf1 hf2)))
        rw [if_pos e, show xs_A j.1 (nI t).toNatClampNeg = _ from xs_at t31, show xs_A j.1 (nI u).toNatClampNeg = _ from xs_at u31]; exact nx_or _ _
      · have hf1' := hf1
        rw [if_neg e] at hf1'
        exact br_t (by rw [hf1']; rfl) (And.intro hin (st62 _ (by rw [if_neg e]; exact xs_at t31) f1 f2 hf1 hf2))
    have st14 : ∀ f1 : Nat, (f1 = if j.2.2.1 t = 0 then 1 else 0) → wY_follow_14 post x (nI t) (nI u) (nI f1) (nI o.1) (nI o.2.1) (nI p.1) (nI o.2.2.1) (nI o.2.2.2.1) (nI o.2.2.2.2.1) (nI s.1) (nI s.2) (nI o.2.2.2.2.2.1) (nI o.2.2.2.2.2.2.1) (nI o.2.2.2.2.2.2.2.1) (xs_A p.2.1) p.2.2.1 (xs_A p.2.2.2.1) (xs_A p.2.2.2.2) (xs_A o.2.2.2.2.2.2.2.2.1) (xs_A o.2.2.2.2.2.2.2.2.2.1) (xs_A o.2.2.2.2.2.2.2.2.2.2) (xs_A l) (xs_A j.1) (xs_A j.2.1) (ys_E j.2.2.1) (xs_A j.2.2.2) (xs_A d.1) (xs_A d.2.1) (xs_A d.2.2.1) (xs_A d.2.2.2) := by
      intro f1 hf1
      refine And.intro hin ?_
      by_cases e : (j.2.2.2 t).testBit 0 = true
      · exact br_t (by rw [show xs_A j.2.2.2 (nI t).toNatClampNeg = _ from xs_at t31]; exact (yt_c1 _ b4).mpr e) (st33 f1 1 hf1 (by rw [if_pos e]))
      · exact br_f (by rw [show xs_A j.2.2.2 (nI t).toNatClampNeg = _ from xs_at t31]; exact fun q => e ((yt_c1 _ b4).mp q)) (st33 f1 0 hf1 (by rw [if_neg e]))
    refine And.intro hin ?_
    by_cases e : j.2.2.1 t = 0
    · exact br_t (by rw [show ys_E j.2.2.1 (nI t).toNatClampNeg = _ from ys_atE t31]; exact (yt_m0 _ (by omega)).mpr e) (st14 1 (by rw [if_pos e]))
    · exact br_f (by rw [show ys_E j.2.2.1 (nI t).toNatClampNeg = _ from ys_atE t31]; exact fun q => e ((yt_m0 _ (by omega)).mp q)) (st14 0 (by rw [if_neg e]))
/-- the signal's status -/
def ys_S (s : Nat × Nat) (n : Nat) : rv_V := (s.1.testBit n, s.2.testBit n)
theorem ys_either {a n t u : Nat} (ha : a < 32) (hn : n < 6) (ht : t < 32) (hu : u < 32) (B : ys_B j t) (C : ys_B j u) (hs : rv_con (ys_S s n)) : ∃ me ce m cn, ys_out me ce m cn (fa_test (ys_S s n) (yc j t) (yc j u)) (fun q => rv_or (rv_and (ys_S s n) (ye j t q)) (rv_and (rv_not (ys_S s n)) (ye j u q))) ∧
    ∀ (post : SY → Prop) (x v y z : Int32), x = nI a → v = nI n → y = nI t → z = nI u → post (ys p o s l (ys_put j a me ce m cn) d) → wpY_either post (ys p o s l j d) x v y z := by
  have hin : vp_in (nI t) 32 := vp_in_nI ht (by omega)
  have uin : vp_in (nI u) 32 := vp_in_nI hu (by omega)
  have t31 : t < 2 ^ 31 := by omega
  have u31 : u < 2 ^ 31 := by omega
  by_cases e1 : s.1.testBit n = true
  · have e2 : s.2.testBit n = false := by
      have : (s.1.testBit n && s.2.testBit n) = false := hs
      rw [e1, Bool.true_and] at this; exact this
    have es : ys_S s n = rv_T := by unfold ys_S; rw [e1, e2]; rfl
    obtain ⟨o1, o2, o3, o4, o5, o6⟩ := ys_out_self B
    refine ⟨_, _, _, _, ⟨o1, o2, o3, o4, fun k hk => ?_, fun q hq => ?_⟩, fun post x v y z hx hv hy hz h => ?_⟩
    · rw [es]; unfold fa_test; rw [rv_T_and, rv_not_T, rv_F_and, rv_or_F]; exact o5 k hk
    · dsimp only
      rw [es, rv_T_and, rv_not_T, rv_F_and, rv_or_F]; exact o6 q hq
    · subst hv
      exact br_t ((nx_b1 _ (by omega)).mpr e1) (ys_copy ha ht _ _ _ hx hy h)
  · by_cases e2 : s.2.testBit n = true
    · have es : ys_S s n = rv_F := by unfold ys_S; rw [Bool.eq_false_iff.mpr e1, e2]; rfl
      obtain ⟨o1, o2, o3, o4, o5, o6⟩ := ys_out_self C
      refine ⟨_, _, _, _, ⟨o1, o2, o3, o4, fun k hk => ?_, fun q hq => ?_⟩, fun post x v y z hx hv hy hz h => ?_⟩
      · rw [es]; unfold fa_test; rw [rv_F_and, rv_not_F, rv_T_and, rv_F_or]; exact o5 k hk
      · dsimp only
        rw [es, rv_F_and, rv_not_F, rv_T_and, rv_F_or]; exact o6 q hq
      · subst hv
        exact br_f (fun q => e1 ((nx_b1 _ (by omega)).mp q)) (br_t ((nx_b1 _ (by omega)).mpr e2) (ys_copy ha hu _ _ _ hx hz h))
    · have es : ys_S s n = (false, false) := by unfold ys_S; rw [Bool.eq_false_iff.mpr e1, Bool.eq_false_iff.mpr e2]
      obtain ⟨b1, b2, b3, b4⟩ := B
      obtain ⟨c1, c2, c3, c4⟩ := C
      have o2 := nx_orlt (n := 6) b2 c2
      have o4 := nx_orlt (n := 5) b4 c4
      refine ⟨0, j.2.1 t ||| j.2.1 u, 5, j.2.2.2 t ||| j.2.2.2 u, ⟨by omega, o2, by omega, o4, fun k hk => ?_, fun q hq => ?_⟩, fun post x v y z hx hv hy hz h => ?_⟩
      · rw [es]
        refine Prod.ext ?_ ?_
        · show decide (5 = k) = false
          exact decide_eq_false (by omega)
        · show (!(j.2.2.2 t ||| j.2.2.2 u).testBit k) = ((!(j.2.2.2 t).testBit k) && !(j.2.2.2 u).testBit k)
          rw [Nat.testBit_or, Bool.not_or]
      · rw [es]
        refine Prod.ext ?_ ?_
        · exact Nat.zero_testBit q
        · show (!(j.2.1 t ||| j.2.1 u).testBit q) = ((!(j.2.1 t).testBit q) && !(j.2.1 u).testBit q)
          rw [Nat.testBit_or, Bool.not_or]
      · subst hv hy hz
        refine br_f (fun q => e1 ((nx_b1 _ (by omega)).mp q)) (br_f (fun q => e2 ((nx_b1 _ (by omega)).mp q)) (And.intro hin (And.intro uin (And.intro hin (And.intro uin (ys_set hx ha rfl ?_ rfl ?_ h))))))
        · rw [show xs_A j.2.1 (nI t).toNatClampNeg = _ from xs_at t31, show xs_A j.2.1 (nI u).toNatClampNeg = _ from xs_at u31]; exact nx_or _ _
        · rw [show xs_A j.2.2.2 (nI t).toNatClampNeg = _ from xs_at t31, show xs_A j.2.2.2 (nI u).toNatClampNeg = _ from xs_at u31]; exact nx_or _ _
theorem ys_suspended {a n t : Nat} (ha : a < 32) (hn : n < 6) (ht : t < 32) (B : ys_B j t) (hs : rv_con (ys_S s n)) : ∃ me ce m cn, ys_out me ce m cn (fa_susp (ys_S s n) (yc j t)) (fun q => rv_and (rv_not (ys_S s n)) (ye j t q)) ∧
    ∀ (post : SY → Prop) (x v y : Int32), x = nI a → v = nI n → y = nI t → post (ys p o s l (ys_put j a me ce m cn) d) → wpY_suspended post (ys p o s l j d) x v y := by
  have hin : vp_in (nI t) 32 := vp_in_nI ht (by omega)
  have t31 : t < 2 ^ 31 := by omega
  by_cases e1 : s.1.testBit n = true
  · have e2 : s.2.testBit n = false := by
      have : (s.1.testBit n && s.2.testBit n) = false := hs
      rw [e1, Bool.true_and] at this; exact this
    have es : ys_S s n = rv_T := by unfold ys_S; rw [e1, e2]; rfl
    refine ⟨0, 0, 1, 2, ⟨by omega, by omega, by omega, by omega, fun k hk => ?_, fun q hq => ?_⟩, fun post x v y hx hv hy h => ?_⟩
    · rw [es]; unfold fa_susp; rw [rv_not_T, rv_F_and, rv_F_or, rv_F_and]
      exact (by decide : ∀ k, k < 5 → ((decide (1 = k), !(2 : Nat).testBit k) : rv_V) = if k = 1 then rv_T else rv_F) k hk
    · dsimp only
      rw [es, rv_not_T, rv_F_and, Nat.zero_testBit]; rfl
    · subst hv
      exact br_t ((nx_b1 _ (by omega)).mpr e1) (ys_set hx ha rfl rfl rfl rfl h)
  · by_cases e2 : s.2.testBit n = true
    · have es : ys_S s n = rv_F := by unfold ys_S; rw [Bool.eq_false_iff.mpr e1, e2]; rfl
      obtain ⟨o1, o2, o3, o4, o5, o6⟩ := ys_out_self B
      refine ⟨_, _, _, _, ⟨o1, o2, o3, o4, fun k hk => ?_, fun q hq => ?_⟩, fun post x v y hx hv hy h => ?_⟩
      · rw [es]; unfold fa_susp; rw [rv_not_F, rv_T_and, rv_T_and, rv_or_F]
        by_cases e : k = 1
        · rw [if_pos e, e]; exact o5 1 (by omega)
        · rw [if_neg e]; exact o5 k hk
      · dsimp only
        rw [es, rv_not_F, rv_T_and]; exact o6 q hq
      · subst hv
        exact br_f (fun q => e1 ((nx_b1 _ (by omega)).mp q)) (br_t ((nx_b1 _ (by omega)).mpr e2) (ys_copy ha ht _ _ _ hx hy h))
    · have es : ys_S s n = (false, false) := by unfold ys_S; rw [Bool.eq_false_iff.mpr e1, Bool.eq_false_iff.mpr e2]
      obtain ⟨b1, b2, b3, b4⟩ := B
      refine ⟨0, j.2.1 t, 5, j.2.2.2 t ||| 2, ⟨by omega, b2, by omega, nx_orlt (n := 5) b4 (by omega), fun k hk => ?_, fun q hq => ?_⟩, fun post x v y hx hv hy h => ?_⟩
      · rw [es]
        have t2 : ∀ k, k < 5 → (2 : Nat).testBit k = decide (k = 1) := by decide
        refine Prod.ext ?_ ?_
        · unfold fa_susp
          by_cases e : k = 1
          · rw [if_pos e, e]; rfl
          · rw [if_neg e]
            show decide (5 = k) = false
            exact decide_eq_false (by omega)
        · show (!(j.2.2.2 t ||| 2).testBit k) = _
          rw [Nat.testBit_or, t2 k hk]
          unfold fa_susp
          by_cases e : k = 1
          · rw [if_pos e, decide_eq_true e, Bool.or_true]
            show false = (_ && false)
            rw [Bool.and_false]
          · rw [if_neg e, decide_eq_false e, Bool.or_false]; rfl
      · rw [es]
        refine Prod.ext ?_ rfl
        exact Nat.zero_testBit q
      · subst hv hy
        refine br_f (fun q => e1 ((nx_b1 _ (by omega)).mp q)) (br_f (fun q => e2 ((nx_b1 _ (by omega)).mp q)) (And.intro hin (And.intro hin (ys_set hx ha rfl (xs_at t31) rfl ?_ h))))
        rw [show xs_A j.2.2.2 (nI t).toNatClampNeg = _ from xs_at t31]; exact nx_or _ 2
end
end
section
/-! ===== greater, beside ===== -/
/-- the inner loop: b from 5 - d on -/
def gr_in (c1 c2 a : Nat) : Nat → Nat → Nat
  | 0, acc => acc
  | d + 1, acc => gr_in c1 c2 a d (if c1.testBit a = true ∧ c2.testBit (4 - d) = true then acc ||| 1 <<< (if a ≤ 4 - d then 4 - d else a) else acc)
def gr_out (c1 c2 : Nat) : Nat → Nat → Nat
  | 0, acc => acc
  | d + 1, acc => gr_out c1 c2 d (gr_in c1 c2 (4 - d) 5 acc)
def gr (c1 c2 : Nat) : Nat := gr_out c1 c2 5 0
theorem yt_gr : ∀ c, c < 32 → ∀ d, d < 32 → gr c d < 32 ∧ ∀ k, k < 5 → (!(gr c d).testBit k) = (fa_par (fun k => (false, !c.testBit k)) (fun k => (false, !d.testBit k)) k).2 := by decide +kernel
theorem yt_mx : ∀ m, m < 6 → ∀ n, n < 6 → ∀ k, k < 5 → decide ((if m = 5 ∨ n = 5 then 5 else if m ≤ n then n else m) = k) = (fa_par (fun k => (decide (m = k), false)) (fun k => (decide (n = k), false)) k).1 := by decide +kernel
theorem rv_up_1 (x : rv_V) (c : Nat → rv_V) (k : Nat) (y : Bool) (f : Nat → Bool) : (rv_up x c k).1 = (rv_up (x.1, y) (fun k => ((c k).1, f k)) k).1 := by
  induction k with
  | zero => rfl
  | succ k ih => show (_ || _) = (_ || _); rw [ih]
theorem rv_up_2 (x : rv_V) (c : Nat → rv_V) (k : Nat) (y : Bool) (f : Nat → Bool) : (rv_up x c k).2 = (rv_up (y, x.2) (fun k => (f k, (c k).2)) k).2 := by
  induction k with
  | zero => rfl
  | succ k ih => show (_ && _) = (_ && _); rw [ih]
theorem fa_par_1 (c d : Nat → rv_V) (k : Nat) : (fa_par c d k).1 = (fa_par (fun k => ((c k).1, false)) (fun k => ((d k).1, false)) k).1 := by
  unfold fa_par
  show (((rv_up rv_F c k).1 && (rv_up rv_F d k).1) && ((c k).1 || (d k).1)) = (((rv_up rv_F _ k).1 && (rv_up rv_F _ k).1) && _)
  rw [rv_up_1 rv_F c k true (fun _ => false), rv_up_1 rv_F d k true (fun _ => false)]
  rfl
theorem fa_par_2 (c d : Nat → rv_V) (k : Nat) : (fa_par c d k).2 = (fa_par (fun k => (false, (c k).2)) (fun k => (false, (d k).2)) k).2 := by
  unfold fa_par
  show (((rv_up rv_F c k).2 || (rv_up rv_F d k).2) || ((c k).2 && (d k).2)) = (((rv_up rv_F _ k).2 || (rv_up rv_F _ k).2) || _)
  rw [rv_up_2 rv_F c k false (fun _ => false), rv_up_2 rv_F d k false (fun _ => false)]
  rfl
section
variable {p : ys_P} {o : ys_O} {s : Nat × Nat} {l : xs_f} {j : ys_J} {d : ys_D}
theorem ys_gr14 {post : Int32 → Prop} {J : Int32 → Int32 → Prop} {c1 c2 a : Nat} (ha : a < 5) : ∀ e acc, e ≤ 5 → J (nI (gr_in c1 c2 a e acc)) (nI (a + 1)) → wY_greater_14 post J (nI c1) (nI c2) (nI a) (nI o.1) (nI o.2.1) (nI p.1) (nI o.2.2.1) (nI o.2.2.2.1) (nI o.2.2.2.2.1) (nI s.1) (nI s.2) (nI o.2.2.2.2.2.1) (nI o.2.2.2.2.2.2.1) (nI o.2.2.2.2.2.2.2.1) (xs_A p.2.1) p.2.2.1 (xs_A p.2.2.2.1) (xs_A p.2.2.2.2) (xs_A o.2.2.2.2.2.2.2.2.1) (xs_A o.2.2.2.2.2.2.2.2.2.1) (xs_A o.2.2.2.2.2.2.2.2.2.2) (xs_A l) (xs_A j.1) (xs_A j.2.1) (ys_E j.2.2.1) (xs_A j.2.2.2) (xs_A d.1) (xs_A d.2.1) (xs_A d.2.2.1) (xs_A d.2.2.2) (e + 1) (nI acc) (nI (5 - e)) := by
  intro e
  induction e with
  | zero => intro acc he H; exact br_t (nI_le (a := 5) (by omega) (by omega)) (nm_r (nI_1 a) H)
  | succ e ih =>
    intro acc he H
    have le : ¬ (5 : Int32) ≤ nI (5 - (e + 1)) := nI_ge (b := 5) (by omega) (by omega)
    have eb : 5 - (e + 1) = 4 - e := by omega
    have nx : nI (5 - (e + 1)) + 1 = nI (5 - e) := by rw [nI_1]; exact congrArg nI (by omega)
    have H : J (nI (gr_in c1 c2 a e (if c1.testBit a = true ∧ c2.testBit (4 - e) = true then acc ||| 1 <<< (if a ≤ 4 - e then 4 - e else a) else acc))) (nI (a + 1)) := H
    have ba : ((nI c1 >>> (nI a &&& 31)) &&& 1) = 1 ↔ c1.testBit a = true := nx_b1 _ (by omega)
    have bb : ((nI c2 >>> (nI (5 - (e + 1)) &&& 31)) &&& 1) = 1 ↔ c2.testBit (4 - e) = true := by rw [eb]; exact nx_b1 _ (by omega)
    by_cases t1 : c1.testBit a = true
    · by_cases t2 : c2.testBit (4 - e) = true
      · rw [if_pos ⟨t1, t2⟩] at H
        by_cases t3 : a ≤ 4 - e
        · rw [if_pos t3] at H
          refine br_f le (br_t (ba.mpr t1) (br_t (bb.mpr t2) (br_t (nI_le (by omega) (by omega)) (nm_r ?_ (nm_r nx (ih _ (by omega) H))))))
          rw [eb, yt_sh1 _ (by omega)]; exact nx_or _ _
        · rw [if_neg t3] at H
          refine br_f le (br_t (ba.mpr t1) (br_t (bb.mpr t2) (br_f (nI_ge (by omega) (by omega)) (nm_r ?_ (nm_r nx (ih _ (by omega) H))))))
          rw [yt_sh1 _ (by omega)]; exact nx_or _ _
      · rw [if_neg (fun h => t2 h.2)] at H
        exact br_f le (br_t (ba.mpr t1) (br_f (fun h => t2 (bb.mp h)) (nm_r nx (ih _ (by omega) H))))
    · rw [if_neg (fun h => t1 h.1)] at H
      exact br_f le (br_f (fun h => t1 (ba.mp h)) (nm_r nx (ih _ (by omega) H)))
theorem ys_gr5 {post : Int32 → Prop} {c1 c2 : Nat} : ∀ e acc, e ≤ 5 → post (nI (gr_out c1 c2 e acc)) → wY_greater_5 post (nI c1) (nI c2) (nI o.1) (nI o.2.1) (nI p.1) (nI o.2.2.1) (nI o.2.2.2.1) (nI o.2.2.2.2.1) (nI s.1) (nI s.2) (nI o.2.2.2.2.2.1) (nI o.2.2.2.2.2.2.1) (nI o.2.2.2.2.2.2.2.1) (xs_A p.2.1) p.2.2.1 (xs_A p.2.2.2.1) (xs_A p.2.2.2.2) (xs_A o.2.2.2.2.2.2.2.2.1) (xs_A o.2.2.2.2.2.2.2.2.2.1) (xs_A o.2.2.2.2.2.2.2.2.2.2) (xs_A l) (xs_A j.1) (xs_A j.2.1) (ys_E j.2.2.1) (xs_A j.2.2.2) (xs_A d.1) (xs_A d.2.1) (xs_A d.2.2.1) (xs_A d.2.2.2) (e + 1) (nI acc) (nI (5 - e)) := by
  intro e
  induction e with
  | zero => intro acc he H; exact br_t (nI_le (a := 5) (by omega) (by omega)) H
  | succ e ih =>
    intro acc he H
    have H : post (nI (gr_out c1 c2 e (gr_in c1 c2 (4 - e) 5 acc))) := H
    have eb : 5 - (e + 1) = 4 - e := by omega
    refine br_f (nI_ge (b := 5) (by omega) (by omega)) ⟨6, ?_⟩
    rw [eb]
    refine ys_gr14 (by omega) 5 acc (by omega) ?_
    have := ih _ (by omega) H
    rw [show 5 - e = 4 - e + 1 by omega] at this
    exact this
theorem ys_greater {post : Int32 → Prop} {c1 c2 : Nat} {x y : Int32} (hx : x = nI c1) (hy : y = nI c2) (h : post (nI (gr c1 c2))) : wpY_greater post (ys p o s l j d) x y := by
  subst hx hy
  exact ⟨6, ys_gr5 5 0 (by omega) h⟩
/-- a part, or one that is over: place, codes, signals -/
def ys_pl (b : Bool) (t : Nat) : Int32 := if b = true then nI t else (-1)
def ys_pm (j : ys_J) (b : Bool) (t : Nat) : Nat := if b = true then j.2.2.1 t else 0
def ys_pc (j : ys_J) (b : Bool) (t : Nat) : Nat := if b = true then j.2.2.2 t else 1
def ys_p1 (j : ys_J) (b : Bool) (t : Nat) : Nat := if b = true then j.1 t else 0
def ys_p2 (j : ys_J) (b : Bool) (t : Nat) : Nat := if b = true then j.2.1 t else 0
theorem ys_br {A : Int32 → Prop} {b : Bool} {t : Nat} {x y z : Int32} (ht : t < 32) (hx : x = ys_pl b t) (e : ∀ v, v = (if b = true then y else z) → A v) : (0 ≤ x → (vp_in x 32 ∧ A y)) ∧ (¬ 0 ≤ x → A z) := by
  cases b with
  | true =>
    have hx : x = nI t := hx
    subst hx
    exact br_t (nI_pos' (by omega)) (And.intro (vp_in_nI ht (by omega)) (e _ rfl))
  | false =>
    have hx : x = -1 := hx
    subst hx
    exact br_f (by decide) (e _ rfl)
theorem ys_beside {a t u : Nat} {b c : Bool} (ha : a < 32) (ht : t < 32) (hu : u < 32) (B : b = true → ys_B j t) (C : c = true → ys_B j u) : ∃ me ce m cn,
    ys_out me ce m cn (fa_par (if b = true then yc j t else fa_one 0) (if c = true then yc j u else fa_one 0)) (fun q => rv_or (if b = true then ye j t q else rv_F) (if c = true then ye j u q else rv_F)) ∧
    ∀ (post : SY → Prop) (x y z : Int32), x = nI a → y = ys_pl b t → z = ys_pl c u → post (ys p o s l (ys_put j a me ce m cn) d) → wpY_beside post (ys p o s l j d) x y z := by
  have t31 : t < 2 ^ 31 := by omega
  have u31 : u < 2 ^ 31 := by omega
  have bm : ys_pm j b t < 6 := by unfold ys_pm; split <;> rename_i h; have := (B h).2.2.1; omega; omega
  have cm : ys_pm j c u < 6 := by unfold ys_pm; split <;> rename_i h; have := (C h).2.2.1; omega; omega
  have bc : ys_pc j b t < 32 := by unfold ys_pc; split <;> rename_i h; have := (B h).2.2.2; omega; omega
  have cc : ys_pc j c u < 32 := by unfold ys_pc; split <;> rename_i h; have := (C h).2.2.2; omega; omega
  have b1 : ys_p1 j b t < 2 ^ 6 := by unfold ys_p1; split <;> rename_i h; exact (B h).1; omega
  have c1 : ys_p1 j c u < 2 ^ 6 := by unfold ys_p1; split <;> rename_i h; exact (C h).1; omega
  have b2 : ys_p2 j b t < 2 ^ 6 := by unfold ys_p2; split <;> rename_i h; exact (B h).2.1; omega
  have c2 : ys_p2 j c u < 2 ^ 6 := by unfold ys_p2; split <;> rename_i h; exact (C h).2.1; omega
  have fb : ∀ k, k < 5 → (if b = true then yc j t else fa_one 0) k = (decide (ys_pm j b t = k), !(ys_pc j b t).testBit k) := by
    intro k hk
    cases b with
    | true => rfl
    | false => exact (by decide : ∀ k, k < 5 → fa_one 0 k = (decide (0 = k), !(1 : Nat).testBit k)) k hk
  have fc : ∀ k, k < 5 → (if c = true then yc j u else fa_one 0) k = (decide (ys_pm j c u = k), !(ys_pc j c u).testBit k) := by
    intro k hk
    cases c with
    | true => rfl
    | false => exact (by decide : ∀ k, k < 5 → fa_one 0 k = (decide (0 = k), !(1 : Nat).testBit k)) k hk
  have fpar : ∀ k, k < 5 → fa_par (if b = true then yc j t else fa_one 0) (if c = true then yc j u else fa_one 0) k = fa_par (fun k => (decide (ys_pm j b t = k), !(ys_pc j b t).testBit k)) (fun k => (decide (ys_pm j c u = k), !(ys_pc j c u).testBit k)) k := by
    intro k hk
    unfold fa_par
    rw [rv_up_cg rfl fb k hk, rv_up_cg rfl fc k hk, fb k hk, fc k hk]
  refine ⟨ys_p1 j b t ||| ys_p1 j c u, ys_p2 j b t ||| ys_p2 j c u, if ys_pm j b t = 5 ∨ ys_pm j c u = 5 then 5 else if ys_pm j b t ≤ ys_pm j c u then ys_pm j c u else ys_pm j b t, gr (ys_pc j b t) (ys_pc j c u),
    ⟨nx_orlt b1 c1, nx_orlt b2 c2, by split; omega; split <;> omega, (yt_gr _ bc _ cc).1, fun k hk => ?_, fun q hq => ?_⟩, fun post x y z hx hy hz h => ?_⟩
  · rw [fpar k hk]
    refine Prod.ext ?_ ?_
    · rw [fa_par_1]; exact yt_mx _ bm _ cm k hk
    · rw [fa_par_2]; exact (yt_gr _ bc _ cc).2 k hk
  · refine Prod.ext ?_ ?_
    · show (ys_p1 j b t ||| ys_p1 j c u).testBit q = ((if b = true then ye j t q else rv_F).1 || (if c = true then ye j u q else rv_F).1)
      rw [Nat.testBit_or]
      unfold ys_p1
      cases b <;> cases c <;> simp [rv_F, ye]
    · show (!(ys_p2 j b t ||| ys_p2 j c u).testBit q) = ((if b = true then ye j t q else rv_F).2 && (if c = true then ye j u q else rv_F).2)
      rw [Nat.testBit_or]
      unfold ys_p2
      cases b <;> cases c <;> simp [rv_F, ye]
  · have st155 : wY_beside_155 post x (ys_m (if ys_pm j b t = 5 ∨ ys_pm j c u = 5 then 5 else if ys_pm j b t ≤ ys_pm j c u then ys_pm j c u else ys_pm j b t)) (nI (gr (ys_pc j b t) (ys_pc j c u))) (nI (ys_p1 j b t ||| ys_p1 j c u)) (nI (ys_p2 j c u)) (nI (ys_p2 j b t)) (nI o.1) (nI o.2.1) (nI p.1) (nI o.2.2.1) (nI o.2.2.2.1) (nI o.2.2.2.2.1) (nI s.1) (nI s.2) (nI o.2.2.2.2.2.1) (nI o.2.2.2.2.2.2.1) (nI o.2.2.2.2.2.2.2.1) (xs_A p.2.1) p.2.2.1 (xs_A p.2.2.2.1) (xs_A p.2.2.2.2) (xs_A o.2.2.2.2.2.2.2.2.1) (xs_A o.2.2.2.2.2.2.2.2.2.1) (xs_A o.2.2.2.2.2.2.2.2.2.2) (xs_A l) (xs_A j.1) (xs_A j.2.1) (ys_E j.2.2.1) (xs_A j.2.2.2) (xs_A d.1) (xs_A d.2.1) (xs_A d.2.2.1) (xs_A d.2.2.2) :=
      nm_r (nx_or _ _) (ys_set hx ha rfl rfl rfl rfl h)
    have v1 : ∀ v, v = (if c = true then xs_A j.2.1 z.toNatClampNeg else 0) → v = nI (ys_p2 j c u) := by
      intro v hv; rw [hv]; unfold ys_p2; cases c
      · rfl
      · have hz : z = nI u := hz
        rw [hz]; exact xs_at u31
    have v2 : ∀ v, v = (if b = true then xs_A j.2.1 y.toNatClampNeg else 0) → v = nI (ys_p2 j b t) := by
      intro v hv; rw [hv]; unfold ys_p2; cases b
      · rfl
      · have hy : y = nI t := hy
        rw [hy]; exact xs_at t31
    have v3 : ∀ v, v = (if c = true then xs_A j.1 z.toNatClampNeg else 0) → v = nI (ys_p1 j c u) := by
      intro v hv; rw [hv]; unfold ys_p1; cases c
      · rfl
      · have hz : z = nI u := hz
        rw [hz]; exact xs_at u31
    have v4 : ∀ v, v = (if b = true then xs_A j.1 y.toNatClampNeg else 0) → v = nI (ys_p1 j b t) := by
      intro v hv; rw [hv]; unfold ys_p1; cases b
      · rfl
      · have hy : y = nI t := hy
        rw [hy]; exact xs_at t31
    have v5 : ∀ v, v = (if c = true then xs_A j.2.2.2 z.toNatClampNeg else 1) → v = nI (ys_pc j c u) := by
      intro v hv; rw [hv]; unfold ys_pc; cases c
      · rfl
      · have hz : z = nI u := hz
        rw [hz]; exact xs_at u31
    have v6 : ∀ v, v = (if b = true then xs_A j.2.2.2 y.toNatClampNeg else 1) → v = nI (ys_pc j b t) := by
      intro v hv; rw [hv]; unfold ys_pc; cases b
      · rfl
      · have hy : y = nI t := hy
        rw [hy]; exact xs_at t31
    have v7 : ∀ v, v = (if c = true then ys_E j.2.2.1 z.toNatClampNeg else 0) → v = ys_m (ys_pm j c u) := by
      intro v hv; rw [hv]; unfold ys_pm; cases c
      · rfl
      · have hz : z = nI u := hz
        rw [hz]; exact ys_atE u31
    have v8 : ∀ v, v = (if b = true then ys_E j.2.2.1 y.toNatClampNeg else 0) → v = ys_m (ys_pm j b t) := by
      intro v hv; rw [hv]; unfold ys_pm; cases b
      · rfl
      · have hy : y = nI t := hy
        rw [hy]; exact ys_atE t31
    have st141 : wY_beside_141 post x z (ys_m (if ys_pm j b t = 5 ∨ ys_pm j c u = 5 then 5 else if ys_pm j b t ≤ ys_pm j c u then ys_pm j c u else ys_pm j b t)) (nI (gr (ys_pc j b t) (ys_pc j c u))) (nI (ys_p1 j b t ||| ys_p1 j c u)) (nI (ys_p2 j b t)) (nI o.1) (nI o.2.1) (nI p.1) (nI o.2.2.1) (nI o.2.2.2.1) (nI o.2.2.2.2.1) (nI s.1) (nI s.2) (nI o.2.2.2.2.2.1) (nI o.2.2.2.2.2.2.1) (nI o.2.2.2.2.2.2.2.1) (xs_A p.2.1) p.2.2.1 (xs_A p.2.2.2.1) (xs_A p.2.2.2.2) (xs_A o.2.2.2.2.2.2.2.2.1) (xs_A o.2.2.2.2.2.2.2.2.2.1) (xs_A o.2.2.2.2.2.2.2.2.2.2) (xs_A l) (xs_A j.1) (xs_A j.2.1) (ys_E j.2.2.1) (xs_A j.2.2.2) (xs_A d.1) (xs_A d.2.1) (xs_A d.2.2.1) (xs_A d.2.2.2) :=
      ys_br (A := fun v => wY_beside_155 post x (ys_m (if ys_pm j b t = 5 ∨ ys_pm j c u = 5 then 5 else if ys_pm j b t ≤ ys_pm j c u then ys_pm j c u else ys_pm j b t)) (nI (gr (ys_pc j b t) (ys_pc j c u))) (nI (ys_p1 j b t ||| ys_p1 j c u)) v (nI (ys_p2 j b t)) (nI o.1) (nI o.2.1) (nI p.1) (nI o.2.2.1) (nI o.2.2.2.1) (nI o.2.2.2.2.1) (nI s.1) (nI s.2) (nI o.2.2.2.2.2.1) (nI o.2.2.2.2.2.2.1) (nI o.2.2.2.2.2.2.2.1) (xs_A p.2.1) p.2.2.1 (xs_A p.2.2.2.1) (xs_A p.2.2.2.2) (xs_A o.2.2.2.2.2.2.2.2.1) (xs_A o.2.2.2.2.2.2.2.2.2.1) (xs_A o.2.2.2.2.2.2.2.2.2.2) (xs_A l) (xs_A j.1) (xs_A j.2.1) (ys_E j.2.2.1) (xs_A j.2.2.2) (xs_A d.1) (xs_A d.2.1) (xs_A d.2.2.1) (xs_A d.2.2.2)) hu hz (fun v hv => by rw [v1 v hv]; exact st155)
    have st124 : wY_beside_124 post x y z (ys_m (if ys_pm j b t = 5 ∨ ys_pm j c u = 5 then 5 else if ys_pm j b t ≤ ys_pm j c u then ys_pm j c u else ys_pm j b t)) (nI (gr (ys_pc j b t) (ys_pc j c u))) (nI (ys_p1 j c u)) (nI (ys_p1 j b t)) (nI o.1) (nI o.2.1) (nI p.1) (nI o.2.2.1) (nI o.2.2.2.1) (nI o.2.2.2.2.1) (nI s.1) (nI s.2) (nI o.2.2.2.2.2.1) (nI o.2.2.2.2.2.2.1) (nI o.2.2.2.2.2.2.2.1) (xs_A p.2.1) p.2.2.1 (xs_A p.2.2.2.1) (xs_A p.2.2.2.2) (xs_A o.2.2.2.2.2.2.2.2.1) (xs_A o.2.2.2.2.2.2.2.2.2.1) (xs_A o.2.2.2.2.2.2.2.2.2.2) (xs_A l) (xs_A j.1) (xs_A j.2.1) (ys_E j.2.2.1) (xs_A j.2.2.2) (xs_A d.1) (xs_A d.2.1) (xs_A d.2.2.1) (xs_A d.2.2.2) :=
      nm_r (nx_or _ _) (ys_br (A := fun v => wY_beside_141 post x z (ys_m (if ys_pm j b t = 5 ∨ ys_pm j c u = 5 then 5 else if ys_pm j b t ≤ ys_pm j c u then ys_pm j c u else ys_pm j b t)) (nI (gr (ys_pc j b t) (ys_pc j c u))) (nI (ys_p1 j b t ||| ys_p1 j c u)) v (nI o.1) (nI o.2.1) (nI p.1) (nI o.2.2.1) (nI o.2.2.2.1) (nI o.2.2.2.2.1) (nI s.1) (nI s.2) (nI o.2.2.2.2.2.1) (nI o.2.2.2.2.2.2.1) (nI o.2.2.2.2.2.2.2.1) (xs_A p.2.1) p.2.2.1 (xs_A p.2.2.2.1) (xs_A p.2.2.2.2) (xs_A o.2.2.2.2.2.2.2.2.1) (xs_A o.2.2.2.2.2.2.2.2.2.1) (xs_A o.2.2.2.2.2.2.2.2.2.2) (xs_A l) (xs_A j.1) (xs_A j.2.1) (ys_E j.2.2.1) (xs_A j.2.2.2) (xs_A d.1) (xs_A d.2.1) (xs_A d.2.2.1) (xs_A d.2.2.2)) ht hy (fun v hv => by rw [v2 v hv]; exact st141))
    have st110 : wY_beside_110 post x y z (ys_m (if ys_pm j b t = 5 ∨ ys_pm j c u = 5 then 5 else if ys_pm j b t ≤ ys_pm j c u then ys_pm j c u else ys_pm j b t)) (nI (gr (ys_pc j b t) (ys_pc j c u))) (nI (ys_p1 j b t)) (nI o.1) (nI o.2.1) (nI p.1) (nI o.2.2.1) (nI o.2.2.2.1) (nI o.2.2.2.2.1) (nI s.1) (nI s.2) (nI o.2.2.2.2.2.1) (nI o.2.2.2.2.2.2.1) (nI o.2.2.2.2.2.2.2.1) (xs_A p.2.1) p.2.2.1 (xs_A p.2.2.2.1) (xs_A p.2.2.2.2) (xs_A o.2.2.2.2.2.2.2.2.1) (xs_A o.2.2.2.2.2.2.2.2.2.1) (xs_A o.2.2.2.2.2.2.2.2.2.2) (xs_A l) (xs_A j.1) (xs_A j.2.1) (ys_E j.2.2.1) (xs_A j.2.2.2) (xs_A d.1) (xs_A d.2.1) (xs_A d.2.2.1) (xs_A d.2.2.2) :=
      ys_br (A := fun v => wY_beside_124 post x y z (ys_m (if ys_pm j b t = 5 ∨ ys_pm j c u = 5 then 5 else if ys_pm j b t ≤ ys_pm j c u then ys_pm j c u else ys_pm j b t)) (nI (gr (ys_pc j b t) (ys_pc j c u))) v (nI (ys_p1 j b t)) (nI o.1) (nI o.2.1) (nI p.1) (nI o.2.2.1) (nI o.2.2.2.1) (nI o.2.2.2.2.1) (nI s.1) (nI s.2) (nI o.2.2.2.2.2.1) (nI o.2.2.2.2.2.2.1) (nI o.2.2.2.2.2.2.2.1) (xs_A p.2.1) p.2.2.1 (xs_A p.2.2.2.1) (xs_A p.2.2.2.2) (xs_A o.2.2.2.2.2.2.2.2.1) (xs_A o.2.2.2.2.2.2.2.2.2.1) (xs_A o.2.2.2.2.2.2.2.2.2.2) (xs_A l) (xs_A j.1) (xs_A j.2.1) (ys_E j.2.2.1) (xs_A j.2.2.2) (xs_A d.1) (xs_A d.2.1) (xs_A d.2.2.1) (xs_A d.2.2.2)) hu hz (fun v hv => by rw [v3 v hv]; exact st124)
    have st91 : wY_beside_91 post x y z (ys_m (if ys_pm j b t = 5 ∨ ys_pm j c u = 5 then 5 else if ys_pm j b t ≤ ys_pm j c u then ys_pm j c u else ys_pm j b t)) (nI (ys_pc j c u)) (nI (ys_pc j b t)) (nI o.1) (nI o.2.1) (nI p.1) (nI o.2.2.1) (nI o.2.2.2.1) (nI o.2.2.2.2.1) (nI s.1) (nI s.2) (nI o.2.2.2.2.2.1) (nI o.2.2.2.2.2.2.1) (nI o.2.2.2.2.2.2.2.1) (xs_A p.2.1) p.2.2.1 (xs_A p.2.2.2.1) (xs_A p.2.2.2.2) (xs_A o.2.2.2.2.2.2.2.2.1) (xs_A o.2.2.2.2.2.2.2.2.2.1) (xs_A o.2.2.2.2.2.2.2.2.2.2) (xs_A l) (xs_A j.1) (xs_A j.2.1) (ys_E j.2.2.1) (xs_A j.2.2.2) (xs_A d.1) (xs_A d.2.1) (xs_A d.2.2.1) (xs_A d.2.2.2) :=
      ys_greater (p := p) (o := o) (s := s) (l := l) (j := j) (d := d) rfl rfl (ys_br (A := fun v => wY_beside_110 post x y z (ys_m (if ys_pm j b t = 5 ∨ ys_pm j c u = 5 then 5 else if ys_pm j b t ≤ ys_pm j c u then ys_pm j c u else ys_pm j b t)) (nI (gr (ys_pc j b t) (ys_pc j c u))) v (nI o.1) (nI o.2.1) (nI p.1) (nI o.2.2.1) (nI o.2.2.2.1) (nI o.2.2.2.2.1) (nI s.1) (nI s.2) (nI o.2.2.2.2.2.1) (nI o.2.2.2.2.2.2.1) (nI o.2.2.2.2.2.2.2.1) (xs_A p.2.1) p.2.2.1 (xs_A p.2.2.2.1) (xs_A p.2.2.2.2) (xs_A o.2.2.2.2.2.2.2.2.1) (xs_A o.2.2.2.2.2.2.2.2.2.1) (xs_A o.2.2.2.2.2.2.2.2.2.2) (xs_A l) (xs_A j.1) (xs_A j.2.1) (ys_E j.2.2.1) (xs_A j.2.2.2) (xs_A d.1) (xs_A d.2.1) (xs_A d.2.2.1) (xs_A d.2.2.2)) ht hy (fun v hv => by rw [v4 v hv]; exact st110))
    have st77 : wY_beside_77 post x y z (ys_m (if ys_pm j b t = 5 ∨ ys_pm j c u = 5 then 5 else if ys_pm j b t ≤ ys_pm j c u then ys_pm j c u else ys_pm j b t)) (nI (ys_pc j b t)) (nI o.1) (nI o.2.1) (nI p.1) (nI o.2.2.1) (nI o.2.2.2.1) (nI o.2.2.2.2.1) (nI s.1) (nI s.2) (nI o.2.2.2.2.2.1) (nI o.2.2.2.2.2.2.1) (nI o.2.2.2.2.2.2.2.1) (xs_A p.2.1) p.2.2.1 (xs_A p.2.2.2.1) (xs_A p.2.2.2.2) (xs_A o.2.2.2.2.2.2.2.2.1) (xs_A o.2.2.2.2.2.2.2.2.2.1) (xs_A o.2.2.2.2.2.2.2.2.2.2) (xs_A l) (xs_A j.1) (xs_A j.2.1) (ys_E j.2.2.1) (xs_A j.2.2.2) (xs_A d.1) (xs_A d.2.1) (xs_A d.2.2.1) (xs_A d.2.2.2) :=
      ys_br (A := fun v => wY_beside_91 post x y z (ys_m (if ys_pm j b t = 5 ∨ ys_pm j c u = 5 then 5 else if ys_pm j b t ≤ ys_pm j c u then ys_pm j c u else ys_pm j b t)) v (nI (ys_pc j b t)) (nI o.1) (nI o.2.1) (nI p.1) (nI o.2.2.1) (nI o.2.2.2.1) (nI o.2.2.2.2.1) (nI s.1) (nI s.2) (nI o.2.2.2.2.2.1) (nI o.2.2.2.2.2.2.1) (nI o.2.2.2.2.2.2.2.1) (xs_A p.2.1) p.2.2.1 (xs_A p.2.2.2.1) (xs_A p.2.2.2.2) (xs_A o.2.2.2.2.2.2.2.2.1) (xs_A o.2.2.2.2.2.2.2.2.2.1) (xs_A o.2.2.2.2.2.2.2.2.2.2) (xs_A l) (xs_A j.1) (xs_A j.2.1) (ys_E j.2.2.1) (xs_A j.2.2.2) (xs_A d.1) (xs_A d.2.1) (xs_A d.2.2.1) (xs_A d.2.2.2)) hu hz (fun v hv => by rw [v5 v hv]; exact st91)
    have st60 : wY_beside_60 post x y z (ys_m (if ys_pm j b t = 5 ∨ ys_pm j c u = 5 then 5 else if ys_pm j b t ≤ ys_pm j c u then ys_pm j c u else ys_pm j b t)) (nI o.1) (nI o.2.1) (nI p.1) (nI o.2.2.1) (nI o.2.2.2.1) (nI o.2.2.2.2.1) (nI s.1) (nI s.2) (nI o.2.2.2.2.2.1) (nI o.2.2.2.2.2.2.1) (nI o.2.2.2.2.2.2.2.1) (xs_A p.2.1) p.2.2.1 (xs_A p.2.2.2.1) (xs_A p.2.2.2.2) (xs_A o.2.2.2.2.2.2.2.2.1) (xs_A o.2.2.2.2.2.2.2.2.2.1) (xs_A o.2.2.2.2.2.2.2.2.2.2) (xs_A l) (xs_A j.1) (xs_A j.2.1) (ys_E j.2.2.1) (xs_A j.2.2.2) (xs_A d.1) (xs_A d.2.1) (xs_A d.2.2.1) (xs_A d.2.2.2) :=
      ys_br (A := fun v => wY_beside_77 post x y z (ys_m (if ys_pm j b t = 5 ∨ ys_pm j c u = 5 then 5 else if ys_pm j b t ≤ ys_pm j c u then ys_pm j c u else ys_pm j b t)) v (nI o.1) (nI o.2.1) (nI p.1) (nI o.2.2.1) (nI o.2.2.2.1) (nI o.2.2.2.2.1) (nI s.1) (nI s.2) (nI o.2.2.2.2.2.1) (nI o.2.2.2.2.2.2.1) (nI o.2.2.2.2.2.2.2.1) (xs_A p.2.1) p.2.2.1 (xs_A p.2.2.2.1) (xs_A p.2.2.2.2) (xs_A o.2.2.2.2.2.2.2.2.1) (xs_A o.2.2.2.2.2.2.2.2.2.1) (xs_A o.2.2.2.2.2.2.2.2.2.2) (xs_A l) (xs_A j.1) (xs_A j.2.1) (ys_E j.2.2.1) (xs_A j.2.2.2) (xs_A d.1) (xs_A d.2.1) (xs_A d.2.2.1) (xs_A d.2.2.2)) ht hy (fun v hv => by rw [v6 v hv]; exact st77)
    have tn : ∀ m, m < 6 → (ys_m m < 0 ↔ m = 5) := by decide +kernel
    have tp : ∀ m, m < 6 → (0 ≤ ys_m m ↔ m ≠ 5) := by decide +kernel
    have tl : ∀ m, m < 6 → m ≠ 5 → ∀ n, n < 6 → n ≠ 5 → (ys_m m ≤ ys_m n ↔ m ≤ n) := by decide +kernel
    have st30 : wY_beside_30 post x y z (ys_m (ys_pm j b t)) (ys_m (ys_pm j c u)) (nI o.1) (nI o.2.1) (nI p.1) (nI o.2.2.1) (nI o.2.2.2.1) (nI o.2.2.2.2.1) (nI s.1) (nI s.2) (nI o.2.2.2.2.2.1) (nI o.2.2.2.2.2.2.1) (nI o.2.2.2.2.2.2.2.1) (xs_A p.2.1) p.2.2.1 (xs_A p.2.2.2.1) (xs_A p.2.2.2.2) (xs_A o.2.2.2.2.2.2.2.2.1) (xs_A o.2.2.2.2.2.2.2.2.2.1) (xs_A o.2.2.2.2.2.2.2.2.2.2) (xs_A l) (xs_A j.1) (xs_A j.2.1) (ys_E j.2.2.1) (xs_A j.2.2.2) (xs_A d.1) (xs_A d.2.1) (xs_A d.2.2.1) (xs_A d.2.2.2) := by
      by_cases e1 : ys_pm j b t = 5
      · rw [if_pos (Or.inl e1)] at st60
        exact br_t ((tn _ bm).mpr e1) st60
      by_cases e2 : ys_pm j c u = 5
      · rw [if_pos (Or.inr e2)] at st60
        exact br_f (fun q => e1 ((tn _ bm).mp q)) (br_f (fun q => (tp _ cm).mp q e2) st60)
      rw [if_neg (by omega)] at st60
      by_cases e3 : ys_pm j b t ≤ ys_pm j c u
      · rw [if_pos e3] at st60
        exact br_f (fun q => e1 ((tn _ bm).mp q)) (br_t ((tp _ cm).mpr e2) (br_t ((tl _ bm e1 _ cm e2).mpr e3) st60))
      · rw [if_neg e3] at st60
        exact br_f (fun q => e1 ((tn _ bm).mp q)) (br_t ((tp _ cm).mpr e2) (br_f (fun q => e3 ((tl _ bm e1 _ cm e2).mp q)) st60))
    have st14 : wY_beside_14 post x y z (ys_m (ys_pm j b t)) (nI o.1) (nI o.2.1) (nI p.1) (nI o.2.2.1) (nI o.2.2.2.1) (nI o.2.2.2.2.1) (nI s.1) (nI s.2) (nI o.2.2.2.2.2.1) (nI o.2.2.2.2.2.2.1) (nI o.2.2.2.2.2.2.2.1) (xs_A p.2.1) p.2.2.1 (xs_A p.2.2.2.1) (xs_A p.2.2.2.2) (xs_A o.2.2.2.2.2.2.2.2.1) (xs_A o.2.2.2.2.2.2.2.2.2.1) (xs_A o.2.2.2.2.2.2.2.2.2.2) (xs_A l) (xs_A j.1) (xs_A j.2.1) (ys_E j.2.2.1) (xs_A j.2.2.2) (xs_A d.1) (xs_A d.2.1) (xs_A d.2.2.1) (xs_A d.2.2.2) := ys_br (A := fun v => wY_beside_30 post x y z (ys_m (ys_pm j b t)) v (nI o.1) (nI o.2.1) (nI p.1) (nI o.2.2.1) (nI o.2.2.2.1) (nI o.2.2.2.2.1) (nI s.1) (nI s.2) (nI o.2.2.2.2.2.1) (nI o.2.2.2.2.2.2.1) (nI o.2.2.2.2.2.2.2.1) (xs_A p.2.1) p.2.2.1 (xs_A p.2.2.2.1) (xs_A p.2.2.2.2) (xs_A o.2.2.2.2.2.2.2.2.1) (xs_A o.2.2.2.2.2.2.2.2.2.1) (xs_A o.2.2.2.2.2.2.2.2.2.2) (xs_A l) (xs_A j.1) (xs_A j.2.1) (ys_E j.2.2.1) (xs_A j.2.2.2) (xs_A d.1) (xs_A d.2.1) (xs_A d.2.2.1) (xs_A d.2.2.2)) hu hz (fun v hv => by rw [v7 v hv]; exact st30)
    exact ys_br (A := fun v => wY_beside_14 post x y z v (nI o.1) (nI o.2.1) (nI p.1) (nI o.2.2.1) (nI o.2.2.2.1) (nI o.2.2.2.2.1) (nI s.1) (nI s.2) (nI o.2.2.2.2.2.1) (nI o.2.2.2.2.2.2.1) (nI o.2.2.2.2.2.2.2.1) (xs_A p.2.1) p.2.2.1 (xs_A p.2.2.2.1) (xs_A p.2.2.2.2) (xs_A o.2.2.2.2.2.2.2.2.1) (xs_A o.2.2.2.2.2.2.2.2.2.1) (xs_A o.2.2.2.2.2.2.2.2.2.2) (xs_A l) (xs_A j.1) (xs_A j.2.1) (ys_E j.2.2.1) (xs_A j.2.2.2) (xs_A d.1) (xs_A d.2.1) (xs_A d.2.2.1) (xs_A d.2.2.2)) ht hy (fun v hv => by rw [v8 v hv]; exact st14)
end
end
section
/-! ===== judgeStarted, judgeResumed ===== -/
/-- numbers as the reference keeps them: those that matter -/
def ys_N (p : ys_P) (nm : xs_f) (i : Nat) : Prop := p.2.1 i = 2 ∨ p.2.1 i = 3 ∨ p.2.1 i = 6 ∨ p.2.1 i = 9 → p.2.2.1 i = nI (nm i)
theorem yt_one : ∀ j, j < 5 → ∀ k, k < 5 → ((decide (j = k), !(1 <<< j : Nat).testBit k) : rv_V) = fa_one j k := by decide +kernel
theorem yt_ex : ∀ n, n < 3 → n + 2 < 5 ∧ 4 <<< n = 1 <<< (n + 2) ∧ 4 <<< n < 32 ∧ ys_m (n + 2) = nI n + 2 := by decide +kernel
theorem yt_emit : ∀ n, n < 6 → 1 <<< n < 64 ∧ ∀ s, s < 6 → ((Nat.testBit (1 <<< n) s, !Nat.testBit (1 <<< n) s) : rv_V) = if s = n then rv_T else rv_F := by decide +kernel
section
variable {p : ys_P} {o : ys_O} {s : Nat × Nat} {l : xs_f} {j : ys_J} {d : ys_D} {nm : xs_f} {i : Nat}
theorem ys_js (hi : i < 16) (h9 : p.2.1 i ≤ 9) (hn : nm i < 6) (hn3 : p.2.1 i = 3 → nm i < 3) (hN : ys_N p nm i) (hp : p.2.2.2.1 i < 16) (hq : p.2.2.2.2 i < 16) (hs : ∀ n, n < 6 → rv_con (ys_S s n))
    (B : 4 ≤ p.2.1 i → ys_B j (p.2.2.2.1 i)) (C : 7 ≤ p.2.1 i → ys_B j (p.2.2.2.2 i)) :
    ∃ me ce m cn, ys_out me ce m cn (rt_js p.2.1 nm p.2.2.2.1 p.2.2.2.2 (ys_S s) (yc j) i) (rt_es p.2.1 nm p.2.2.2.1 p.2.2.2.2 (ys_S s) (yc j) (ye j) i) ∧
    ∀ (post : SY → Prop), post (ys p o s l (ys_put j i me ce m cn) d) → wpY_judgeStarted post (ys p o s l j d) (nI i) := by
  have h32 : vp_in (nI i) 32 := vp_in_nI (by omega) (by omega)
  have i31 : i < 2 ^ 31 := by omega
  have i32 : i < 32 := by omega
  have en : p.2.1 i = 2 ∨ p.2.1 i = 3 ∨ p.2.1 i = 6 ∨ p.2.1 i = 9 → p.2.2.1 (nI i).toNatClampNeg = nI (nm i) := fun h => by rw [nI_clamp i31]; exact hN h
  have K := fun (c : Nat) (hc : c < 2 ^ 31) (h : p.2.1 i ≠ c) => xs_ne c (rfl : nI (p.2.1 i) = nI (p.2.1 i)) (by omega) hc h
  have z6 : ∀ q, q < 6 → ((Nat.testBit 0 q, !Nat.testBit 0 q) : rv_V) = rv_F := fun q _ => by rw [Nat.zero_testBit]; rfl
  by_cases e0 : p.2.1 i = 0
  · rw [rt_js0 e0]
    refine ⟨0, 0, 0, 1, ⟨by omega, by omega, by omega, by omega, fun k hk => yt_one 0 (by omega) k hk, fun q hq => ?_⟩, fun post h => ?_⟩
    · rw [rt_es0 (by omega) (by omega)]; exact z6 q hq
    · exact And.intro h32 (nm_r (e' := nI (p.2.1 i)) (xs_at i31) (And.intro h32 (nm_e (And.intro h32 (nm_r (e' := nI (p.2.2.2.1 i)) (xs_at i31) (And.intro h32 (nm_r (e' := nI (p.2.2.2.2 i)) (xs_at i31) (br_t (by rw [e0]; rfl) (ys_set rfl i32 rfl rfl rfl rfl h)))))))))
  by_cases e1 : p.2.1 i = 1
  · rw [rt_js1 e1]
    refine ⟨0, 0, 1, 2, ⟨by omega, by omega, by omega, by omega, fun k hk => yt_one 1 (by omega) k hk, fun q hq => ?_⟩, fun post h => ?_⟩
    · rw [rt_es0 (by omega) (by omega)]; exact z6 q hq
    · exact And.intro h32 (nm_r (e' := nI (p.2.1 i)) (xs_at i31) (And.intro h32 (nm_e (And.intro h32 (nm_r (e' := nI (p.2.2.2.1 i)) (xs_at i31) (And.intro h32 (nm_r (e' := nI (p.2.2.2.2 i)) (xs_at i31) (br_f (K 0 (by omega) e0) (br_t (by rw [e1]; rfl) (ys_set rfl i32 rfl rfl rfl rfl h))))))))))
  by_cases e2 : p.2.1 i = 2
  · rw [rt_js2 e2]
    have t := yt_emit _ hn
    refine ⟨1 <<< nm i, 1 <<< nm i, 0, 1, ⟨t.1, t.1, by omega, by omega, fun k hk => yt_one 0 (by omega) k hk, fun q hq => ?_⟩, fun post h => ?_⟩
    · rw [rt_es2 e2]; exact t.2 q hq
    · have sh : (1 : Int32) <<< (nI (nm i) &&& 31) = nI (1 <<< nm i) := yt_sh1 _ hn
      exact And.intro h32 (nm_r (e' := nI (p.2.1 i)) (xs_at i31) (And.intro h32 (nm_r (en (by omega)) (And.intro h32 (nm_r (e' := nI (p.2.2.2.1 i)) (xs_at i31) (And.intro h32 (nm_r (e' := nI (p.2.2.2.2 i)) (xs_at i31) (br_f (K 0 (by omega) e0) (br_f (K 1 (by omega) e1) (br_t (by rw [e2]; rfl) (ys_set rfl i32 sh sh rfl rfl h)))))))))))
  by_cases e3 : p.2.1 i = 3
  · rw [rt_js3 e3]
    have t := yt_ex _ (hn3 e3)
    refine ⟨0, 0, nm i + 2, 4 <<< nm i, ⟨by omega, by omega, by omega, t.2.2.1, fun k hk => by rw [t.2.1]; exact yt_one _ t.1 k hk, fun q hq => ?_⟩, fun post h => ?_⟩
    · rw [rt_es0 (by omega) (by omega)]; exact z6 q hq
    · exact And.intro h32 (nm_r (e' := nI (p.2.1 i)) (xs_at i31) (And.intro h32 (nm_r (en (by omega)) (And.intro h32 (nm_r (e' := nI (p.2.2.2.1 i)) (xs_at i31) (And.intro h32 (nm_r (e' := nI (p.2.2.2.2 i)) (xs_at i31) (br_f (K 0 (by omega) e0) (br_f (K 1 (by omega) e1) (br_f (K 2 (by omega) e2) (br_t (by rw [e3]; rfl) (ys_set rfl i32 rfl rfl t.2.2.2.symm (yt_sh4 _ (hn3 e3)) h))))))))))))
  have go : ∀ post : SY → Prop, _ → wpY_judgeStarted post (ys p o s l j d) (nI i) := fun post H =>
    And.intro h32 (nm_r (e' := nI (p.2.1 i)) (xs_at i31) (And.intro h32 (nm_e (And.intro h32 (nm_r (e' := nI (p.2.2.2.1 i)) (xs_at i31) (And.intro h32 (nm_r (e' := nI (p.2.2.2.2 i)) (xs_at i31) (br_f (K 0 (by omega) e0) (br_f (K 1 (by omega) e1) (br_f (K 2 (by omega) e2) (br_f (K 3 (by omega) e3) H)))))))))))
  by_cases e4 : p.2.1 i = 4
  · rw [rt_js4 e4]
    obtain ⟨me, ce, m, cn, ⟨o1, o2, o3, o4, o5, o6⟩, W⟩ := ys_again (p := p) (o := o) (s := s) (l := l) (d := d) (a := i) (t := p.2.2.2.1 i) i32 (by omega) (B (by omega))
    exact ⟨me, ce, m, cn, ⟨o1, o2, o3, o4, o5, fun q hq => by rw [rt_es4 (by omega) (by omega)]; exact o6 q hq⟩, fun post h => go post (br_t (by rw [e4]; rfl) (W _ _ _ rfl rfl h))⟩
  by_cases e5 : p.2.1 i = 5
  · rw [rt_js5 e5]
    obtain ⟨me, ce, m, cn, ⟨o1, o2, o3, o4, o5, o6⟩, W⟩ := ys_trapped (p := p) (o := o) (s := s) (l := l) (d := d) (a := i) (t := p.2.2.2.1 i) i32 (by omega) (B (by omega))
    exact ⟨me, ce, m, cn, ⟨o1, o2, o3, o4, o5, fun q hq => by rw [rt_es4 (by omega) (by omega)]; exact o6 q hq⟩, fun post h => go post (br_f (K 4 (by omega) e4) (br_t (by rw [e5]; rfl) (W _ _ _ rfl rfl h)))⟩
  by_cases e6 : p.2.1 i = 6
  · rw [rt_js6 e6]
    obtain ⟨o1, o2, o3, o4, o5, o6⟩ := ys_out_self (B (by omega))
    exact ⟨_, _, _, _, ⟨o1, o2, o3, o4, o5, fun q hq => by rw [rt_es4 (by omega) (by omega)]; exact o6 q hq⟩, fun post h => go post (br_f (K 4 (by omega) e4) (br_f (K 5 (by omega) e5) (br_t (by rw [e6]; rfl) (ys_copy i32 (by omega) _ _ _ rfl rfl h))))⟩
  by_cases e7 : p.2.1 i = 7
  · rw [rt_js7 e7]
    obtain ⟨me, ce, m, cn, ⟨o1, o2, o3, o4, o5, o6⟩, W⟩ := ys_follow (p := p) (o := o) (s := s) (l := l) (d := d) (a := i) (t := p.2.2.2.1 i) (u := p.2.2.2.2 i) i32 (by omega) (by omega) (B (by omega)) (C (by omega))
    exact ⟨me, ce, m, cn, ⟨o1, o2, o3, o4, o5, fun q hq => by rw [rt_es7 e7]; exact o6 q hq⟩, fun post h => go post (br_f (K 4 (by omega) e4) (br_f (K 5 (by omega) e5) (br_f (K 6 (by omega) e6) (br_t (by rw [e7]; rfl) (W _ _ _ _ rfl rfl rfl h)))))⟩
  by_cases e8 : p.2.1 i = 8
  · rw [rt_js8 e8]
    obtain ⟨me, ce, m, cn, ⟨o1, o2, o3, o4, o5, o6⟩, W⟩ := ys_beside (p := p) (o := o) (s := s) (l := l) (d := d) (a := i) (t := p.2.2.2.1 i) (u := p.2.2.2.2 i) (b := true) (c := true) i32 (by omega) (by omega) (fun _ => B (by omega)) (fun _ => C (by omega))
    exact ⟨me, ce, m, cn, ⟨o1, o2, o3, o4, o5, fun q hq => by rw [rt_es8 e8]; exact o6 q hq⟩, fun post h => go post (br_f (K 4 (by omega) e4) (br_f (K 5 (by omega) e5) (br_f (K 6 (by omega) e6) (br_f (K 7 (by omega) e7) (br_t (by rw [e8]; rfl) (W _ _ _ _ rfl rfl rfl h))))))⟩
  · have e9 : p.2.1 i = 9 := by omega
    rw [rt_js9 e9]
    obtain ⟨me, ce, m, cn, ⟨o1, o2, o3, o4, o5, o6⟩, W⟩ := ys_either (p := p) (o := o) (l := l) (d := d) (a := i) (n := nm i) (t := p.2.2.2.1 i) (u := p.2.2.2.2 i) i32 hn (by omega) (by omega) (B (by omega)) (C (by omega)) (hs _ hn)
    exact ⟨me, ce, m, cn, ⟨o1, o2, o3, o4, o5, fun q hq => by rw [rt_es9 e9]; exact o6 q hq⟩, fun post h => go post (br_f (K 4 (by omega) e4) (br_f (K 5 (by omega) e5) (br_f (K 6 (by omega) e6) (br_f (K 7 (by omega) e7) (br_f (K 8 (by omega) e8) (W _ _ _ _ _ rfl (en (by omega)) rfl rfl h))))))⟩
/-- whether it is on; whether it is active -/
def ys_on (o : ys_O) (i : Nat) : Bool := decide (o.2.2.2.2.2.2.2.2.2.2 i = 1)
def ys_al (l : xs_f) (i : Nat) : Bool := decide (l i = 1)
theorem ys_b0 {f : xs_f} {i : Nat} (hi : i < 2 ^ 31) (h1 : f i ≤ 1) {A B : Prop} (a : decide (f i = 1) = false → A) (b : decide (f i = 1) = true → B) : (xs_A f (nI i).toNatClampNeg = 0 → A) ∧ (¬ xs_A f (nI i).toNatClampNeg = 0 → B) := by
  by_cases e : f i = 0
  · exact br_t (xs_at' hi e) (a (decide_eq_false (by omega)))
  · exact br_f (by rw [xs_at hi]; exact nI_ne0 (by omega) (by omega)) (b (decide_eq_true (by omega)))
theorem ys_jr (hi : i < 16) (h9 : p.2.1 i ≤ 9) (hn : nm i < 6) (hN : ys_N p nm i) (hp : p.2.2.2.1 i < 16) (hq : p.2.2.2.2 i < 16) (hs : ∀ n, n < 6 → rv_con (ys_S s n)) (hon : ∀ t, t < 16 → o.2.2.2.2.2.2.2.2.2.2 t ≤ 1) (hl : ∀ t, t < 16 → l t ≤ 1)
    (B : 4 ≤ p.2.1 i → ys_B j (p.2.2.2.1 i) ∧ ys_B j (16 + p.2.2.2.1 i)) (C : 7 ≤ p.2.1 i → ys_B j (p.2.2.2.2 i) ∧ ys_B j (16 + p.2.2.2.2 i)) :
    ∃ me ce m cn, ys_out me ce m cn (rt_jr p.2.1 nm p.2.2.2.1 p.2.2.2.2 (ys_on o) (ys_al l) (ys_S s) (yc j) i) (rt_er p.2.1 nm p.2.2.2.1 p.2.2.2.2 (ys_on o) (ys_al l) (ys_S s) (yc j) (ye j) i) ∧
    ∀ (post : SY → Prop), post (ys p o s l (ys_put j (16 + i) me ce m cn) d) → wpY_judgeResumed post (ys p o s l j d) (nI i) := by
  have h32 : vp_in (nI i) 32 := vp_in_nI (by omega) (by omega)
  have h16 : vp_in (nI i) 16 := vp_in_nI hi (by omega)
  have p16 : vp_in (nI (p.2.2.2.1 i)) 16 := vp_in_nI hp (by omega)
  have q16 : vp_in (nI (p.2.2.2.2 i)) 16 := vp_in_nI hq (by omega)
  have i31 : i < 2 ^ 31 := by omega
  have i32 : 16 + i < 32 := by omega
  have ei : (16 : Int32) + nI i = nI (16 + i) := nI_add 16 i
  have ep : (16 : Int32) + nI (p.2.2.2.1 i) = nI (16 + p.2.2.2.1 i) := nI_add 16 _
  have eq : (16 : Int32) + nI (p.2.2.2.2 i) = nI (16 + p.2.2.2.2 i) := nI_add 16 _
  have en : p.2.1 i = 2 ∨ p.2.1 i = 3 ∨ p.2.1 i = 6 ∨ p.2.1 i = 9 → p.2.2.1 (nI i).toNatClampNeg = nI (nm i) := fun h => by rw [nI_clamp i31]; exact hN h
  have K := fun (c : Nat) (hc : c < 2 ^ 31) (h : p.2.1 i ≠ c) => xs_ne c (rfl : nI (p.2.1 i) = nI (p.2.1 i)) (by omega) hc h
  have z6 : ∀ q, q < 6 → ((Nat.testBit 0 q, !Nat.testBit 0 q) : rv_V) = rv_F := fun q _ => by rw [Nat.zero_testBit]; rfl
  by_cases h4 : p.2.1 i < 4
  · rw [rt_jr0 h4]
    refine ⟨0, 0, 0, 1, ⟨by omega, by omega, by omega, by omega, fun k hk => yt_one 0 (by omega) k hk, fun q hq => ?_⟩, fun post h => ?_⟩
    · rw [rt_er0 h4]; exact z6 q hq
    · exact nm_r ei (And.intro h32 (nm_r (e' := nI (p.2.1 i)) (xs_at i31) (And.intro h32 (nm_r (e' := nI (p.2.2.2.1 i)) (xs_at i31) (And.intro h32 (nm_r (e' := nI (p.2.2.2.2 i)) (xs_at i31) (br_f (nI_ge (b := 4) h4 (by omega)) (ys_set rfl i32 rfl rfl rfl rfl h))))))))
  have go : ∀ post : SY → Prop, _ → wpY_judgeResumed post (ys p o s l j d) (nI i) := fun post H =>
    nm_r ei (And.intro h32 (nm_r (e' := nI (p.2.1 i)) (xs_at i31) (And.intro h32 (nm_r (e' := nI (p.2.2.2.1 i)) (xs_at i31) (And.intro h32 (nm_r (e' := nI (p.2.2.2.2 i)) (xs_at i31) (br_t (nI_le (a := 4) (by omega) (by omega)) H)))))))
  have alp := hl _ hp
  have alq := hl _ hq
  by_cases e4 : p.2.1 i = 4
  · rw [rt_jr4 e4]
    cases hb : ys_on o i with
    | true =>
      obtain ⟨me, ce, m, cn, ⟨o1, o2, o3, o4, o5, o6⟩, W⟩ := ys_again (p := p) (o := o) (s := s) (l := l) (d := d) (a := 16 + i) (t := p.2.2.2.1 i) i32 (by omega) (B (by omega)).1
      exact ⟨me, ce, m, cn, ⟨o1, o2, o3, o4, o5, fun q hq => by rw [rt_er4 e4, hb]; exact o6 q hq⟩, fun post h => go post (br_t (by rw [e4]; rfl) (And.intro h16 (ys_b0 i31 (hon i hi) (fun f => absurd (hb.symm.trans f) (by decide)) (fun _ => W _ _ _ rfl rfl h))))⟩
    | false =>
      obtain ⟨me, ce, m, cn, ⟨o1, o2, o3, o4, o5, o6⟩, W⟩ := ys_again (p := p) (o := o) (s := s) (l := l) (d := d) (a := 16 + i) (t := 16 + p.2.2.2.1 i) i32 (by omega) (B (by omega)).2
      exact ⟨me, ce, m, cn, ⟨o1, o2, o3, o4, o5, fun q hq => by rw [rt_er4 e4, hb]; exact o6 q hq⟩, fun post h => go post (br_t (by rw [e4]; rfl) (And.intro h16 (ys_b0 i31 (hon i hi) (fun _ => W _ _ _ rfl ep h) (fun f => absurd (hb.symm.trans f) (by decide)))))⟩
  by_cases e5 : p.2.1 i = 5
  · rw [rt_jr5 e5]
    obtain ⟨me, ce, m, cn, ⟨o1, o2, o3, o4, o5, o6⟩, W⟩ := ys_trapped (p := p) (o := o) (s := s) (l := l) (d := d) (a := 16 + i) (t := 16 + p.2.2.2.1 i) i32 (by omega) (B (by omega)).2
    exact ⟨me, ce, m, cn, ⟨o1, o2, o3, o4, o5, fun q hq => by rw [rt_er5 e5]; exact o6 q hq⟩, fun post h => go post (br_f (K 4 (by omega) e4) (br_t (by rw [e5]; rfl) (W _ _ _ rfl ep h)))⟩
  by_cases e6 : p.2.1 i = 6
  · rw [rt_jr6 e6]
    obtain ⟨me, ce, m, cn, ⟨o1, o2, o3, o4, o5, o6⟩, W⟩ := ys_suspended (p := p) (o := o) (l := l) (d := d) (a := 16 + i) (n := nm i) (t := 16 + p.2.2.2.1 i) i32 hn (by omega) (B (by omega)).2 (hs _ hn)
    exact ⟨me, ce, m, cn, ⟨o1, o2, o3, o4, o5, fun q hq => by rw [rt_er6 e6]; exact o6 q hq⟩, fun post h => go post (br_f (K 4 (by omega) e4) (br_f (K 5 (by omega) e5) (br_t (by rw [e6]; rfl) (And.intro h32 (W _ _ _ _ rfl (en (by omega)) ep h)))))⟩
  by_cases e8 : p.2.1 i = 8
  · rw [rt_jr8 e8]
    obtain ⟨me, ce, m, cn, ⟨o1, o2, o3, o4, o5, o6⟩, W⟩ := ys_beside (p := p) (o := o) (s := s) (l := l) (d := d) (a := 16 + i) (t := 16 + p.2.2.2.1 i) (u := 16 + p.2.2.2.2 i) (b := ys_al l (p.2.2.2.1 i)) (c := ys_al l (p.2.2.2.2 i)) i32 (by omega) (by omega) (fun _ => (B (by omega)).2) (fun _ => (C (by omega)).2)
    refine ⟨me, ce, m, cn, ⟨o1, o2, o3, o4, o5, fun q hq => by rw [rt_er8 e8]; exact o6 q hq⟩, fun post h => go post (br_f (K 4 (by omega) e4) (br_f (K 5 (by omega) e5) (br_f (K 6 (by omega) e6) (br_t (by rw [e8]; rfl) (And.intro p16 ?_)))))⟩
    have st : ∀ z, z = ys_pl (ys_al l (p.2.2.2.1 i)) (16 + p.2.2.2.1 i) → wY_judgeResumed_147 post (nI (p.2.2.2.2 i)) z (nI (16 + i)) (nI o.1) (nI o.2.1) (nI p.1) (nI o.2.2.1) (nI o.2.2.2.1) (nI o.2.2.2.2.1) (nI s.1) (nI s.2) (nI o.2.2.2.2.2.1) (nI o.2.2.2.2.2.2.1) (nI o.2.2.2.2.2.2.2.1) (xs_A p.2.1) p.2.2.1 (xs_A p.2.2.2.1) (xs_A p.2.2.2.2) (xs_A o.2.2.2.2.2.2.2.2.1) (xs_A o.2.2.2.2.2.2.2.2.2.1) (xs_A o.2.2.2.2.2.2.2.2.2.2) (xs_A l) (xs_A j.1) (xs_A j.2.1) (ys_E j.2.2.1) (xs_A j.2.2.2) (xs_A d.1) (xs_A d.2.1) (xs_A d.2.2.1) (xs_A d.2.2.2) := fun z hz =>
      And.intro q16 (ys_b0 (by omega) alq (fun f => W _ _ _ _ rfl hz (by unfold ys_al; rw [f]; rfl) h) (fun f => W _ _ _ _ rfl hz (by unfold ys_al; rw [f]; exact eq) h))
    exact ys_b0 (by omega) alp (fun f => st _ (by unfold ys_al; rw [f]; rfl)) (fun f => st _ (by unfold ys_al; rw [f]; exact ep))
  by_cases e7 : p.2.1 i = 7
  · rw [rt_jr7 e7]
    cases ha : ys_al l (p.2.2.2.1 i) with
    | true =>
      obtain ⟨me, ce, m, cn, ⟨o1, o2, o3, o4, o5, o6⟩, W⟩ := ys_follow (p := p) (o := o) (s := s) (l := l) (d := d) (a := 16 + i) (t := 16 + p.2.2.2.1 i) (u := p.2.2.2.2 i) i32 (by omega) (by omega) (B (by omega)).2 (C (by omega)).1
      exact ⟨me, ce, m, cn, ⟨o1, o2, o3, o4, o5, fun q hq => by rw [rt_er7 e7, ha]; exact o6 q hq⟩, fun post h => go post (br_f (K 4 (by omega) e4) (br_f (K 5 (by omega) e5) (br_f (K 6 (by omega) e6) (br_f (K 8 (by omega) e8) (br_t (by rw [e7]; rfl) (And.intro p16 (ys_b0 (by omega) alp (fun f => absurd (ha.symm.trans f) (by decide)) (fun _ => W _ _ _ _ rfl ep rfl h))))))))⟩
    | false =>
      obtain ⟨o1, o2, o3, o4, o5, o6⟩ := ys_out_self (C (by omega)).2
      exact ⟨_, _, _, _, ⟨o1, o2, o3, o4, o5, fun q hq => by rw [rt_er7 e7, ha]; exact o6 q hq⟩, fun post h => go post (br_f (K 4 (by omega) e4) (br_f (K 5 (by omega) e5) (br_f (K 6 (by omega) e6) (br_f (K 8 (by omega) e8) (br_t (by rw [e7]; rfl) (And.intro p16 (ys_b0 (by omega) alp (fun _ => And.intro p16 (ys_b0 (by omega) alp (fun _ => ys_copy i32 (by omega) _ _ _ rfl eq h) (fun f => absurd (ha.symm.trans f) (by decide)))) (fun f => absurd (ha.symm.trans f) (by decide)))))))))⟩
  · have e9 : p.2.1 i = 9 := by omega
    rw [rt_jr9 e9]
    cases ha : ys_al l (p.2.2.2.1 i) with
    | true =>
      obtain ⟨o1, o2, o3, o4, o5, o6⟩ := ys_out_self (B (by omega)).2
      exact ⟨_, _, _, _, ⟨o1, o2, o3, o4, o5, fun q hq => by rw [rt_er9 e9, ha]; exact o6 q hq⟩, fun post h => go post (br_f (K 4 (by omega) e4) (br_f (K 5 (by omega) e5) (br_f (K 6 (by omega) e6) (br_f (K 8 (by omega) e8) (br_f (K 7 (by omega) e7) (And.intro p16 (ys_b0 (by omega) alp (fun f => absurd (ha.symm.trans f) (by decide)) (fun _ => ys_copy i32 (by omega) _ _ _ rfl ep h))))))))⟩
    | false =>
      obtain ⟨o1, o2, o3, o4, o5, o6⟩ := ys_out_self (C (by omega)).2
      exact ⟨_, _, _, _, ⟨o1, o2, o3, o4, o5, fun q hq => by rw [rt_er9 e9, ha]; exact o6 q hq⟩, fun post h => go post (br_f (K 4 (by omega) e4) (br_f (K 5 (by omega) e5) (br_f (K 6 (by omega) e6) (br_f (K 8 (by omega) e8) (br_f (K 7 (by omega) e7) (And.intro p16 (ys_b0 (by omega) alp (fun _ => ys_copy i32 (by omega) _ _ _ rfl eq h) (fun f => absurd (ha.symm.trans f) (by decide)))))))))⟩
end
end
section
/-! ===== one round over all statements ===== -/
section
variable {kd nm pp pq : Nat → Nat} {on al : Nat → Bool} {S : Nat → rv_V} {C E C' E' : Nat → Nat → rv_V} {i : Nat}
theorem rt_js_cg (h9 : kd i ≤ 9) (hp : 4 ≤ kd i → C' (pp i) = C (pp i)) (hq : 7 ≤ kd i → C' (pq i) = C (pq i)) : rt_js kd nm pp pq S C' i = rt_js kd nm pp pq S C i := by
  by_cases e0 : kd i = 0
  · rw [rt_js0 e0, rt_js0 e0]
  by_cases e1 : kd i = 1
  · rw [rt_js1 e1, rt_js1 e1]
  by_cases e2 : kd i = 2
  · rw [rt_js2 e2, rt_js2 e2]
  by_cases e3 : kd i = 3
  · rw [rt_js3 e3, rt_js3 e3]
  have p := hp (by omega)
  by_cases e4 : kd i = 4
  · rw [rt_js4 e4, rt_js4 e4, p]
  by_cases e5 : kd i = 5
  · rw [rt_js5 e5, rt_js5 e5, p]
  by_cases e6 : kd i = 6
  · rw [rt_js6 e6, rt_js6 e6, p]
  have q := hq (by omega)
  by_cases e7 : kd i = 7
  · rw [rt_js7 e7, rt_js7 e7, p, q]
  by_cases e8 : kd i = 8
  · rw [rt_js8 e8, rt_js8 e8, p, q]
  · rw [rt_js9 (by omega), rt_js9 (by omega), p, q]
theorem rt_es_cg {s : Nat} (h9 : kd i ≤ 9) (hp : 4 ≤ kd i → C' (pp i) = C (pp i) ∧ E' (pp i) = E (pp i)) (hq : 7 ≤ kd i → E' (pq i) = E (pq i)) : rt_es kd nm pp pq S C' E' i s = rt_es kd nm pp pq S C E i s := by
  by_cases e2 : kd i = 2
  · rw [rt_es2 e2, rt_es2 e2]
  by_cases e4 : kd i < 4
  · rw [rt_es0 e2 e4, rt_es0 e2 e4]
  have p := hp (by omega)
  by_cases e6 : kd i < 7
  · rw [rt_es4 (by omega) e6, rt_es4 (by omega) e6, p.2]
  have q := hq (by omega)
  by_cases e7 : kd i = 7
  · rw [rt_es7 e7, rt_es7 e7, p.1, p.2, q]
  by_cases e8 : kd i = 8
  · rw [rt_es8 e8, rt_es8 e8, p.2, q]
  · rw [rt_es9 (by omega), rt_es9 (by omega), p.2, q]
theorem rt_jr_cg (h9 : kd i ≤ 9) (hp : 4 ≤ kd i → C' (pp i) = C (pp i) ∧ C' (16 + pp i) = C (16 + pp i)) (hq : 7 ≤ kd i → C' (pq i) = C (pq i) ∧ C' (16 + pq i) = C (16 + pq i)) : rt_jr kd nm pp pq on al S C' i = rt_jr kd nm pp pq on al S C i := by
  by_cases e3 : kd i < 4
  · rw [rt_jr0 e3, rt_jr0 e3]
  have p := hp (by omega)
  by_cases e4 : kd i = 4
  · rw [rt_jr4 e4, rt_jr4 e4, p.1, p.2]
  by_cases e5 : kd i = 5
  · rw [rt_jr5 e5, rt_jr5 e5, p.2]
  by_cases e6 : kd i = 6
  · rw [rt_jr6 e6, rt_jr6 e6, p.2]
  have q := hq (by omega)
  by_cases e7 : kd i = 7
  · rw [rt_jr7 e7, rt_jr7 e7, p.2, q.1, q.2]
  by_cases e8 : kd i = 8
  · rw [rt_jr8 e8, rt_jr8 e8, p.2, q.2]
  · rw [rt_jr9 (by omega), rt_jr9 (by omega), p.2, q.2]
theorem rt_er_cg {s : Nat} (h9 : kd i ≤ 9) (hp : 4 ≤ kd i → (C' (pp i) = C (pp i) ∧ E' (pp i) = E (pp i)) ∧ (C' (16 + pp i) = C (16 + pp i) ∧ E' (16 + pp i) = E (16 + pp i)))
    (hq : 7 ≤ kd i → (C' (pq i) = C (pq i) ∧ E' (pq i) = E (pq i)) ∧ (C' (16 + pq i) = C (16 + pq i) ∧ E' (16 + pq i) = E (16 + pq i))) : rt_er kd nm pp pq on al S C' E' i s = rt_er kd nm pp pq on al S C E i s := by
  by_cases e3 : kd i < 4
  · rw [rt_er0 e3, rt_er0 e3]
  have p := hp (by omega)
  by_cases e4 : kd i = 4
  · rw [rt_er4 e4, rt_er4 e4, p.1.2, p.2.2]
  by_cases e5 : kd i = 5
  · rw [rt_er5 e5, rt_er5 e5, p.2.2]
  by_cases e6 : kd i = 6
  · rw [rt_er6 e6, rt_er6 e6, p.2.2]
  have q := hq (by omega)
  by_cases e7 : kd i = 7
  · rw [rt_er7 e7, rt_er7 e7, p.2.1, p.2.2, q.1.2, q.2.2]
  by_cases e8 : kd i = 8
  · rw [rt_er8 e8, rt_er8 e8, p.2.2, q.2.2]
  · rw [rt_er9 (by omega), rt_er9 (by omega), p.2.2, q.2.2]
end
theorem yc_put {j : ys_J} {a me ce m cn t : Nat} (h : t ≠ a) : yc (ys_put j a me ce m cn) t = yc j t ∧ ye (ys_put j a me ce m cn) t = ye j t := by
  constructor
  · funext k
    show (decide (xs_u j.2.2.1 a m t = k), !(xs_u j.2.2.2 a cn t).testBit k) = _
    rw [xs_un h, xs_un h]; rfl
  · funext k
    show ((xs_u j.1 a me t).testBit k, !(xs_u j.2.1 a ce t).testBit k) = _
    rw [xs_un h, xs_un h]; rfl
theorem ys_B_put {j : ys_J} {a me ce m cn t : Nat} (h : t ≠ a) : ys_B (ys_put j a me ce m cn) t ↔ ys_B j t := by
  show (xs_u j.1 a me t < 64 ∧ xs_u j.2.1 a ce t < 64 ∧ xs_u j.2.2.1 a m t ≤ 5 ∧ xs_u j.2.2.2 a cn t < 32) ↔ _
  rw [xs_un h, xs_un h, xs_un h, xs_un h]; rfl
theorem ys_B_new {j : ys_J} {a me ce m cn : Nat} {c e : Nat → rv_V} (h : ys_out me ce m cn c e) : ys_B (ys_put j a me ce m cn) a ∧ (∀ k, k < 5 → yc (ys_put j a me ce m cn) a k = c k) ∧ (∀ s, s < 6 → ye (ys_put j a me ce m cn) a s = e s) := by
  refine ⟨?_, fun k hk => ?_, fun s hs => ?_⟩
  · show xs_u j.1 a me a < 64 ∧ xs_u j.2.1 a ce a < 64 ∧ xs_u j.2.2.1 a m a ≤ 5 ∧ xs_u j.2.2.2 a cn a < 32
    rw [xs_us, xs_us, xs_us, xs_us]; exact ⟨h.1, h.2.1, h.2.2.1, h.2.2.2.1⟩
  · show (decide (xs_u j.2.2.1 a m a = k), !(xs_u j.2.2.2 a cn a).testBit k) = _
    rw [xs_us, xs_us]; exact h.2.2.2.2.1 k hk
  · show ((xs_u j.1 a me a).testBit s, !(xs_u j.2.1 a ce a).testBit s) = _
    rw [xs_us, xs_us]; exact h.2.2.2.2.2 s hs
/-- must and can are worked out for the statements before i -/
def ys_I (p : ys_P) (nm : xs_f) (on al : Nat → Bool) (S : Nat → rv_V) (j : ys_J) (i : Nat) : Prop :=
  ∀ t, t < i → ys_B j t ∧ ys_B j (16 + t) ∧ rt_Ref p.2.1 nm p.2.2.2.1 p.2.2.2.2 on al S (yc j) (ye j) t
section
variable {p : ys_P} {o : ys_O} {s : Nat × Nat} {l : xs_f} {d : ys_D} {nm lo : xs_f}
theorem ys_round (hz : p.1 ≤ 16) (hT : ∀ i, i < p.1 → rt_Nd p.2.1 nm p.2.2.2.1 p.2.2.2.2 lo i) (hN : ∀ i, i < p.1 → ys_N p nm i) (hs : ∀ n, n < 6 → rv_con (ys_S s n)) (hon : ∀ t, t < 16 → o.2.2.2.2.2.2.2.2.2.2 t ≤ 1) (hl : ∀ t, t < 16 → l t ≤ 1) :
    ∀ e i, i + e = p.1 → ∀ j, ys_I p nm (ys_on o) (ys_al l) (ys_S s) j i → ∃ j', ys_I p nm (ys_on o) (ys_al l) (ys_S s) j' p.1 ∧
      ∀ (post : Int32 → SY → Prop) J x2 x3, wY_find_77 post J x2 x3 1 (nI p.1) (nI o.1) (nI o.2.1) (nI p.1) (nI o.2.2.1) (nI o.2.2.2.1) (nI o.2.2.2.2.1) (nI s.1) (nI s.2) (nI o.2.2.2.2.2.1) (nI o.2.2.2.2.2.2.1) (nI o.2.2.2.2.2.2.2.1) (xs_A p.2.1) p.2.2.1 (xs_A p.2.2.2.1) (xs_A p.2.2.2.2) (xs_A o.2.2.2.2.2.2.2.2.1) (xs_A o.2.2.2.2.2.2.2.2.2.1) (xs_A o.2.2.2.2.2.2.2.2.2.2) (xs_A l) (xs_A j'.1) (xs_A j'.2.1) (ys_E j'.2.2.1) (xs_A j'.2.2.2) (xs_A d.1) (xs_A d.2.1) (xs_A d.2.2.1) (xs_A d.2.2.2) → wY_find_77 post J x2 x3 (1 + e) (nI i) (nI o.1) (nI o.2.1) (nI p.1) (nI o.2.2.1) (nI o.2.2.2.1) (nI o.2.2.2.2.1) (nI s.1) (nI s.2) (nI o.2.2.2.2.2.1) (nI o.2.2.2.2.2.2.1) (nI o.2.2.2.2.2.2.2.1) (xs_A p.2.1) p.2.2.1 (xs_A p.2.2.2.1) (xs_A p.2.2.2.2) (xs_A o.2.2.2.2.2.2.2.2.1) (xs_A o.2.2.2.2.2.2.2.2.2.1) (xs_A o.2.2.2.2.2.2.2.2.2.2) (xs_A l) (xs_A j.1) (xs_A j.2.1) (ys_E j.2.2.1) (xs_A j.2.2.2) (xs_A d.1) (xs_A d.2.1) (xs_A d.2.2.1) (xs_A d.2.2.2) := by
  intro e
  induction e with
  | zero => intro i hi j I; have e : i = p.1 := by omega
            subst e; exact ⟨j, I, fun post J x2 x3 H => H⟩
  | succ e ih =>
    intro i hi j I
    have T := hT i (by omega)
    have P := rt_Nd_p hT (i := i) (by omega)
    have k9 := T.1
    have Bp : 4 ≤ p.2.1 i → ys_B j (p.2.2.2.1 i) ∧ ys_B j (16 + p.2.2.2.1 i) := fun h => ⟨(I _ (P.1 h).2).1, (I _ (P.1 h).2).2.1⟩
    have Bq : 7 ≤ p.2.1 i → ys_B j (p.2.2.2.2 i) ∧ ys_B j (16 + p.2.2.2.2 i) := fun h => ⟨(I _ (P.2 h).2.1).1, (I _ (P.2 h).2.1).2.1⟩
    obtain ⟨m1, m2, m3, m4, O1, W1⟩ := ys_js (p := p) (o := o) (s := s) (l := l) (j := j) (d := d) (nm := nm) (i := i) (by omega) k9 T.2.1 T.2.2.1 (hN i (by omega)) T.2.2.2.2.1 T.2.2.2.2.2.1 hs (fun h => (Bp h).1) (fun h => (Bq h).1)
    have pl := fun (t : Nat) (h : t ≠ i) => yc_put (j := j) (me := m1) (ce := m2) (m := m3) (cn := m4) h
    have pB := fun (t : Nat) (h : t ≠ i) => ys_B_put (j := j) (me := m1) (ce := m2) (m := m3) (cn := m4) h
    have N1 := ys_B_new (j := j) (a := i) O1
    obtain ⟨n1, n2, n3, n4, O2, W2⟩ := ys_jr (p := p) (o := o) (s := s) (l := l) (j := ys_put j i m1 m2 m3 m4) (d := d) (nm := nm) (i := i) (by omega) k9 T.2.1 (hN i (by omega)) T.2.2.2.2.1 T.2.2.2.2.2.1 hs hon hl
      (fun h => ⟨(pB _ (by have := P.1 h; omega)).mpr (Bp h).1, (pB _ (by have := P.1 h; omega)).mpr (Bp h).2⟩) (fun h => ⟨(pB _ (by have := P.2 h; omega)).mpr (Bq h).1, (pB _ (by have := P.2 h; omega)).mpr (Bq h).2⟩)
    have ql := fun (t : Nat) (h : t ≠ 16 + i) => yc_put (j := ys_put j i m1 m2 m3 m4) (me := n1) (ce := n2) (m := n3) (cn := n4) h
    have qB := fun (t : Nat) (h : t ≠ 16 + i) => ys_B_put (j := ys_put j i m1 m2 m3 m4) (me := n1) (ce := n2) (m := n3) (cn := n4) h
    have N2 := ys_B_new (j := ys_put j i m1 m2 m3 m4) (a := 16 + i) O2
    have al := fun (t : Nat) (h : t ≠ i) (h' : t ≠ 16 + i) => And.intro ((ql t h').1.trans (pl t h).1) ((ql t h').2.trans (pl t h).2)
    obtain ⟨j', I', K⟩ := ih (i + 1) (by omega) (ys_put (ys_put j i m1 m2 m3 m4) (16 + i) n1 n2 n3 n4) (fun t ht => by
      by_cases et : t = i
      · subst et
        refine ⟨(qB _ (by omega)).mpr N1.1, N2.1, ?_⟩
        have ap := fun (h : 4 ≤ p.2.1 t) => And.intro (al (p.2.2.2.1 t) (by have := P.1 h; omega) (by have := P.1 h; omega)) (al (16 + p.2.2.2.1 t) (by have := P.1 h; omega) (by have := P.1 h; omega))
        have aq := fun (h : 7 ≤ p.2.1 t) => And.intro (al (p.2.2.2.2 t) (by have := P.2 h; omega) (by have := P.2 h; omega)) (al (16 + p.2.2.2.2 t) (by have := P.2 h; omega) (by have := P.2 h; omega))
        have bp := fun (h : 4 ≤ p.2.1 t) => And.intro (ql (p.2.2.2.1 t) (by have := P.1 h; omega)) (ql (16 + p.2.2.2.1 t) (by have := P.1 h; omega))
        have bq := fun (h : 7 ≤ p.2.1 t) => And.intro (ql (p.2.2.2.2 t) (by have := P.2 h; omega)) (ql (16 + p.2.2.2.2 t) (by have := P.2 h; omega))
        refine ⟨fun k hk => ?_, fun k hk => ?_, fun s' hs' => ?_, fun s' hs' => ?_⟩
        · rw [(ql t (by omega)).1, N1.2.1 k hk]
          exact (congrFun (rt_js_cg k9 (fun h => (ap h).1.1) (fun h => (aq h).1.1)) k).symm
        · rw [N2.2.1 k hk]
          exact (congrFun (rt_jr_cg k9 (fun h => ⟨(bp h).1.1, (bp h).2.1⟩) (fun h => ⟨(bq h).1.1, (bq h).2.1⟩)) k).symm
        · rw [(ql t (by omega)).2, N1.2.2 s' hs']
          exact (rt_es_cg k9 (fun h => (ap h).1) (fun h => (aq h).1.2)).symm
        · rw [N2.2.2 s' hs']
          exact (rt_er_cg k9 (fun h => bp h) (fun h => bq h)).symm
      · obtain ⟨c1, c2, c3⟩ := I t (by omega)
        have T' := hT t (by omega)
        have P' := rt_Nd_p hT (i := t) (by omega)
        have ap := fun (h : 4 ≤ p.2.1 t) => And.intro (al (p.2.2.2.1 t) (by have := P'.1 h; omega) (by have := P'.1 h; omega)) (al (16 + p.2.2.2.1 t) (by have := P'.1 h; omega) (by have := P'.1 h; omega))
        have aq := fun (h : 7 ≤ p.2.1 t) => And.intro (al (p.2.2.2.2 t) (by have := P'.2 h; omega) (by have := P'.2 h; omega)) (al (16 + p.2.2.2.2 t) (by have := P'.2 h; omega) (by have := P'.2 h; omega))
        have a0 := al t (by omega) (by omega)
        have a1 := al (16 + t) (by omega) (by omega)
        refine ⟨(qB _ (by omega)).mpr ((pB _ (by omega)).mpr c1), (qB _ (by omega)).mpr ((pB _ (by omega)).mpr c2), fun k hk => ?_, fun k hk => ?_, fun s' hs' => ?_, fun s' hs' => ?_⟩
        · rw [a0.1, c3.1 k hk]
          exact (congrFun (rt_js_cg T'.1 (fun h => (ap h).1.1) (fun h => (aq h).1.1)) k).symm
        · rw [a1.1, c3.2.1 k hk]
          exact (congrFun (rt_jr_cg T'.1 (fun h => ⟨(ap h).1.1, (ap h).2.1⟩) (fun h => ⟨(aq h).1.1, (aq h).2.1⟩)) k).symm
        · rw [a0.2, c3.2.2.1 s' hs']
          exact (rt_es_cg T'.1 (fun h => (ap h).1) (fun h => (aq h).1.2)).symm
        · rw [a1.2, c3.2.2.2 s' hs']
          exact (rt_er_cg T'.1 (fun h => ap h) (fun h => aq h)).symm)
    exact ⟨j', I', fun post J x2 x3 H => br_f (nI_ge (by omega) (by omega)) (W1 _ (W2 _ (nm_r (nI_1 i) (K post J x2 x3 H))))⟩
end
end
section
/-! ===== must and can never contradict; findAlive ===== -/
theorem fa_one_con (j k : Nat) : rv_con (fa_one j k) := by unfold fa_one; split <;> rfl
theorem fa_loop_con {c : Nat → rv_V} (h : ∀ k, k < 5 → rv_con (c k)) : ∀ k, k < 5 → rv_con (fa_loop c k) := by
  intro k hk; unfold fa_loop
  split
  · rfl
  · split
    · exact rv_con_or (h 1 (by omega)) (h 0 (by omega))
    · exact h k hk
theorem fa_trap_con {c : Nat → rv_V} (h : ∀ k, k < 5 → rv_con (c k)) : ∀ k, k < 5 → rv_con (fa_trap c k) := by
  intro k hk; unfold fa_trap
  split
  · exact rv_con_or (h 0 (by omega)) (h 2 (by omega))
  · split
    · exact h 1 (by omega)
    · split
      · rfl
      · exact h (k + 1) (by omega)
theorem fa_susp_con {s : rv_V} {c : Nat → rv_V} (hs : rv_con s) (h : ∀ k, k < 5 → rv_con (c k)) : ∀ k, k < 5 → rv_con (fa_susp s c k) := by
  intro k hk; unfold fa_susp
  split
  · exact rv_con_or (rv_con_and (rv_con_not hs) (h 1 (by omega))) hs
  · exact rv_con_and (rv_con_not hs) (h k hk)
theorem fa_seq_con {c d : Nat → rv_V} (h : ∀ k, k < 5 → rv_con (c k)) (h' : ∀ k, k < 5 → rv_con (d k)) : ∀ k, k < 5 → rv_con (fa_seq c d k) := by
  intro k hk; unfold fa_seq
  refine rv_con_or ?_ (rv_con_and (h 0 (by omega)) (h' k hk))
  split
  · rfl
  · exact h k hk
theorem rv_up_con {x : rv_V} {c : Nat → rv_V} (hx : rv_con x) (h : ∀ k, k < 5 → rv_con (c k)) : ∀ k, k < 5 → rv_con (rv_up x c k) := by
  intro k
  induction k with
  | zero => intro hk; exact rv_con_or hx (h 0 hk)
  | succ k ih => intro hk; exact rv_con_or (ih (by omega)) (h _ hk)
theorem fa_par_con {c d : Nat → rv_V} (h : ∀ k, k < 5 → rv_con (c k)) (h' : ∀ k, k < 5 → rv_con (d k)) : ∀ k, k < 5 → rv_con (fa_par c d k) := by
  intro k hk; unfold fa_par
  exact rv_con_and (rv_con_and (rv_up_con rv_con_F h k hk) (rv_up_con rv_con_F h' k hk)) (rv_con_or (h k hk) (h' k hk))
theorem fa_test_con {s : rv_V} {c d : Nat → rv_V} (hs : rv_con s) (h : ∀ k, k < 5 → rv_con (c k)) (h' : ∀ k, k < 5 → rv_con (d k)) : ∀ k, k < 5 → rv_con (fa_test s c d k) := by
  intro k hk; unfold fa_test
  exact rv_con_or (rv_con_and hs (h k hk)) (rv_con_and (rv_con_not hs) (h' k hk))
theorem rt_con {z : Nat} {kd nm pp pq lo : Nat → Nat} {on al : Nat → Bool} {S : Nat → rv_V} {C E : Nat → Nat → rv_V} (hT : ∀ i, i < z → rt_Nd kd nm pp pq lo i) (hS : ∀ n, n < 6 → rv_con (S n)) (hJ : ∀ i, i < z → rt_Ref kd nm pp pq on al S C E i) :
    ∀ i, i < z → (∀ k, k < 5 → rv_con (C i k)) ∧ (∀ k, k < 5 → rv_con (C (16 + i) k)) ∧ (∀ s, s < 6 → rv_con (E i s)) ∧ (∀ s, s < 6 → rv_con (E (16 + i) s)) := by
  intro i
  induction i using Nat.strongRecOn with
  | ind i ih =>
    intro hi
    have T := hT i hi
    have P := rt_Nd_p hT hi
    have k9 := T.1
    have sn := hS _ T.2.1
    obtain ⟨J1, J2, J3, J4⟩ := hJ i hi
    by_cases h4 : kd i < 4
    · refine ⟨fun k hk => ?_, fun k hk => ?_, fun s hs => ?_, fun s hs => ?_⟩
      · rw [J1 k hk]
        by_cases e0 : kd i = 0
        · rw [rt_js0 e0]; exact fa_one_con _ _
        by_cases e1 : kd i = 1
        · rw [rt_js1 e1]; exact fa_one_con _ _
        by_cases e2 : kd i = 2
        · rw [rt_js2 e2]; exact fa_one_con _ _
        · rw [rt_js3 (by omega)]; exact fa_one_con _ _
      · rw [J2 k hk, rt_jr0 h4]; exact fa_one_con _ _
      · rw [J3 s hs]
        by_cases e2 : kd i = 2
        · rw [rt_es2 e2]; split <;> rfl
        · rw [rt_es0 e2 h4]; rfl
      · rw [J4 s hs, rt_er0 h4]; rfl
    obtain ⟨p1, p2, p3, p4⟩ := ih (pp i) (by have := P.1 (by omega); omega) (by have := P.1 (by omega); omega)
    by_cases e4 : kd i = 4
    · refine ⟨fun k hk => ?_, fun k hk => ?_, fun s hs => ?_, fun s hs => ?_⟩
      · rw [J1 k hk, rt_js4 e4]; exact fa_loop_con p1 k hk
      · rw [J2 k hk, rt_jr4 e4]
        cases on i
        · exact fa_loop_con p2 k hk
        · exact fa_loop_con p1 k hk
      · rw [J3 s hs, rt_es4 (by omega) (by omega)]; exact p3 s hs
      · rw [J4 s hs, rt_er4 e4]
        cases on i
        · exact p4 s hs
        · exact p3 s hs
    by_cases e5 : kd i = 5
    · refine ⟨fun k hk => ?_, fun k hk => ?_, fun s hs => ?_, fun s hs => ?_⟩
      · rw [J1 k hk, rt_js5 e5]; exact fa_trap_con p1 k hk
      · rw [J2 k hk, rt_jr5 e5]; exact fa_trap_con p2 k hk
      · rw [J3 s hs, rt_es4 (by omega) (by omega)]; exact p3 s hs
      · rw [J4 s hs, rt_er5 e5]; exact p4 s hs
    by_cases e6 : kd i = 6
    · refine ⟨fun k hk => ?_, fun k hk => ?_, fun s hs => ?_, fun s hs => ?_⟩
      · rw [J1 k hk, rt_js6 e6]; exact p1 k hk
      · rw [J2 k hk, rt_jr6 e6]; exact fa_susp_con sn p2 k hk
      · rw [J3 s hs, rt_es4 (by omega) (by omega)]; exact p3 s hs
      · rw [J4 s hs, rt_er6 e6]; exact rv_con_and (rv_con_not sn) (p4 s hs)
    obtain ⟨q1, q2, q3, q4⟩ := ih (pq i) (by have := P.2 (by omega); omega) (by have := P.2 (by omega); omega)
    by_cases e7 : kd i = 7
    · refine ⟨fun k hk => ?_, fun k hk => ?_, fun s hs => ?_, fun s hs => ?_⟩
      · rw [J1 k hk, rt_js7 e7]; exact fa_seq_con p1 q1 k hk
      · rw [J2 k hk, rt_jr7 e7]
        cases al (pp i)
        · exact q2 k hk
        · exact fa_seq_con p2 q1 k hk
      · rw [J3 s hs, rt_es7 e7]; exact rv_con_or (p3 s hs) (rv_con_and (p1 0 (by omega)) (q3 s hs))
      · rw [J4 s hs, rt_er7 e7]
        cases al (pp i)
        · exact q4 s hs
        · exact rv_con_or (p4 s hs) (rv_con_and (p2 0 (by omega)) (q3 s hs))
    by_cases e8 : kd i = 8
    · refine ⟨fun k hk => ?_, fun k hk => ?_, fun s hs => ?_, fun s hs => ?_⟩
      · rw [J1 k hk, rt_js8 e8]; exact fa_par_con p1 q1 k hk
      · rw [J2 k hk, rt_jr8 e8]
        refine fa_par_con (fun k hk => ?_) (fun k hk => ?_) k hk
        · cases al (pp i)
          · exact fa_one_con _ _
          · exact p2 k hk
        · cases al (pq i)
          · exact fa_one_con _ _
          · exact q2 k hk
      · rw [J3 s hs, rt_es8 e8]; exact rv_con_or (p3 s hs) (q3 s hs)
      · rw [J4 s hs, rt_er8 e8]
        refine rv_con_or ?_ ?_
        · cases al (pp i)
          · rfl
          · exact p4 s hs
        · cases al (pq i)
          · rfl
          · exact q4 s hs
    · have e9 : kd i = 9 := by omega
      refine ⟨fun k hk => ?_, fun k hk => ?_, fun s hs => ?_, fun s hs => ?_⟩
      · rw [J1 k hk, rt_js9 e9]; exact fa_test_con sn p1 q1 k hk
      · rw [J2 k hk, rt_jr9 e9]
        cases al (pp i)
        · exact q2 k hk
        · exact p2 k hk
      · rw [J3 s hs, rt_es9 e9]; exact rv_con_or (rv_con_and sn (p3 s hs)) (rv_con_and (rv_con_not sn) (q3 s hs))
      · rw [J4 s hs, rt_er9 e9]
        cases al (pp i)
        · exact q4 s hs
        · exact p4 s hs
section
variable {p : ys_P} {o : ys_O} {s : Nat × Nat} {l : xs_f} {j : ys_J} {d : ys_D} {nm lo : xs_f}
theorem ys_al_u {l : xs_f} {i c t : Nat} (h : t ≠ i) : ys_al (xs_u l i c) t = ys_al l t := by unfold ys_al; rw [xs_un h]
theorem ys_fa66 {l : xs_f} {i : Nat} (hi : i < 16) (h9 : p.2.1 i ≤ 9) (hq : p.2.2.2.2 i < 16) (hl : ∀ t, t < 16 → l t ≤ 1) : ∃ l', (∀ t, t ≠ i → l' t = l t) ∧ l' i ≤ 1 ∧ ys_al l' i = (ys_al l i || (decide (7 ≤ p.2.1 i) && ys_al l (p.2.2.2.2 i))) ∧
    ∀ (post : SY → Prop) J, J (nI (i + 1)) (xs_A p.2.1) p.2.2.1 (xs_A p.2.2.2.1) (xs_A p.2.2.2.2) (xs_A o.2.2.2.2.2.2.2.2.1) (xs_A o.2.2.2.2.2.2.2.2.2.1) (xs_A o.2.2.2.2.2.2.2.2.2.2) (xs_A l') (xs_A j.1) (xs_A j.2.1) (ys_E j.2.2.1) (xs_A j.2.2.2) (xs_A d.1) (xs_A d.2.1) (xs_A d.2.2.1) (xs_A d.2.2.2) → wY_findAlive_66 post J (nI i) (nI o.1) (nI o.2.1) (nI p.1) (nI o.2.2.1) (nI o.2.2.2.1) (nI o.2.2.2.2.1) (nI s.1) (nI s.2) (nI o.2.2.2.2.2.1) (nI o.2.2.2.2.2.2.1) (nI o.2.2.2.2.2.2.2.1) (xs_A p.2.1) p.2.2.1 (xs_A p.2.2.2.1) (xs_A p.2.2.2.2) (xs_A o.2.2.2.2.2.2.2.2.1) (xs_A o.2.2.2.2.2.2.2.2.2.1) (xs_A o.2.2.2.2.2.2.2.2.2.2) (xs_A l) (xs_A j.1) (xs_A j.2.1) (ys_E j.2.2.1) (xs_A j.2.2.2) (xs_A d.1) (xs_A d.2.1) (xs_A d.2.2.1) (xs_A d.2.2.2) := by
  have h32 : vp_in (nI i) 32 := vp_in_nI (by omega) (by omega)
  have h16 : vp_in (nI i) 16 := vp_in_nI hi (by omega)
  have i31 : i < 2 ^ 31 := by omega
  have ek : xs_A p.2.1 (nI i).toNatClampNeg = nI (p.2.1 i) := xs_at i31
  have qin : vp_in (xs_A p.2.2.2.2 (nI i).toNatClampNeg) 16 := by rw [xs_at i31]; exact vp_in_nI hq (by omega)
  have eq : xs_A p.2.2.2.2 (nI i).toNatClampNeg = nI (p.2.2.2.2 i) := xs_at i31
  by_cases h7 : p.2.1 i ≤ 6
  · refine ⟨l, fun _ _ => rfl, hl i hi, by rw [decide_eq_false (by omega : ¬ 7 ≤ p.2.1 i)]; simp, fun post J H => And.intro h32 (br_t ?_ (nm_r (nI_1 i) H))⟩
    rw [ek]; exact nI_le (b := 6) h7 (by omega)
  · have k7 : ¬ xs_A p.2.1 (nI i).toNatClampNeg ≤ 6 := by rw [ek]; exact nI_ge (a := 6) (by omega) (by omega)
    have st : ∀ c, c < 2 → ∀ y : Int32, y = nI c → ∀ (post : SY → Prop) (J : Int32 → (Nat → Int32) → (Nat → Int32) → (Nat → Int32) → (Nat → Int32) → (Nat → Int32) → (Nat → Int32) → (Nat → Int32) → (Nat → Int32) → (Nat → Int32) → (Nat → Int32) → (Nat → Int32) → (Nat → Int32) → (Nat → Int32) → (Nat → Int32) → (Nat → Int32) → (Nat → Int32) → Prop), J (nI (i + 1)) (xs_A p.2.1) p.2.2.1 (xs_A p.2.2.2.1) (xs_A p.2.2.2.2) (xs_A o.2.2.2.2.2.2.2.2.1) (xs_A o.2.2.2.2.2.2.2.2.2.1) (xs_A o.2.2.2.2.2.2.2.2.2.2) (xs_A (xs_u l i c)) (xs_A j.1) (xs_A j.2.1) (ys_E j.2.2.1) (xs_A j.2.2.2) (xs_A d.1) (xs_A d.2.1) (xs_A d.2.2.1) (xs_A d.2.2.2) → (vp_in (nI i) 16 ∧ ∀ a, a = upd (xs_A l) (nI i).toNatClampNeg (vp_nar .boolean y) → ∀ x, x = nI i + 1 → J x (xs_A p.2.1) p.2.2.1 (xs_A p.2.2.2.1) (xs_A p.2.2.2.2) (xs_A o.2.2.2.2.2.2.2.2.1) (xs_A o.2.2.2.2.2.2.2.2.2.1) (xs_A o.2.2.2.2.2.2.2.2.2.2) a (xs_A j.1) (xs_A j.2.1) (ys_E j.2.2.1) (xs_A j.2.2.2) (xs_A d.1) (xs_A d.2.1) (xs_A d.2.2.1) (xs_A d.2.2.2)) :=
      fun c hc y hy post J H => And.intro h16 (nm_r (xs_pz rfl i31 hy hc) (nm_r (nI_1 i) H))
    have l1 := hl i hi
    have lq := hl _ hq
    by_cases a1 : ys_al l i = true
    · refine ⟨xs_u l i 1, fun t h => xs_un h, by rw [xs_us]; omega, by rw [a1, Bool.true_or]; unfold ys_al; rw [xs_us]; rfl, fun post J H => And.intro h32 (br_f k7 (And.intro h16 (ys_b0 i31 l1 (fun f => absurd (a1.symm.trans f) (by decide)) (fun _ => st 1 (by omega) _ rfl post J H))))⟩
    have a1 := Bool.eq_false_iff.mpr a1
    by_cases a2 : ys_al l (p.2.2.2.2 i) = true
    · refine ⟨xs_u l i 1, fun t h => xs_un h, by rw [xs_us]; omega, by rw [a1, a2, decide_eq_true (by omega : 7 ≤ p.2.1 i)]; unfold ys_al; rw [xs_us]; rfl, fun post J H => And.intro h32 (br_f k7 (And.intro h16 (ys_b0 i31 l1 (fun _ => And.intro h32 (And.intro qin ?_)) (fun f => absurd (a1.symm.trans f) (by decide)))))⟩
      rw [eq]
      exact ys_b0 (by omega) lq (fun f => absurd (a2.symm.trans f) (by decide)) (fun _ => st 1 (by omega) _ rfl post J H)
    · have a2 := Bool.eq_false_iff.mpr a2
      refine ⟨xs_u l i 0, fun t h => xs_un h, by rw [xs_us]; omega, by rw [a1, a2, Bool.and_false]; unfold ys_al; rw [xs_us]; rfl, fun post J H => And.intro h32 (br_f k7 (And.intro h16 (ys_b0 i31 l1 (fun _ => And.intro h32 (And.intro qin ?_)) (fun f => absurd (a1.symm.trans f) (by decide)))))⟩
      rw [eq]
      exact ys_b0 (by omega) lq (fun _ => st 0 (by omega) _ rfl post J H) (fun f => absurd (a2.symm.trans f) (by decide))
theorem ys_fa_loop (hz : p.1 ≤ 16) (hT : ∀ i, i < p.1 → rt_Nd p.2.1 nm p.2.2.2.1 p.2.2.2.2 lo i) (hon : ∀ t, t < 16 → o.2.2.2.2.2.2.2.2.2.2 t ≤ 1) :
    ∀ e i, i + e = p.1 → ∀ l : xs_f, (∀ t, t < 16 → l t ≤ 1) → (∀ t, t < i → rt_Al p.2.1 p.2.2.2.1 p.2.2.2.2 (ys_on o) (ys_al l) t) → ∃ l', (∀ t, t < 16 → l' t ≤ 1) ∧ (∀ t, t < p.1 → rt_Al p.2.1 p.2.2.2.1 p.2.2.2.2 (ys_on o) (ys_al l') t) ∧
      ∀ (post : SY → Prop), post (ys p o s l' j d) → wY_findAlive_2 post (nI o.1) (nI o.2.1) (nI p.1) (nI o.2.2.1) (nI o.2.2.2.1) (nI o.2.2.2.2.1) (nI s.1) (nI s.2) (nI o.2.2.2.2.2.1) (nI o.2.2.2.2.2.2.1) (nI o.2.2.2.2.2.2.2.1) (e + 1) (nI i) (xs_A p.2.1) p.2.2.1 (xs_A p.2.2.2.1) (xs_A p.2.2.2.2) (xs_A o.2.2.2.2.2.2.2.2.1) (xs_A o.2.2.2.2.2.2.2.2.2.1) (xs_A o.2.2.2.2.2.2.2.2.2.2) (xs_A l) (xs_A j.1) (xs_A j.2.1) (ys_E j.2.2.1) (xs_A j.2.2.2) (xs_A d.1) (xs_A d.2.1) (xs_A d.2.2.1) (xs_A d.2.2.2) := by
  intro e
  induction e with
  | zero => intro i hi l hl hA; exact ⟨l, hl, fun t ht => hA t (by omega), fun post H => br_t (nI_le (by omega) (by omega)) H⟩
  | succ e ih =>
    intro i hi l hl hA
    have T := hT i (by omega)
    have P := rt_Nd_p hT (i := i) (by omega)
    have h32 : vp_in (nI i) 32 := vp_in_nI (by omega) (by omega)
    have h16 : vp_in (nI i) 16 := vp_in_nI (by omega) (by omega)
    have i31 : i < 2 ^ 31 := by omega
    have k9 := T.1
    have p16 := T.2.2.2.2.1
    have q16 := T.2.2.2.2.2.1
    have on1 := hon i (by omega)
    have ek : xs_A p.2.1 (nI i).toNatClampNeg = nI (p.2.1 i) := xs_at i31
    have pin : vp_in (xs_A p.2.2.2.1 (nI i).toNatClampNeg) 16 := by rw [xs_at i31]; exact vp_in_nI p16 (by omega)
    have epp : xs_A p.2.2.2.1 (nI i).toNatClampNeg = nI (p.2.2.2.1 i) := xs_at i31
    -- the array at the join, then on
    have key : ∀ l1 : xs_f, (∀ t, t ≠ i → l1 t = l t) → l1 i ≤ 1 → ys_al l1 i = (ys_on o i || (decide (4 ≤ p.2.1 i) && ys_al l (p.2.2.2.1 i))) → ∃ l', (∀ t, t < 16 → l' t ≤ 1) ∧ (∀ t, t < p.1 → rt_Al p.2.1 p.2.2.2.1 p.2.2.2.2 (ys_on o) (ys_al l') t) ∧
        ∀ (post : SY → Prop), post (ys p o s l' j d) → wY_findAlive_66 post (wY_findAlive_2 post (nI o.1) (nI o.2.1) (nI p.1) (nI o.2.2.1) (nI o.2.2.2.1) (nI o.2.2.2.2.1) (nI s.1) (nI s.2) (nI o.2.2.2.2.2.1) (nI o.2.2.2.2.2.2.1) (nI o.2.2.2.2.2.2.2.1) (e + 1)) (nI i) (nI o.1) (nI o.2.1) (nI p.1) (nI o.2.2.1) (nI o.2.2.2.1) (nI o.2.2.2.2.1) (nI s.1) (nI s.2) (nI o.2.2.2.2.2.1) (nI o.2.2.2.2.2.2.1) (nI o.2.2.2.2.2.2.2.1) (xs_A p.2.1) p.2.2.1 (xs_A p.2.2.2.1) (xs_A p.2.2.2.2) (xs_A o.2.2.2.2.2.2.2.2.1) (xs_A o.2.2.2.2.2.2.2.2.2.1) (xs_A o.2.2.2.2.2.2.2.2.2.2) (xs_A l1) (xs_A j.1) (xs_A j.2.1) (ys_E j.2.2.1) (xs_A j.2.2.2) (xs_A d.1) (xs_A d.2.1) (xs_A d.2.2.1) (xs_A d.2.2.2) := by
      intro l1 h1 h2 h3
      have hl1 : ∀ t, t < 16 → l1 t ≤ 1 := fun t ht => by
        by_cases et : t = i
        · rw [et]; exact h2
        · rw [h1 t et]; exact hl t ht
      obtain ⟨l2, g1, g2, g3, g4⟩ := ys_fa66 (p := p) (o := o) (s := s) (j := j) (d := d) (l := l1) (i := i) (by omega) k9 q16 hl1
      have sm : ∀ t, t ≠ i → ys_al l2 t = ys_al l t := fun t ht => by unfold ys_al; rw [g1 t ht, h1 t ht]
      obtain ⟨l', H1, H2, H3⟩ := ih (i + 1) (by omega) l2 (fun t ht => by
          by_cases et : t = i
          · rw [et]; exact g2
          · rw [g1 t et]; exact hl1 t ht) (fun t ht => by
          by_cases et : t = i
          · subst et
            show ys_al l2 t = (ys_on o t || ((decide (4 ≤ p.2.1 t) && ys_al l2 (p.2.2.2.1 t)) || (decide (7 ≤ p.2.1 t) && ys_al l2 (p.2.2.2.2 t))))
            rw [g3, h3, Bool.or_assoc]
            have c1 : (decide (4 ≤ p.2.1 t) && ys_al l2 (p.2.2.2.1 t)) = (decide (4 ≤ p.2.1 t) && ys_al l (p.2.2.2.1 t)) := by
              by_cases h4 : 4 ≤ p.2.1 t
              · rw [sm _ (by have := P.1 h4; omega)]
              · rw [decide_eq_false h4, Bool.false_and, Bool.false_and]
            have c2 : (decide (7 ≤ p.2.1 t) && ys_al l2 (p.2.2.2.2 t)) = (decide (7 ≤ p.2.1 t) && ys_al l1 (p.2.2.2.2 t)) := by
              by_cases h7 : 7 ≤ p.2.1 t
              · have := P.2 h7
                rw [sm _ (by omega)]; unfold ys_al; rw [h1 _ (by omega)]
              · rw [decide_eq_false h7, Bool.false_and, Bool.false_and]
            rw [c1, c2]
          · have T' := hT t (by omega)
            have P' := rt_Nd_p hT (i := t) (by omega)
            have a : ys_al l t = (ys_on o t || ((decide (4 ≤ p.2.1 t) && ys_al l (p.2.2.2.1 t)) || (decide (7 ≤ p.2.1 t) && ys_al l (p.2.2.2.2 t)))) := hA t (by omega)
            show ys_al l2 t = (ys_on o t || ((decide (4 ≤ p.2.1 t) && ys_al l2 (p.2.2.2.1 t)) || (decide (7 ≤ p.2.1 t) && ys_al l2 (p.2.2.2.2 t))))
            have c1 : (decide (4 ≤ p.2.1 t) && ys_al l2 (p.2.2.2.1 t)) = (decide (4 ≤ p.2.1 t) && ys_al l (p.2.2.2.1 t)) := by
              by_cases h4 : 4 ≤ p.2.1 t
              · rw [sm _ (by have := P'.1 h4; omega)]
              · rw [decide_eq_false h4, Bool.false_and, Bool.false_and]
            have c2 : (decide (7 ≤ p.2.1 t) && ys_al l2 (p.2.2.2.2 t)) = (decide (7 ≤ p.2.1 t) && ys_al l (p.2.2.2.2 t)) := by
              by_cases h7 : 7 ≤ p.2.1 t
              · rw [sm _ (by have := P'.2 h7; omega)]
              · rw [decide_eq_false h7, Bool.false_and, Bool.false_and]
            rw [sm t et, a, c1, c2])
      exact ⟨l', H1, H2, fun post H => g4 post _ (H3 post H)⟩
    have go : ∀ post : SY → Prop, _ → wY_findAlive_2 post (nI o.1) (nI o.2.1) (nI p.1) (nI o.2.2.1) (nI o.2.2.2.1) (nI o.2.2.2.2.1) (nI s.1) (nI s.2) (nI o.2.2.2.2.2.1) (nI o.2.2.2.2.2.2.1) (nI o.2.2.2.2.2.2.2.1) (e + 1 + 1) (nI i) (xs_A p.2.1) p.2.2.1 (xs_A p.2.2.2.1) (xs_A p.2.2.2.2) (xs_A o.2.2.2.2.2.2.2.2.1) (xs_A o.2.2.2.2.2.2.2.2.2.1) (xs_A o.2.2.2.2.2.2.2.2.2.2) (xs_A l) (xs_A j.1) (xs_A j.2.1) (ys_E j.2.2.1) (xs_A j.2.2.2) (xs_A d.1) (xs_A d.2.1) (xs_A d.2.2.1) (xs_A d.2.2.2) := fun post H =>
      br_f (nI_ge (by omega) (by omega)) (And.intro h16 (And.intro h16 (nm_r (xs_pz (x := o.2.2.2.2.2.2.2.2.2.2 i) rfl i31 (xs_at i31) (by omega)) (And.intro h32 H))))
    have al0 : ys_al (xs_u l i (o.2.2.2.2.2.2.2.2.2.2 i)) i = ys_on o i := by unfold ys_al ys_on; rw [xs_us]
    by_cases h4 : p.2.1 i ≤ 3
    · obtain ⟨l', H1, H2, H3⟩ := key (xs_u l i (o.2.2.2.2.2.2.2.2.2.2 i)) (fun t ht => xs_un ht) (by rw [xs_us]; omega) (by rw [al0, decide_eq_false (by omega : ¬ 4 ≤ p.2.1 i)]; simp)
      exact ⟨l', H1, H2, fun post H => go post (br_t (by rw [ek]; exact nI_le (b := 3) h4 (by omega)) (H3 post H))⟩
    · have k4 : ¬ xs_A p.2.1 (nI i).toNatClampNeg ≤ 3 := by rw [ek]; exact nI_ge (a := 3) (by omega) (by omega)
      have d4 : decide (4 ≤ p.2.1 i) = true := decide_eq_true (by omega)
      have pne : p.2.2.2.1 i ≠ i := by have := P.1 (by omega); omega
      have u1 : xs_u l i (o.2.2.2.2.2.2.2.2.2.2 i) i ≤ 1 := by rw [xs_us]; exact on1
      have u2 : xs_u l i (o.2.2.2.2.2.2.2.2.2.2 i) (p.2.2.2.1 i) ≤ 1 := by rw [xs_un pne]; exact hl _ p16
      have st65 : ∀ c, c < 2 → ∀ y : Int32, y = nI c → ∀ (post : SY → Prop) J, wY_findAlive_66 post J (nI i) (nI o.1) (nI o.2.1) (nI p.1) (nI o.2.2.1) (nI o.2.2.2.1) (nI o.2.2.2.2.1) (nI s.1) (nI s.2) (nI o.2.2.2.2.2.1) (nI o.2.2.2.2.2.2.1) (nI o.2.2.2.2.2.2.2.1) (xs_A p.2.1) p.2.2.1 (xs_A p.2.2.2.1) (xs_A p.2.2.2.2) (xs_A o.2.2.2.2.2.2.2.2.1) (xs_A o.2.2.2.2.2.2.2.2.2.1) (xs_A o.2.2.2.2.2.2.2.2.2.2) (xs_A (xs_u (xs_u l i (o.2.2.2.2.2.2.2.2.2.2 i)) i c)) (xs_A j.1) (xs_A j.2.1) (ys_E j.2.2.1) (xs_A j.2.2.2) (xs_A d.1) (xs_A d.2.1) (xs_A d.2.2.1) (xs_A d.2.2.2) → wY_findAlive_65 post J (nI i) y (nI i) (nI o.1) (nI o.2.1) (nI p.1) (nI o.2.2.1) (nI o.2.2.2.1) (nI o.2.2.2.2.1) (nI s.1) (nI s.2) (nI o.2.2.2.2.2.1) (nI o.2.2.2.2.2.2.1) (nI o.2.2.2.2.2.2.2.1) (xs_A p.2.1) p.2.2.1 (xs_A p.2.2.2.1) (xs_A p.2.2.2.2) (xs_A o.2.2.2.2.2.2.2.2.1) (xs_A o.2.2.2.2.2.2.2.2.2.1) (xs_A o.2.2.2.2.2.2.2.2.2.2) (xs_A (xs_u l i (o.2.2.2.2.2.2.2.2.2.2 i))) (xs_A j.1) (xs_A j.2.1) (ys_E j.2.2.1) (xs_A j.2.2.2) (xs_A d.1) (xs_A d.2.1) (xs_A d.2.2.1) (xs_A d.2.2.2) :=
        fun c hc y hy post J H => And.intro h16 (nm_r (xs_pz rfl i31 hy hc) H)
      by_cases a1 : ys_on o i = true
      · obtain ⟨l', H1, H2, H3⟩ := key (xs_u (xs_u l i (o.2.2.2.2.2.2.2.2.2.2 i)) i 1) (fun t ht => (xs_un ht).trans (xs_un ht)) (by rw [xs_us]; omega) (by rw [a1, Bool.true_or]; unfold ys_al; rw [xs_us]; rfl)
        exact ⟨l', H1, H2, fun post H => go post (br_f k4 (And.intro h16 (ys_b0 i31 u1 (fun f => absurd (a1.symm.trans (al0.symm.trans f)) (by decide)) (fun _ => st65 1 (by omega) _ rfl post _ (H3 post H)))))⟩
      have a1 := Bool.eq_false_iff.mpr a1
      by_cases a2 : ys_al l (p.2.2.2.1 i) = true
      · obtain ⟨l', H1, H2, H3⟩ := key (xs_u (xs_u l i (o.2.2.2.2.2.2.2.2.2.2 i)) i 1) (fun t ht => (xs_un ht).trans (xs_un ht)) (by rw [xs_us]; omega) (by rw [a1, a2, d4]; unfold ys_al; rw [xs_us]; rfl)
        refine ⟨l', H1, H2, fun post H => go post (br_f k4 (And.intro h16 (ys_b0 i31 u1 (fun _ => And.intro h32 (And.intro pin ?_)) (fun f => absurd (a1.symm.trans (al0.symm.trans f)) (by decide)))))⟩
        rw [epp]
        exact ys_b0 (by omega) u2 (fun f => absurd (a2.symm.trans ((ys_al_u pne).symm.trans f)) (by decide)) (fun _ => st65 1 (by omega) _ rfl post _ (H3 post H))
      · have a2 := Bool.eq_false_iff.mpr a2
        obtain ⟨l', H1, H2, H3⟩ := key (xs_u (xs_u l i (o.2.2.2.2.2.2.2.2.2.2 i)) i 0) (fun t ht => (xs_un ht).trans (xs_un ht)) (by rw [xs_us]; omega) (by rw [a1, a2, d4]; unfold ys_al; rw [xs_us]; rfl)
        refine ⟨l', H1, H2, fun post H => go post (br_f k4 (And.intro h16 (ys_b0 i31 u1 (fun _ => And.intro h32 (And.intro pin ?_)) (fun f => absurd (a1.symm.trans (al0.symm.trans f)) (by decide)))))⟩
        rw [epp]
        exact ys_b0 (by omega) u2 (fun _ => st65 0 (by omega) _ rfl post _ (H3 post H)) (fun f => absurd (a2.symm.trans ((ys_al_u pne).symm.trans f)) (by decide))
end
end
section
/-! ===== find: statuses until nothing changes ===== -/
theorem nx_xor (a b : Nat) : nI a ^^^ nI b = nI (a ^^^ b) := by
  apply Int32.toBitVec_inj.1
  show BitVec.ofNat 32 a ^^^ BitVec.ofNat 32 b = BitVec.ofNat 32 (a ^^^ b)
  apply BitVec.eq_of_getLsbD_eq
  intro i hi
  simp [hi]
def ys_nu (s : Nat × Nat) : Nat := (63 &&& (s.1 ^^^ 4294967295)) &&& (s.2 ^^^ 4294967295)
def ys_nx (s : Nat × Nat) (me ce : Nat) : Nat × Nat := (s.1 ||| (ys_nu s &&& me), s.2 ||| (ys_nu s &&& (ce ^^^ 4294967295)))
theorem yt_63 : ∀ n, n < 6 → (63 : Nat).testBit n = true ∧ (4294967295 : Nat).testBit n = true := by decide +kernel
theorem ys_nu_b (s : Nat × Nat) {n : Nat} (hn : n < 6) : (ys_nu s).testBit n = (!s.1.testBit n && !s.2.testBit n) := by
  unfold ys_nu
  rw [Nat.testBit_and, Nat.testBit_and, Nat.testBit_xor, Nat.testBit_xor, (yt_63 n hn).1, (yt_63 n hn).2]; simp
theorem ys_nu_le (s : Nat × Nat) : ys_nu s ≤ 63 := Nat.le_trans Nat.and_le_left Nat.and_le_left
theorem ys_nx_b (s : Nat × Nat) (me ce : Nat) {n : Nat} (hn : n < 6) : ys_S (ys_nx s me ce) n = if s.1.testBit n = false ∧ s.2.testBit n = false then (me.testBit n, !ce.testBit n) else ys_S s n := by
  unfold ys_S ys_nx
  dsimp only
  rw [Nat.testBit_or, Nat.testBit_or, Nat.testBit_and, Nat.testBit_and, Nat.testBit_xor, ys_nu_b s hn, (yt_63 n hn).2]
  cases s.1.testBit n <;> cases s.2.testBit n <;> simp
theorem ys_nx_lt {s : Nat × Nat} (me ce : Nat) (h1 : s.1 < 64) (h2 : s.2 < 64) : (ys_nx s me ce).1 < 64 ∧ (ys_nx s me ce).2 < 64 := by
  have a := ys_nu_le s
  have b : ys_nu s &&& me ≤ ys_nu s := Nat.and_le_left
  have c : ys_nu s &&& (ce ^^^ 4294967295) ≤ ys_nu s := Nat.and_le_left
  exact ⟨nx_orlt (n := 6) h1 (by omega), nx_orlt (n := 6) h2 (by omega)⟩
def ys_un (s : Nat × Nat) : Nat := sp_U (fun t => if s.1.testBit t = false ∧ s.2.testBit t = false then 2 else 0) 6
theorem sp_U_le {v u : xs_f} : ∀ n, (∀ t, t < n → u t = 2 → v t = 2) → sp_U u n ≤ sp_U v n := by
  intro n
  induction n with
  | zero => intro _; exact Nat.le_refl _
  | succ n ih =>
    intro h
    show sp_U u n + _ ≤ sp_U v n + _
    have a := ih (fun t ht => h t (by omega))
    by_cases e : u n = 2
    · rw [if_pos e, if_pos (h n (by omega) e)]; omega
    · rw [if_neg e]; omega
theorem sp_U_lt {v u : xs_f} : ∀ n, (∀ t, t < n → u t = 2 → v t = 2) → (∃ t, t < n ∧ v t = 2 ∧ u t ≠ 2) → sp_U u n < sp_U v n := by
  intro n
  induction n with
  | zero => intro _ h; obtain ⟨t, h, -⟩ := h; omega
  | succ n ih =>
    intro h h'
    show sp_U u n + _ < sp_U v n + _
    obtain ⟨t, t1, t2, t3⟩ := h'
    by_cases e : t = n
    · subst e
      have a := sp_U_le t (fun t' ht' => h t' (by omega))
      rw [if_neg t3, if_pos t2]; omega
    · have a := ih (fun t ht => h t (by omega)) ⟨t, by omega, t2, t3⟩
      by_cases e' : u n = 2
      · rw [if_pos e', if_pos (h n (by omega) e')]; omega
      · rw [if_neg e']; omega
theorem ys_S_ext {s t : Nat × Nat} (h1 : s.1 < 64) (h2 : s.2 < 64) (h3 : t.1 < 64) (h4 : t.2 < 64) (h : ∀ n, n < 6 → ys_S s n = ys_S t n) : s = t := by
  refine Prod.ext (Nat.eq_of_testBit_eq fun n => ?_) (Nat.eq_of_testBit_eq fun n => ?_)
  · by_cases hn : n < 6
    · exact congrArg Prod.fst (h n hn)
    · have a : (2 : Nat) ^ 6 ≤ 2 ^ n := Nat.pow_le_pow_right (by omega) (by omega)
      rw [Nat.testBit_lt_two_pow (by omega : s.1 < 2 ^ n), Nat.testBit_lt_two_pow (by omega : t.1 < 2 ^ n)]
  · by_cases hn : n < 6
    · exact congrArg Prod.snd (h n hn)
    · have a : (2 : Nat) ^ 6 ≤ 2 ^ n := Nat.pow_le_pow_right (by omega) (by omega)
      rw [Nat.testBit_lt_two_pow (by omega : s.2 < 2 ^ n), Nat.testBit_lt_two_pow (by omega : t.2 < 2 ^ n)]
/-- what holds of the statuses from round to round: JE is what the circuit says of the signals, SV what X has found -/
def ys_HI (JE : (Nat → rv_V) → Nat → rv_V) (SV : Nat → rv_V) (inb : Nat → Bool) (s : Nat × Nat) : Prop :=
  s.1 < 64 ∧ s.2 < 64 ∧ (∀ n, n < 6 → rv_con (ys_S s n)) ∧ (∀ n, n < 6 → inb n = true → s.1.testBit n = true) ∧ (∀ n, n < 6 → rv_le (ys_S s n) (SV n)) ∧ (∀ n, n < 6 → inb n = false → rv_le (ys_S s n) (JE (ys_S s) n))
section
variable {p : ys_P} {o : ys_O} {l : xs_f} {d : ys_D} {nm lo : xs_f} {JE : (Nat → rv_V) → Nat → rv_V} {SV : Nat → rv_V} {inb : Nat → Bool} {r : Nat}
theorem ys_find_loop (hz1 : 1 ≤ p.1) (hz : p.1 ≤ 16) (hT : ∀ i, i < p.1 → rt_Nd p.2.1 nm p.2.2.2.1 p.2.2.2.2 lo i) (hN : ∀ i, i < p.1 → ys_N p nm i) (hon : ∀ t, t < 16 → o.2.2.2.2.2.2.2.2.2.2 t ≤ 1) (hl : ∀ t, t < 16 → l t ≤ 1)
    (hr : r = p.1 - 1 ∨ r = 16 + (p.1 - 1))
    (hJE : ∀ s j, (∀ n, n < 6 → rv_con (ys_S s n)) → ys_I p nm (ys_on o) (ys_al l) (ys_S s) j p.1 → ∀ n, n < 6 → ye j r n = JE (ys_S s) n)
    (hM : ∀ S S' : Nat → rv_V, (∀ n, n < 6 → rv_le (S n) (S' n)) → ∀ n, n < 6 → rv_le (JE S n) (JE S' n))
    (hV : ∀ S : Nat → rv_V, (∀ n, n < 6 → rv_le (S n) (SV n)) → ∀ n, n < 6 → inb n = false → rv_le (JE S n) (SV n)) :
    ∀ (n : Nat) (s : Nat × Nat) (j : ys_J) (bf : Int32), ys_HI JE SV inb s → ys_un s ≤ n → bf ≠ nI (s.1 + 64 * s.2) → ∃ s' j', ys_HI JE SV inb s' ∧ ys_I p nm (ys_on o) (ys_al l) (ys_S s') j' p.1 ∧ (∀ n, n < 6 → ys_S s' n = (false, false) → JE (ys_S s') n = (false, false)) ∧
      ∀ post : Int32 → SY → Prop, post (nI r) (ys p o s' l j' d) → wY_find_45 post (nI r) (n + 2) bf (nI o.1) (nI o.2.1) (nI p.1) (nI o.2.2.1) (nI o.2.2.2.1) (nI o.2.2.2.2.1) (nI s.1) (nI s.2) (nI o.2.2.2.2.2.1) (nI o.2.2.2.2.2.2.1) (nI o.2.2.2.2.2.2.2.1) (xs_A p.2.1) p.2.2.1 (xs_A p.2.2.2.1) (xs_A p.2.2.2.2) (xs_A o.2.2.2.2.2.2.2.2.1) (xs_A o.2.2.2.2.2.2.2.2.2.1) (xs_A o.2.2.2.2.2.2.2.2.2.2) (xs_A l) (xs_A j.1) (xs_A j.2.1) (ys_E j.2.2.1) (xs_A j.2.2.2) (xs_A d.1) (xs_A d.2.1) (xs_A d.2.2.1) (xs_A d.2.2.2) := by
  have r32 : r < 32 := by omega
  have rin : vp_in (nI r) 32 := vp_in_nI r32 (by omega)
  intro n
  induction n using Nat.strongRecOn with
  | ind n ih =>
    intro s j bf H hun hbf
    obtain ⟨H1, H2, H3, H4, H5, H6⟩ := H
    obtain ⟨j1, I1, K1⟩ := ys_round (p := p) (o := o) (s := s) (l := l) (d := d) hz hT hN H3 hon hl p.1 0 (by omega) j (fun t ht => by omega)
    have E1 := hJE s j1 H3 I1
    have C1 := rt_con hT H3 (fun i hi => (I1 i hi).2.2)
    have cE : ∀ n, n < 6 → rv_con (ye j1 r n) := fun n hn => by
      rcases hr with e | e
      · rw [e]; exact (C1 _ (by omega)).2.2.1 n hn
      · rw [e]; exact (C1 _ (by omega)).2.2.2 n hn
    have nb : ∀ n, n < 6 → ys_S (ys_nx s (j1.1 r) (j1.2.1 r)) n = if s.1.testBit n = false ∧ s.2.testBit n = false then JE (ys_S s) n else ys_S s n := fun n hn => by
      rw [ys_nx_b s _ _ hn, ← E1 n hn]; rfl
    have lt1 := ys_nx_lt (j1.1 r) (j1.2.1 r) H1 H2
    have un0 : ∀ n, s.1.testBit n = false ∧ s.2.testBit n = false → ys_S s n = (false, false) := fun n h => by unfold ys_S; rw [h.1, h.2]
    have leU : ∀ x : rv_V, rv_le (false, false) x := fun x => ⟨fun h => by simp at h, fun h => by simp at h⟩
    have mono : ∀ n, n < 6 → rv_le (ys_S s n) (ys_S (ys_nx s (j1.1 r) (j1.2.1 r)) n) := fun n hn => by
      rw [nb n hn]
      by_cases e : s.1.testBit n = false ∧ s.2.testBit n = false
      · rw [un0 n e]; exact leU _
      · rw [if_neg e]; exact rv_le_rf _
    have HI1 : ys_HI JE SV inb (ys_nx s (j1.1 r) (j1.2.1 r)) := by
      have notin : ∀ n, n < 6 → s.1.testBit n = false ∧ s.2.testBit n = false → inb n = false := fun n hn e => by
        cases hb : inb n with
        | false => rfl
        | true => exact absurd (e.1.symm.trans (H4 n hn hb)) (by decide)
      refine ⟨lt1.1, lt1.2, fun n hn => ?_, fun n hn hb => ?_, fun n hn => ?_, fun n hn hb => ?_⟩
      · rw [nb n hn]
        by_cases e : s.1.testBit n = false ∧ s.2.testBit n = false
        · rw [if_pos e, ← E1 n hn]; exact cE n hn
        · rw [if_neg e]; exact H3 n hn
      · exact (mono n hn).1 (H4 n hn hb)
      · rw [nb n hn]
        by_cases e : s.1.testBit n = false ∧ s.2.testBit n = false
        · rw [if_pos e]; exact hV _ H5 n hn (notin n hn e)
        · rw [if_neg e]; exact H5 n hn
      · have m := hM _ _ mono n hn
        by_cases e : s.1.testBit n = false ∧ s.2.testBit n = false
        · rw [nb n hn, if_pos e]; exact m
        · rw [nb n hn, if_neg e]; exact rv_le_tr (H6 n hn hb) m
    have e64 : ∀ s : Nat × Nat, nI s.1 + (64 : Int32) * nI s.2 = nI (s.1 + 64 * s.2) := fun s => (congrArg (nI s.1 + ·) (pk_mul 64 s.2)).trans (nI_add _ _)
    have eu : ((63 : Int32) &&& (nI s.1 ^^^ (-1))) &&& (nI s.2 ^^^ (-1)) = nI (ys_nu s) := by
      rw [show (-1 : Int32) = nI 4294967295 by decide +kernel, nx_xor, nx_xor, show (63 : Int32) = nI 63 from rfl, nx_and, nx_and]; rfl
    have em : xs_A j1.1 (nI r).toNatClampNeg = nI (j1.1 r) := xs_at (by omega)
    have ec : xs_A j1.2.1 (nI r).toNatClampNeg = nI (j1.2.1 r) := xs_at (by omega)
    have e1 : nI s.1 ||| (nI (ys_nu s) &&& xs_A j1.1 (nI r).toNatClampNeg) = nI (ys_nx s (j1.1 r) (j1.2.1 r)).1 := by rw [em, nx_and, nx_or]; rfl
    have e2 : nI s.2 ||| (nI (ys_nu s) &&& (xs_A j1.2.1 (nI r).toNatClampNeg ^^^ (-1))) = nI (ys_nx s (j1.1 r) (j1.2.1 r)).2 := by
      rw [ec, show (-1 : Int32) = nI 4294967295 by decide +kernel, nx_xor, nx_and, nx_or]; rfl
    have go : ∀ (m : Nat) (post : Int32 → SY → Prop), wY_find_45 post (nI r) (m + 1) (nI (s.1 + 64 * s.2)) (nI o.1) (nI o.2.1) (nI p.1) (nI o.2.2.1) (nI o.2.2.2.1) (nI o.2.2.2.2.1) (nI (ys_nx s (j1.1 r) (j1.2.1 r)).1) (nI (ys_nx s (j1.1 r) (j1.2.1 r)).2) (nI o.2.2.2.2.2.1) (nI o.2.2.2.2.2.2.1) (nI o.2.2.2.2.2.2.2.1) (xs_A p.2.1) p.2.2.1 (xs_A p.2.2.2.1) (xs_A p.2.2.2.2) (xs_A o.2.2.2.2.2.2.2.2.1) (xs_A o.2.2.2.2.2.2.2.2.2.1) (xs_A o.2.2.2.2.2.2.2.2.2.2) (xs_A l) (xs_A j1.1) (xs_A j1.2.1) (ys_E j1.2.2.1) (xs_A j1.2.2.2) (xs_A d.1) (xs_A d.2.1) (xs_A d.2.2.1) (xs_A d.2.2.2) → wY_find_45 post (nI r) (m + 2) bf (nI o.1) (nI o.2.1) (nI p.1) (nI o.2.2.1) (nI o.2.2.2.1) (nI o.2.2.2.2.1) (nI s.1) (nI s.2) (nI o.2.2.2.2.2.1) (nI o.2.2.2.2.2.2.1) (nI o.2.2.2.2.2.2.2.1) (xs_A p.2.1) p.2.2.1 (xs_A p.2.2.2.1) (xs_A p.2.2.2.2) (xs_A o.2.2.2.2.2.2.2.2.1) (xs_A o.2.2.2.2.2.2.2.2.2.1) (xs_A o.2.2.2.2.2.2.2.2.2.2) (xs_A l) (xs_A j.1) (xs_A j.2.1) (ys_E j.2.2.1) (xs_A j.2.2.2) (xs_A d.1) (xs_A d.2.1) (xs_A d.2.2.1) (xs_A d.2.2.2) := fun m post H =>
      br_f (fun h => hbf (h.trans (e64 s))) (nm_r (e64 s) ⟨1 + p.1, K1 post _ _ _ (br_t (nI_le (Nat.le_refl _) (by omega)) (nm_r eu (And.intro rin (nm_r e1 (And.intro rin (nm_r e2 H))))))⟩)
    by_cases es : ys_nx s (j1.1 r) (j1.2.1 r) = s
    · refine ⟨s, j1, ⟨H1, H2, H3, H4, H5, H6⟩, I1, fun n hn h0 => ?_, fun post Hp => go n post (br_t ?_ ?_)⟩
      · have a := nb n hn
        rw [es, h0] at a
        have a1 : s.1.testBit n = false := congrArg Prod.fst h0
        have a2 : s.2.testBit n = false := congrArg Prod.snd h0
        rw [if_pos ⟨a1, a2⟩] at a
        exact a.symm
      · rw [es]; exact (e64 s).symm
      · rw [es]; exact Hp
    · have lt : ys_un (ys_nx s (j1.1 r) (j1.2.1 r)) < ys_un s := by
        refine sp_U_lt 6 (fun t ht h => ?_) ?_
        · have a := nb t ht
          by_cases e : s.1.testBit t = false ∧ s.2.testBit t = false
          · rw [if_pos e]
          · rw [if_neg e] at a
            have a1 : (ys_nx s (j1.1 r) (j1.2.1 r)).1.testBit t = s.1.testBit t := congrArg Prod.fst a
            have a2 : (ys_nx s (j1.1 r) (j1.2.1 r)).2.testBit t = s.2.testBit t := congrArg Prod.snd a
            rw [a1, a2, if_neg e] at h
            omega
        · refine Classical.byContradiction fun hne => es (ys_S_ext lt1.1 lt1.2 H1 H2 fun t ht => ?_)
          rw [nb t ht]
          by_cases e : s.1.testBit t = false ∧ s.2.testBit t = false
          · rw [if_pos e]
            refine Classical.byContradiction fun hne2 => hne ⟨t, ht, by rw [if_pos e], fun h => hne2 ?_⟩
            by_cases e' : (ys_nx s (j1.1 r) (j1.2.1 r)).1.testBit t = false ∧ (ys_nx s (j1.1 r) (j1.2.1 r)).2.testBit t = false
            · have a := nb t ht
              rw [if_pos e] at a
              rw [← a, un0 t e]; unfold ys_S; rw [e'.1, e'.2]
            · rw [if_neg e'] at h; omega
          · rw [if_neg e]
      obtain ⟨s', j', F1, F2, F3, F4⟩ := ih (n - 1) (by omega) (ys_nx s (j1.1 r) (j1.2.1 r)) j1 (nI (s.1 + 64 * s.2)) HI1 (by omega) (by
        intro h
        have h := (nI_eq (by omega) (by omega)).mp h
        exact es (Prod.ext (by omega) (by omega)))
      exact ⟨s', j', F1, F2, F3, fun post Hp => go n post (by rw [show n + 1 = n - 1 + 2 by omega]; exact F4 post Hp)⟩
theorem ys_find {s0 : Nat × Nat} {l0 : xs_f} {j0 : ys_J} {x1 : Int32} (hz1 : 1 ≤ p.1) (hz : p.1 ≤ 16) (hT : ∀ i, i < p.1 → rt_Nd p.2.1 nm p.2.2.2.1 p.2.2.2.2 lo i) (hN : ∀ i, i < p.1 → ys_N p nm i) (hon : ∀ t, t < 16 → o.2.2.2.2.2.2.2.2.2.2 t ≤ 1) (hl0 : ∀ t, t < 16 → l0 t ≤ 1) (hb : o.2.2.1 ≤ 1)
    (hr : r = if o.2.2.1 = 0 then p.1 - 1 else 16 + (p.1 - 1))
    (hJE : ∀ l, (∀ t, t < 16 → l t ≤ 1) → (∀ t, t < p.1 → rt_Al p.2.1 p.2.2.2.1 p.2.2.2.2 (ys_on o) (ys_al l) t) → ∀ s j, (∀ n, n < 6 → rv_con (ys_S s n)) → ys_I p nm (ys_on o) (ys_al l) (ys_S s) j p.1 → ∀ n, n < 6 → ye j r n = JE (ys_S s) n)
    (hM : ∀ S S' : Nat → rv_V, (∀ n, n < 6 → rv_le (S n) (S' n)) → ∀ n, n < 6 → rv_le (JE S n) (JE S' n))
    (hV : ∀ S : Nat → rv_V, (∀ n, n < 6 → rv_le (S n) (SV n)) → ∀ n, n < 6 → bt x1 n = false → rv_le (JE S n) (SV n))
    (hI : ∀ n, n < 6 → bt x1 n = true → SV n = rv_T) :
    ∃ l s j, (∀ t, t < 16 → l t ≤ 1) ∧ (∀ t, t < p.1 → rt_Al p.2.1 p.2.2.2.1 p.2.2.2.2 (ys_on o) (ys_al l) t) ∧ ys_HI JE SV (bt x1) s ∧ ys_I p nm (ys_on o) (ys_al l) (ys_S s) j p.1 ∧ (∀ n, n < 6 → ys_S s n = (false, false) → JE (ys_S s) n = (false, false)) ∧
      ∀ post : Int32 → SY → Prop, post (nI r) (ys p o s l j d) → wpY_find post (ys p o s0 l0 j0 d) x1 := by
  obtain ⟨l, A1, A2, KA⟩ := ys_fa_loop (p := p) (o := o) (s := s0) (j := j0) (d := d) hz hT hon p.1 0 (by omega) l0 hl0 (fun t ht => by omega)
  have hm : x1 &&& 63 = nI (x1.toBitVec.toNat % 64) := pk_and x1 6 (by decide)
  have mb : ∀ n, n < 6 → (x1.toBitVec.toNat % 64).testBit n = bt x1 n := fun n hn => by
    rw [show (64 : Nat) = 2 ^ 6 from rfl, Nat.testBit_mod_two_pow, decide_eq_true hn, Bool.true_and]; rfl
  have S0 : ∀ n, n < 6 → ys_S (x1.toBitVec.toNat % 64, 0) n = (bt x1 n, false) := fun n hn => by unfold ys_S; rw [mb n hn, Nat.zero_testBit]
  have leU : ∀ x : rv_V, rv_le (false, false) x := fun x => ⟨fun h => by simp at h, fun h => by simp at h⟩
  have H0 : ys_HI JE SV (bt x1) (x1.toBitVec.toNat % 64, 0) := by
    refine ⟨Nat.mod_lt _ (by omega), show 0 < 64 by omega, fun n hn => ?_, fun n hn h => (mb n hn).trans h, fun n hn => ?_, fun n hn h => ?_⟩
    · rw [S0 n hn]; unfold rv_con; simp
    · rw [S0 n hn]
      cases h : bt x1 n with
      | true => rw [hI n hn h]; exact rv_le_rf _
      | false => exact leU _
    · rw [S0 n hn, h]; exact leU _
  have rr : r = p.1 - 1 ∨ r = 16 + (p.1 - 1) := by
    rw [hr]; split
    · exact Or.inl rfl
    · exact Or.inr rfl
  obtain ⟨s, j, F1, F2, F3, F4⟩ := ys_find_loop (p := p) (o := o) (l := l) (d := d) hz1 hz hT hN hon A1 rr (hJE l A1 A2) hM hV 6 (x1.toBitVec.toNat % 64, 0) j0 (-1) H0 (by
      unfold ys_un
      have : ∀ f : xs_f, sp_U f 6 ≤ 6 := fun f => by
        show (((((0 + (if f 0 = 2 then 1 else 0)) + (if f 1 = 2 then 1 else 0)) + (if f 2 = 2 then 1 else 0)) + (if f 3 = 2 then 1 else 0)) + (if f 4 = 2 then 1 else 0)) + (if f 5 = 2 then 1 else 0) ≤ 6
        split <;> split <;> split <;> split <;> split <;> split <;> omega
      exact this _) (by
      intro h
      have h := congrArg Int32.toInt h
      have a : x1.toBitVec.toNat % 64 < 64 := Nat.mod_lt _ (by omega)
      rw [nI_toInt (by show x1.toBitVec.toNat % 64 + 64 * 0 < 2 ^ 31; omega)] at h
      have b : (-1 : Int32).toInt = -1 := by decide
      rw [b] at h
      omega)
  refine ⟨l, s, j, A1, A2, F1, F2, F3, fun post Hp => ?_⟩
  have F4 := F4 post Hp
  refine ⟨p.1 + 1, KA _ (nm_r hm ?_)⟩
  by_cases e : o.2.2.1 = 0
  · rw [if_pos e] at hr
    exact br_t (by show nI o.2.2.1 = 0; rw [e]; rfl) (nm_r (e' := nI r) (by rw [hr]; exact pk_sub hz1) ⟨8, F4⟩)
  · rw [if_neg e] at hr
    have e16 : (16 : Int32) + nI p.1 - 1 = nI r := by
      rw [show (16 : Int32) + nI p.1 = nI (16 + p.1) from nI_add 16 _, hr]
      exact (pk_sub (a := 16 + p.1) (b := 1) (by omega)).trans (congrArg nI (by omega))
    exact br_f (by show ¬ nI o.2.2.1 = 0; exact nI_ne0 (by omega) (by omega)) (nm_r e16 ⟨8, F4⟩)
end
end
section
/-! ===== the two instants meet ===== -/
theorem rt_NE_S {kd nm pp pq : Nat → Nat} {S S' : Nat → rv_V} {rs rr rh rk rl rg rb : Nat → rv_V} {rc : Nat → Nat → rv_V} {i : Nat} (h : S' (nm i) = S (nm i)) (H : rt_NE kd nm pp pq S rs rr rh rk rl rg rb rc i) : rt_NE kd nm pp pq S' rs rr rh rk rl rg rb rc i := by
  unfold rt_NE at H ⊢
  rw [h]
  exact H
theorem xs_src_s {g : xs_G} {bg : Bool} {on : Nat → Bool} {S : Nat → rv_V} {n : Nat} (hn : n < 6) : xs_src g bg on S (4 + n) = S n := by
  unfold xs_src
  rw [if_neg (by omega), if_neg (by omega), if_neg (by omega), if_neg (by omega), if_pos (by omega)]
  congr 1
  omega
theorem xs_src_10 {g : xs_G} {bg : Bool} {on : Nat → Bool} {S : Nat → rv_V} {t : Nat} (h : 10 ≤ t) : xs_src g bg on S t = rv_b (on (g.2.2.1 t)) := by
  unfold xs_src
  rw [if_neg (by omega), if_neg (by omega), if_neg (by omega), if_neg (by omega), if_neg (by omega)]
theorem xs_src_m {g : xs_G} {bg : Bool} {on : Nat → Bool} {S S' : Nat → rv_V} (h : ∀ n, n < 6 → rv_le (S n) (S' n)) (t : Nat) : rv_le (xs_src g bg on S t) (xs_src g bg on S' t) := by
  by_cases h4 : t < 4
  · have c : t = 0 ∨ t = 1 ∨ t = 2 ∨ t = 3 := by omega
    rcases c with c | c | c | c <;> subst c <;> exact rv_le_rf _
  · by_cases h10 : t < 10
    · have e : t = 4 + (t - 4) := by omega
      rw [e, xs_src_s (by omega), xs_src_s (by omega)]; exact h _ (by omega)
    · rw [xs_src_10 (by omega), xs_src_10 (by omega)]; exact rv_le_rf _
/-- what the circuit says of the signals, at the statuses S -/
noncomputable def sp_JE (g : xs_G) (bg : Bool) (on : Nat → Bool) (S : Nat → rv_V) (n : Nat) : rv_V := gq_lf (gq_phi g (xs_src g bg on S)) (g.2.2.2.1 (4 + n))
section
variable {p : xs_P} {lo : xs_f} {l : xs_L} {g : xs_G} {w : xs_W} {bg : Bool} {on al : Nat → Bool} {S : Nat → rv_V} {R : Nat → rv_V} {C E : Nat → Nat → rv_V}
theorem sp_JE_m {S' : Nat → rv_V} (h : ∀ n, n < 6 → rv_le (S n) (S' n)) (n : Nat) : rv_le (sp_JE g bg on S n) (sp_JE g bg on S' n) := by
  refine gq_lf_mono (gq_phi_m _ _) (fun Q i => ?_) _
  unfold gq_phi
  split
  · exact rv_le_rf _
  · exact xs_src_m h i
/-- below every model of all gates whose signals are no less -/
theorem sp_JE_le (hG : gq_ok g) {S' : Nat → rv_V} (h : ∀ n, n < 6 → rv_le (S n) (S' n)) (F : gq_full g (xs_src g bg on S') R) {n : Nat} (hn : n < 6) : rv_le (sp_JE g bg on S n) (R (g.2.2.2.1 (4 + n))) := by
  have g10 := hG.1
  have hb := (hG.2.2 (4 + n) (by omega)).2.2.2.2.2 (by omega)
  have a := gq_lf_le (Φ := gq_phi g (xs_src g bg on S)) (Q := fun i => if i < g.1 then R i else xs_src g bg on S i) (fun i => ?_) (g.2.2.2.1 (4 + n))
  · rw [if_pos hb] at a
    exact a
  · by_cases hi : i < g.1
    · rw [if_pos hi, F i hi]
      unfold gq_phi
      by_cases hk : g.2.1 i = 0
      · rw [if_neg (fun q => q.2 hk), if_neg (fun q => q.2 hk)]; exact xs_src_m h i
      · have J := (hG.2.2 i hi).2.2.2.1 hk
        rw [if_pos ⟨hi, hk⟩, if_pos ⟨hi, hk⟩]
        dsimp only
        rw [if_pos J.2.1, if_pos J.2.2]; exact rv_le_rf _
    · rw [if_neg hi]
      unfold gq_phi
      rw [if_neg (fun q => hi q.1)]; exact rv_le_rf _
/-- registers and what is active, in a model -/
theorem sp_reg (X : xs_Circ p lo l g w) (F : gq_full g (xs_src g bg on S) R) {i : Nat} (hi : i < p.1) (hk : p.2.1 i = 1 ∨ p.2.1 i = 4) : R (l.2 i) = rv_b (on i) := by
  obtain ⟨a1, a2, a3, a4⟩ := X.2.1 i hi
  obtain ⟨b1, b2, b3⟩ := a3 hk
  rw [gq_full_s F a2 b2, xs_src_10 b1, b3]
theorem sp_md (X : xs_Circ p lo l g w) (F : gq_full g (xs_src g bg on S) R) : gq_md g R := gq_full_md X.1 F rfl rfl
theorem sp_sel (hT : ∀ i, i < p.1 → rt_Nd p.2.1 p.2.2.1 p.2.2.2.1 p.2.2.2.2 lo i) (X : xs_Circ p lo l g w) (F : gq_full g (xs_src g bg on S) R) (hal : ∀ i, i < p.1 → rt_Al p.2.1 p.2.2.2.1 p.2.2.2.2 on al i) (hwf : ∀ i, i < p.1 → rt_Wf p.2.1 p.2.2.2.1 p.2.2.2.2 on al i) :
    ∀ i, i < p.1 → R (l.1 i) = rv_b (al i) := by
  have m := sp_md X F
  have X6 := (X.2.2.2.2.2 R m).2.2
  intro i
  induction i using Nat.strongRecOn with
  | ind i ih =>
    intro hi
    have P := rt_Nd_p hT hi
    have r0 : p.2.1 i ≠ 1 → p.2.1 i ≠ 4 → R (l.2 i) = rv_F := fun h1 h4 => by rw [(X.2.1 i hi).2.2.2 h1 h4]; exact m.1
    rw [X6 i hi]
    unfold xs_se
    by_cases h4 : p.2.1 i < 4
    · rw [if_pos h4, rt_al_0 (hal i hi) h4]
      by_cases e1 : p.2.1 i = 1
      · exact sp_reg X F hi (Or.inl e1)
      · rw [r0 e1 (by omega), rt_on_f (hwf i hi) e1 (by omega)]; rfl
    rw [if_neg h4]
    have ip := ih (p.2.2.2.1 i) (by have := P.1 (by omega); omega) (by have := P.1 (by omega); omega)
    by_cases h7 : p.2.1 i < 7
    · rw [if_pos h7, ip, rt_al_1 (hal i hi) (by omega) h7]
      by_cases e4 : p.2.1 i = 4
      · rw [sp_reg X F hi (Or.inr e4), rv_b_or]
      · rw [r0 (by omega) e4, rt_on_f (hwf i hi) (by omega) e4, rv_F_or]; rfl
    · have iq := ih (p.2.2.2.2 i) (by have := P.2 (by omega); omega) (by have := P.2 (by omega); omega)
      rw [if_neg h7, ip, iq, rt_al_2 (hal i hi) (by omega), rt_on_f (hwf i hi) (by omega) (by omega), rv_b_or]; rfl
/-- the wires of all statements, in a model -/
theorem sp_NE (hT : ∀ i, i < p.1 → rt_Nd p.2.1 p.2.2.1 p.2.2.2.1 p.2.2.2.2 lo i) (X : xs_Circ p lo l g w) (F : gq_full g (xs_src g bg on S) R) {i : Nat} (hi : i < p.1) :
    rt_NE p.2.1 p.2.2.1 p.2.2.2.1 p.2.2.2.2 S (fun x => R (w.1 x)) (fun x => R (w.2.1 x)) (fun x => R (w.2.2.1 x)) (fun x => R (w.2.2.2.1 x)) (fun x => R (l.1 x)) (fun x => R (l.2 x)) (fun x => R (w.2.2.2.2.2 x)) (fun x c => R (w.2.2.2.2.1 (5 * x + c))) i := by
  have m := sp_md X F
  have n6 := (hT i hi).2.1
  refine rt_NE_S ?_ ((X.2.2.2.2.2 R m).1 i hi)
  rw [gq_full_s F (by have := X.1.1; omega) (gq_z10 X.1 (by omega)), xs_src_s n6]
theorem sp_KE (X : xs_Circ p lo l g w) (F : gq_full g (xs_src g bg on S) R) {i : Nat} (hi : i < p.1) :
    rt_KE p.2.1 p.2.2.2.1 (fun x => R (w.2.2.2.1 x)) (fun x c => R (w.2.2.2.2.1 (5 * x + c))) i := by
  have m := sp_md X F
  have K := (X.2.2.2.1 i hi).2
  constructor
  · intro h
    obtain ⟨k1, k2, k3, k4, k5, k6⟩ := K (Or.inl h)
    have a := gq_full_g F k2 (by omega)
    rw [k3, k5, k6 R m, if_pos h] at a
    exact a
  · intro h
    obtain ⟨k1, k2, k3, k4, k5, k6⟩ := K (Or.inr h)
    have a := gq_full_g F k2 (by omega)
    rw [k3, k5, k6 R m, if_neg (by omega)] at a
    exact a
theorem sp_root (X : xs_Circ p lo l g w) (F : gq_full g (xs_src g bg on S) R) : R (w.1 (p.1 - 1)) = rv_b (!bg) ∧ R (w.2.1 (p.1 - 1)) = rv_b bg ∧ R (w.2.2.1 (p.1 - 1)) = rv_F ∧ R (w.2.2.2.1 (p.1 - 1)) = rv_F := by
  obtain ⟨a1, a2, a3, a4⟩ := X.2.2.2.2.1
  have g10 := X.1.1
  have z := fun {t} (h : t < 10) => gq_full_s F (by omega) (gq_z10 X.1 h)
  rw [a1, a2, a3, a4, z (by omega : 2 < 10), z (by omega : 3 < 10), z (by omega : 0 < 10)]
  exact ⟨rfl, rfl, rfl, rfl⟩
/-- what is known of registers at an instant: nothing is on before the first; the whole is active after it -/
def sp_Bg (z : Nat) (bg : Bool) (al : Nat → Bool) : Prop := al (z - 1) = bg
theorem sp_St (hT : ∀ i, i < p.1 → rt_Nd p.2.1 p.2.2.1 p.2.2.2.1 p.2.2.2.2 lo i) (X : xs_Circ p lo l g w) (F : gq_full g (xs_src g bg on S) R) (hal : ∀ i, i < p.1 → rt_Al p.2.1 p.2.2.2.1 p.2.2.2.2 on al i) (hwf : ∀ i, i < p.1 → rt_Wf p.2.1 p.2.2.2.1 p.2.2.2.2 on al i)
    (hJ : ∀ i, i < p.1 → rt_Ref p.2.1 p.2.2.1 p.2.2.2.1 p.2.2.2.2 on al S C E i) :
    ∀ i, i < p.1 → (al i = true → R (w.1 i) = rv_F) → rt_St p.2.1 p.2.2.1 lo al C E (fun x => R (w.1 x)) (fun x => R (w.2.1 x)) (fun x c => R (w.2.2.2.2.1 (5 * x + c))) i :=
  rt_struct hT hal hwf hJ (fun i hi => sp_NE hT X F hi) (fun i hi => sp_sel hT X F hal hwf i hi) (fun i hi h => sp_reg X F hi h)
theorem sp_rt (hz1 : 1 ≤ p.1) (hT : ∀ i, i < p.1 → rt_Nd p.2.1 p.2.2.1 p.2.2.2.1 p.2.2.2.2 lo i) (X : xs_Circ p lo l g w) (F : gq_full g (xs_src g bg on S) R) (hal : ∀ i, i < p.1 → rt_Al p.2.1 p.2.2.2.1 p.2.2.2.2 on al i) (hwf : ∀ i, i < p.1 → rt_Wf p.2.1 p.2.2.2.1 p.2.2.2.2 on al i)
    (hJ : ∀ i, i < p.1 → rt_Ref p.2.1 p.2.2.1 p.2.2.2.1 p.2.2.2.2 on al S C E i) (hb : al (p.1 - 1) = bg) {r : Nat} (hr : r = if bg = false then p.1 - 1 else 16 + (p.1 - 1)) :
    (∀ c, c < 5 → R (w.2.2.2.2.1 (5 * (p.1 - 1) + c)) = C r c) ∧ ∀ n, n < 6 → R (g.2.2.2.1 (4 + n)) = E r n := by
  obtain ⟨r1, r2, -, -⟩ := sp_root X F
  have st := sp_St hT X F hal hwf hJ (p.1 - 1) (by omega) (fun h => by rw [hb] at h; rw [r1, h]; rfl)
  have em := (X.2.2.2.2.2 R (sp_md X F)).2.1
  cases bg with
  | true =>
    rw [if_neg (by decide)] at hr
    refine ⟨fun c hc => ?_, fun n hn => ?_⟩
    · have a := st.1 c hc
      rw [hb, if_pos rfl] at a
      dsimp only at a
      rw [a, r2, hr]; exact rv_T_and _
    · have a := st.2 n hn
      rw [hb, if_pos rfl] at a
      dsimp only at a
      rw [em n hn, a, r2, hr]; exact rv_T_and _
  | false =>
    rw [if_pos rfl] at hr
    refine ⟨fun c hc => ?_, fun n hn => ?_⟩
    · have a := st.1 c hc
      rw [hb, if_neg Bool.false_ne_true] at a
      dsimp only at a
      rw [a, r1, hr]; exact rv_T_and _
    · have a := st.2 n hn
      rw [hb, if_neg Bool.false_ne_true] at a
      dsimp only at a
      rw [em n hn, a, r1, hr]; exact rv_T_and _
end
/-- the instant of both sides -/
theorem sp_inst {o : xs_O} {p : xs_P} {lo : xs_f} {l : xs_L} {g : xs_G} {w : xs_W} {k : xs_K} {oy : ys_O} {nb : Nat → Int32} {s0 : Nat × Nat} {l0 : xs_f} {j0 : ys_J} {d : ys_D} {x1 : Int32}
    (hz1 : 1 ≤ p.1) (hz : p.1 ≤ 16) (hT : ∀ i, i < p.1 → rt_Nd p.2.1 p.2.2.1 p.2.2.2.1 p.2.2.2.2 lo i) (hN : ∀ i, i < p.1 → ys_N (p.1, p.2.1, nb, p.2.2.2.1, p.2.2.2.2) p.2.2.1 i) (X : xs_Circ p lo l g w)
    (hon : ∀ t, t < 16 → o.2.2.2.2.2.2.2.2.2.1 t ≤ 1) (he : oy.2.2.2.2.2.2.2.2.2.2 = o.2.2.2.2.2.2.2.2.2.1) (hb : o.2.2.1 ≤ 1) (heb : oy.2.2.1 = o.2.2.1) (hl0 : ∀ t, t < 16 → l0 t ≤ 1)
    (hwf : ∀ al, (∀ i, i < p.1 → rt_Al p.2.1 p.2.2.2.1 p.2.2.2.2 (ys_on oy) al i) → (∀ i, i < p.1 → rt_Wf p.2.1 p.2.2.2.1 p.2.2.2.2 (ys_on oy) al i) ∧ al (p.1 - 1) = decide (o.2.2.1 = 1)) :
    ∃ v l1 s j, (∀ t, t < g.1 → v t ≤ 2) ∧ gq_full g (xs_src g (decide (o.2.2.1 = 1)) (ys_on oy) (ys_S s)) (fun t => rv_of (v t)) ∧ (∀ n, n < 6 → rv_of (v (4 + n)) = ys_S s n) ∧ s.1 < 64 ∧ s.2 < 64 ∧ (∀ n, n < 6 → rv_con (ys_S s n)) ∧ (∀ n, n < 6 → bt x1 n = true → s.1.testBit n = true) ∧
      (∀ t, t < 16 → l1 t ≤ 1) ∧ (∀ t, t < p.1 → rt_Al p.2.1 p.2.2.2.1 p.2.2.2.2 (ys_on oy) (ys_al l1) t) ∧ ys_I (p.1, p.2.1, nb, p.2.2.2.1, p.2.2.2.2) p.2.2.1 (ys_on oy) (ys_al l1) (ys_S s) j p.1 ∧
      (∀ post : SX → Prop, post (xs (xs_ov o v) p l g w k) → wpX_spread post (xs o p l g w k) x1) ∧
      (∀ post : Int32 → SY → Prop, post (nI (if o.2.2.1 = 0 then p.1 - 1 else 16 + (p.1 - 1))) (ys (p.1, p.2.1, nb, p.2.2.2.1, p.2.2.2.2) oy s l1 j d) → wpY_find post (ys (p.1, p.2.1, nb, p.2.2.2.1, p.2.2.2.2) oy s0 l0 j0 d) x1) := by
  have eon : (fun j => decide (o.2.2.2.2.2.2.2.2.2.1 j = 1)) = ys_on oy := by funext t; unfold ys_on; rw [he]
  obtain ⟨v, ⟨V1, V2, V3, V4⟩, KX⟩ := xs_spread (o := o) (p := p) (l := l) (g := g) (w := w) (k := k) (x1 := x1) X.1 hz X.2.1 X.2.2.1 hon hb
  rw [eon] at V2 V4
  have rr : ∀ r, (r = if o.2.2.1 = 0 then p.1 - 1 else 16 + (p.1 - 1)) → (r = if decide (o.2.2.1 = 1) = false then p.1 - 1 else 16 + (p.1 - 1)) := fun r h => by
    rw [h]
    by_cases e : o.2.2.1 = 0
    · rw [if_pos e, e]; rfl
    · rw [if_neg e, show o.2.2.1 = 1 by omega]; rfl
  obtain ⟨l1, s, j, A1, A2, H, I, Cl, KY⟩ := ys_find (p := (p.1, p.2.1, nb, p.2.2.2.1, p.2.2.2.2)) (o := oy) (d := d) (nm := p.2.2.1) (lo := lo) (JE := sp_JE g (decide (o.2.2.1 = 1)) (ys_on oy)) (SV := fun n => rv_of (v (4 + n))) (r := if o.2.2.1 = 0 then p.1 - 1 else 16 + (p.1 - 1)) (s0 := s0) (l0 := l0) (j0 := j0) (x1 := x1)
    hz1 hz hT hN (by rw [he]; exact hon) hl0 (by rw [heb]; exact hb) (by rw [heb])
    (fun l' _ h2 s j hs hI n hn => by
      obtain ⟨w1, w2⟩ := hwf _ h2
      exact ((sp_rt hz1 hT X (gq_full_lf g _) h2 w1 (fun i hi => (hI i hi).2.2) w2 (rr _ rfl)).2 n hn).symm)
    (fun S S' h n _ => sp_JE_m h n)
    (fun S h n hn hb' => by
      have a := V3 n hn
      rw [hb', if_neg Bool.false_ne_true] at a
      rw [a]
      exact sp_JE_le X.1 h V2 hn)
    (fun n hn hb' => by
      have a := V3 n hn
      rw [hb', if_pos rfl] at a
      exact a)
  obtain ⟨H1, H2, H3, H4, H5, H6⟩ := H
  have con := rt_con hT H3 (fun i hi => (I i hi).2.2)
  have cJE : ∀ n, n < 6 → rv_con (sp_JE g (decide (o.2.2.1 = 1)) (ys_on oy) (ys_S s) n) := fun n hn => by
    obtain ⟨w1, w2⟩ := hwf _ A2
    have a := (sp_rt hz1 hT X (gq_full_lf g _) A2 w1 (fun i hi => (I i hi).2.2) w2 (rr _ rfl)).2 n hn
    have b : sp_JE g (decide (o.2.2.1 = 1)) (ys_on oy) (ys_S s) n = _ := a
    rw [b]
    by_cases e : o.2.2.1 = 0
    · rw [if_pos e]; exact (con _ (by omega)).2.2.1 n hn
    · rw [if_neg e]; exact (con _ (by omega)).2.2.2 n hn
  have g10 := X.1.1
  have eS : ∀ n, n < 6 → rv_of (v (4 + n)) = ys_S s n := by
    have Q := V4 (gq_lf (gq_phi g (xs_src g (decide (o.2.2.1 = 1)) (ys_on oy) (ys_S s)))) ⟨ys_S s, gq_full_lf g _, fun n hn hb' => ?_, fun n hn hb' => ?_⟩
    · intro n hn
      refine rv_le_as ?_ (H5 n hn)
      have a := Q (4 + n) (by omega)
      rw [gq_full_s (gq_full_lf g _) (by omega) (gq_z10 X.1 (by omega)), xs_src_s hn] at a
      exact a
    · have a := H4 n hn hb'
      have c : ((s.1.testBit n) && (s.2.testBit n)) = false := H3 n hn
      rw [a, Bool.true_and] at c
      unfold ys_S
      rw [a, c]; rfl
    · show rv_le (sp_JE g (decide (o.2.2.1 = 1)) (ys_on oy) (ys_S s) n) (ys_S s n)
      by_cases e : ys_S s n = (false, false)
      · rw [Cl n hn e, e]; exact rv_le_rf _
      · have kn : (ys_S s n).1 = true ∨ (ys_S s n).2 = true := by
          revert e; rcases ys_S s n with ⟨_ | _, _ | _⟩ <;> simp
        rw [rv_le_kn (H6 n hn hb') (cJE n hn) kn]; exact rv_le_rf _
  refine ⟨v, l1, s, j, V1, ?_, eS, H1, H2, H3, H4, A1, A2, I, KX, KY⟩
  intro t ht
  rw [V2 t ht]
  unfold gq_phi
  by_cases hk : g.2.1 t = 0
  · rw [if_neg (fun q => q.2 hk), if_neg (fun q => q.2 hk)]
    by_cases h4 : t < 4
    · have c : t = 0 ∨ t = 1 ∨ t = 2 ∨ t = 3 := by omega
      rcases c with c | c | c | c <;> subst c <;> rfl
    · by_cases h10 : t < 10
      · have e : t = 4 + (t - 4) := by omega
        rw [e, xs_src_s (by omega), xs_src_s (by omega)]; exact eS _ (by omega)
      · rw [xs_src_10 (by omega), xs_src_10 (by omega)]
  · rw [if_pos ⟨ht, hk⟩, if_pos ⟨ht, hk⟩]
end
section
/-! ===== an instant's end: what is done with each statement, against the wires ===== -/
def td_p (k : Nat) (is on alp : Bool) (way : Nat) : Nat :=
  if way = 0 then 0 else if k = 4 then (if on = true then 1 else way) else if k = 5 then way else if k = 6 then (if way = 2 ∧ is = true then 0 else way)
  else if k = 9 then (if way = 1 then (if is = true then 1 else 0) else if alp = true then way else 0) else (if way = 1 ∨ alp = true then way else 0)
def td_q (k : Nat) (is alp alq : Bool) (cp way : Nat) : Nat :=
  if way = 0 then 0 else if k = 7 then (if way = 2 ∧ alp = false then 2 else if cp = 0 then 1 else 0)
  else if k = 8 then (if way = 1 ∨ alq = true then way else 0) else (if way = 1 then (if is = true then 0 else 1) else if alp = true then 0 else way)
/-- with what x has finished (5: nothing was done with it) -/
def td_c (m dn : xs_f) (x : Nat) : Nat := if dn x = 0 then 5 else if dn x = 1 then m x else m (16 + x)
def td_k (kd pp m dn : xs_f) (kl : Nat → Bool) (t : Nat) : Bool := kl t || ((decide (kd t = 8) && decide (1 < td_c m dn t ∧ td_c m dn t ≠ 5)) || (decide (kd t = 5) && decide (td_c m dn (pp t) = 2)))
def td_E (kd pp pq m : xs_f) (on al is : Nat → Bool) (dn : xs_f) (fz fi kl : Nat → Bool) (t : Nat) : Prop :=
  fz t = (fi t || (decide (kd t = 6) && (decide (dn t = 2) && is t))) ∧
  (4 ≤ kd t → dn (pp t) = td_p (kd t) (is t) (on t) (al (pp t)) (dn t) ∧ fi (pp t) = fz t ∧ kl (pp t) = td_k kd pp m dn kl t) ∧
  (7 ≤ kd t → dn (pq t) = td_q (kd t) (is t) (al (pp t)) (al (pq t)) (td_c m dn (pp t)) (dn t) ∧ fi (pq t) = fz t ∧ kl (pq t) = td_k kd pp m dn kl t)
/-- the wires are what is done -/
def td_P (al : Nat → Bool) (rs rr rh rk : Nat → rv_V) (dn : xs_f) (fi kl : Nat → Bool) (i : Nat) : Prop :=
  rs i = rv_b (decide (dn i = 1)) ∧ (al i = true → rr i = rv_b (decide (dn i = 2)) ∧ rh i = rv_b (fi i)) ∧ rk i = rv_b (kl i) ∧ dn i ≤ 2 ∧ (dn i = 1 → al i = false) ∧ (dn i = 2 → al i = true) ∧ (fi i = true → dn i = 0)
section
variable {kd nm pp pq m dn : Nat → Nat} {on al is fz fi kl : Nat → Bool} {S : Nat → rv_V} {rs rr rh rk rl rg rb : Nat → rv_V} {rc : Nat → Nat → rv_V} {t : Nat}
theorem td_c0 {x : Nat} (h : dn x = 0) : td_c m dn x = 5 := if_pos h
theorem td_d1 (hE : rt_NE kd nm pp pq S rs rr rh rk rl rg rb rc t) (hK : rt_KE kd pp rk rc t) (D : td_E kd pp pq m on al is dn fz fi kl t) (P : td_P al rs rr rh rk dn fi kl t) (hal : rt_Al kd pp pq on al t) (hwf : rt_Wf kd pp pq on al t)
    (hg : kd t = 1 ∨ kd t = 4 → rg t = rv_b (on t)) (h4 : kd t = 4) : td_P al rs rr rh rk dn fi kl (pp t) := by
  obtain ⟨P1, P2, P3, P4, P5, P6, P7⟩ := P
  obtain ⟨D1, D2, -⟩ := D
  obtain ⟨d1, d2, d3⟩ := D2 (by omega)
  obtain ⟨e1, e2, e3, e4, -, -⟩ := hE.2.2.2.1 h4
  have ha := rt_al_1 hal (by omega) (by omega)
  have w2 := hwf.2.1 h4
  have fzt : fz t = fi t := by rw [D1, h4]; simp
  have dk : td_k kd pp m dn kl t = kl t := by unfold td_k; rw [h4]; simp
  have dp : dn (pp t) = if dn t = 0 then 0 else if on t = true then 1 else dn t := by rw [d1]; unfold td_p; rw [h4]; simp
  rw [fzt] at d2
  rw [dk] at d3
  rw [hg (Or.inr h4)] at e1
  unfold td_P
  rw [e1, e2, e3, e4, d2, d3, P3, P1, dp]
  cases ho : on t with
  | true =>
    rw [ho, Bool.true_or] at ha
    have p := w2 ho
    have n1 : dn t ≠ 1 := fun h => by have := P5 h; rw [ha] at this; exact absurd this (by decide)
    rw [(P2 ha).1, p, decide_eq_false n1, rv_bF, rv_F_or, rv_bT, rv_T_and]
    refine ⟨?_, fun h => absurd h (by decide), rfl, by split <;> simp, fun _ => rfl, fun h => ?_, fun h => by rw [if_pos (P7 h)]⟩
    · by_cases z : dn t = 0
      · rw [z]; rfl
      · have : dn t = 2 := by omega
        rw [this]; rfl
    · split at h <;> simp at h
  | false =>
    rw [ho, Bool.false_or] at ha
    rw [rv_bF, rv_F_and, rv_or_F, ← ha]
    have i1 : (if dn t = 0 then 0 else if false = true then 1 else dn t) = dn t := by
      by_cases z : dn t = 0
      · rw [if_pos z, z]
      · rw [if_neg z, if_neg Bool.false_ne_true]
    rw [i1]
    exact ⟨rfl, P2, rfl, P4, P5, P6, P7⟩
theorem td_d5 (hE : rt_NE kd nm pp pq S rs rr rh rk rl rg rb rc t) (hK : rt_KE kd pp rk rc t) (D : td_E kd pp pq m on al is dn fz fi kl t) (P : td_P al rs rr rh rk dn fi kl t) (hal : rt_Al kd pp pq on al t) (hwf : rt_Wf kd pp pq on al t)
    (hc : rs (pp t) = rv_b (decide (dn (pp t) = 1)) → (al (pp t) = true → rr (pp t) = rv_b (decide (dn (pp t) = 2))) → dn (pp t) ≤ 2 → (dn (pp t) = 1 → al (pp t) = false) → (dn (pp t) = 2 → al (pp t) = true) → ∀ k, k < 5 → rc (pp t) k = rv_b (decide (td_c m dn (pp t) = k))) (h5 : kd t = 5) : td_P al rs rr rh rk dn fi kl (pp t) := by
  obtain ⟨P1, P2, P3, P4, P5, P6, P7⟩ := P
  obtain ⟨D1, D2, -⟩ := D
  obtain ⟨d1, d2, d3⟩ := D2 (by omega)
  obtain ⟨e1, e2, e3, -⟩ := hE.2.2.2.2.1 h5
  have ha : al t = al (pp t) := by rw [rt_al_1 hal (by omega) (by omega), rt_on_f hwf (by omega) (by omega)]; rfl
  have fzt : fz t = fi t := by rw [D1, h5]; simp
  have dp : dn (pp t) = dn t := by rw [d1]; unfold td_p; rw [h5]; split <;> simp_all
  have hc := hc (by rw [e1, P1, dp]) (fun h => by rw [e2, dp]; exact (P2 (by rw [ha]; exact h)).1) (by omega) (fun h => by rw [← ha]; exact P5 (by omega)) (fun h => by rw [← ha]; exact P6 (by omega))
  have dk : td_k kd pp m dn kl t = (kl t || decide (td_c m dn (pp t) = 2)) := by unfold td_k; rw [h5]; simp
  rw [fzt] at d2
  unfold td_P
  rw [e1, e2, e3, d2, d3, dk, hK.1 h5, hc 2 (by omega), P3, rv_b_or, P1, dp, ← ha]
  exact ⟨rfl, P2, rfl, P4, P5, P6, P7⟩
theorem td_d6 (hE : rt_NE kd nm pp pq S rs rr rh rk rl rg rb rc t) (D : td_E kd pp pq m on al is dn fz fi kl t) (P : td_P al rs rr rh rk dn fi kl t) (hal : rt_Al kd pp pq on al t) (hwf : rt_Wf kd pp pq on al t)
    (hS : S (nm t) = rv_b (is t)) (h6 : kd t = 6) : td_P al rs rr rh rk dn fi kl (pp t) := by
  obtain ⟨P1, P2, P3, P4, P5, P6, P7⟩ := P
  obtain ⟨D1, D2, -⟩ := D
  obtain ⟨d1, d2, d3⟩ := D2 (by omega)
  obtain ⟨e1, e2, e3, e4, -⟩ := hE.2.2.2.2.2.1 h6
  have ha : al t = al (pp t) := by rw [rt_al_1 hal (by omega) (by omega), rt_on_f hwf (by omega) (by omega)]; rfl
  have fzt : fz t = (fi t || (decide (dn t = 2) && is t)) := by rw [D1, h6]; simp
  have dp : dn (pp t) = if dn t = 2 ∧ is t = true then 0 else dn t := by
    rw [d1]; unfold td_p; rw [h6]
    by_cases z : dn t = 0
    · rw [if_pos z, if_neg (by omega), z]
    · rw [if_neg z]; rfl
  have dk : td_k kd pp m dn kl t = kl t := by unfold td_k; rw [h6]; simp
  rw [fzt] at d2
  rw [dk] at d3
  unfold td_P
  rw [e1, e2, e3, e4, d2, d3, P3, hS, P1, dp, ← ha]
  refine ⟨?_, fun h => ?_, rfl, by split <;> omega, fun h => ?_, fun h => ?_, fun h => ?_⟩
  · by_cases z : dn t = 2 ∧ is t = true
    · rw [if_pos z, z.1]; rfl
    · rw [if_neg z]
  · rw [(P2 h).1, (P2 h).2, rv_b_not, rv_b_and, rv_b_and, rv_b_or]
    refine ⟨?_, rfl⟩
    cases hi : is t with
    | true =>
      by_cases z : dn t = 2
      · rw [z]; rfl
      · rw [if_neg (fun q => z q.1), decide_eq_false z]; rfl
    | false => rw [if_neg (by simp)]; simp
  · refine P5 ?_
    split at h <;> omega
  · refine P6 ?_
    split at h <;> omega
  · by_cases z : dn t = 2 ∧ is t = true
    · rw [if_pos z]
    · rw [if_neg z]
      cases hf : fi t with
      | true => exact P7 hf
      | false =>
        rw [hf, Bool.false_or, Bool.and_eq_true, decide_eq_true_eq] at h
        exact absurd h z
theorem td_d7p (hE : rt_NE kd nm pp pq S rs rr rh rk rl rg rb rc t) (D : td_E kd pp pq m on al is dn fz fi kl t) (P : td_P al rs rr rh rk dn fi kl t) (hal : rt_Al kd pp pq on al t) (hwf : rt_Wf kd pp pq on al t)
    (h7 : kd t = 7) : td_P al rs rr rh rk dn fi kl (pp t) := by
  obtain ⟨P1, P2, P3, P4, P5, P6, P7⟩ := P
  obtain ⟨D1, D2, -⟩ := D
  obtain ⟨d1, d2, d3⟩ := D2 (by omega)
  obtain ⟨e1, e2, e3, e4, -⟩ := hE.2.2.2.2.2.2.1 h7
  have ha : al t = (al (pp t) || al (pq t)) := by rw [rt_al_2 hal (by omega), rt_on_f hwf (by omega) (by omega)]; rfl
  have fzt : fz t = fi t := by rw [D1, h7]; simp
  have dk : td_k kd pp m dn kl t = kl t := by unfold td_k; rw [h7]; simp
  have dp : dn (pp t) = if dn t = 0 then 0 else if dn t = 1 ∨ al (pp t) = true then dn t else 0 := by rw [d1]; unfold td_p; rw [h7]; rfl
  rw [fzt] at d2
  rw [dk] at d3
  unfold td_P
  rw [e1, e2, e3, e4, d2, d3, P3, P1, dp]
  have c : dn t = 0 ∨ dn t = 1 ∨ dn t = 2 := by omega
  rcases c with c | c | c
  · rw [c]
    refine ⟨rfl, fun h => ?_, rfl, by simp, by simp, by simp, by simp⟩
    have := P2 (by rw [ha, h]; rfl)
    rw [c] at this; exact this
  · have a0 := P5 c
    rw [ha, Bool.or_eq_false_iff] at a0
    rw [c, a0.1]
    exact ⟨rfl, fun h => absurd h (by decide), rfl, by simp, fun _ => rfl, by simp, fun h => by have := P7 h; omega⟩
  · cases hp : al (pp t) with
    | true =>
      rw [c]
      refine ⟨rfl, fun _ => ?_, rfl, by simp, by simp, fun _ => rfl, fun h => by have := P7 h; omega⟩
      have := P2 (by rw [ha, hp]; rfl)
      rw [c] at this; exact this
    | false =>
      rw [c]
      exact ⟨rfl, fun h => absurd h (by decide), rfl, by simp, by simp, by simp, by simp⟩
theorem td_d7q (hE : rt_NE kd nm pp pq S rs rr rh rk rl rg rb rc t) (D : td_E kd pp pq m on al is dn fz fi kl t) (P : td_P al rs rr rh rk dn fi kl t) (hal : rt_Al kd pp pq on al t) (hwf : rt_Wf kd pp pq on al t)
    (hc : ∀ k, k < 5 → rc (pp t) k = rv_b (decide (td_c m dn (pp t) = k))) (h7 : kd t = 7) : td_P al rs rr rh rk dn fi kl (pq t) := by
  obtain ⟨P1, P2, P3, P4, P5, P6, P7⟩ := P
  obtain ⟨D1, D2, D3⟩ := D
  obtain ⟨dp, -, -⟩ := D2 (by omega)
  obtain ⟨d1, d2, d3⟩ := D3 (by omega)
  obtain ⟨-, -, -, -, e1, e2, e3, e4, -⟩ := hE.2.2.2.2.2.2.1 h7
  have ha : al t = (al (pp t) || al (pq t)) := by rw [rt_al_2 hal (by omega), rt_on_f hwf (by omega) (by omega)]; rfl
  have fzt : fz t = fi t := by rw [D1, h7]; simp
  have dk : td_k kd pp m dn kl t = kl t := by unfold td_k; rw [h7]; simp
  have dp : dn (pp t) = if dn t = 0 then 0 else if dn t = 1 ∨ al (pp t) = true then dn t else 0 := by rw [dp]; unfold td_p; rw [h7]; rfl
  have dq : dn (pq t) = if dn t = 0 then 0 else if dn t = 2 ∧ al (pp t) = false then 2 else if td_c m dn (pp t) = 0 then 1 else 0 := by rw [d1]; unfold td_q; rw [h7]; rfl
  rw [fzt] at d2
  rw [dk] at d3
  unfold td_P
  rw [e1, e2, e3, e4, d2, d3, P3, hc 0 (by omega), dq]
  have wf := hwf.2.2 (Or.inl h7)
  have c : dn t = 0 ∨ dn t = 1 ∨ dn t = 2 := by omega
  rcases c with c | c | c
  · have z : dn (pp t) = 0 := by rw [dp, c]; rfl
    rw [td_c0 z, c]
    refine ⟨rfl, fun h => ?_, rfl, by simp, by simp, by simp, by simp⟩
    have := P2 (by rw [ha, h, Bool.or_true])
    rw [c] at this; exact this
  · have a0 := P5 c
    rw [ha, Bool.or_eq_false_iff] at a0
    rw [c, a0.1, a0.2]
    refine ⟨?_, fun h => absurd h (by decide), rfl, by split <;> (try split) <;> (try split) <;> omega, fun _ => rfl, fun h => ?_, fun h => by have := P7 h; omega⟩
    · by_cases z : td_c m dn (pp t) = 0
      · rw [z]; rfl
      · simp [z]
    · simp at h; split at h <;> simp at h
  · cases hp : al (pp t) with
    | true =>
      have q := wf hp
      rw [c, q]
      refine ⟨?_, fun h => absurd h (by decide), rfl, by simp; split <;> simp, fun _ => rfl, fun h => ?_, fun h => by have := P7 h; omega⟩
      · by_cases z : td_c m dn (pp t) = 0
        · rw [z]; rfl
        · simp [z]
      · simp at h; split at h <;> simp at h
    | false =>
      have al2 := P6 c
      rw [ha, hp, Bool.false_or] at al2
      have z : dn (pp t) = 0 := by rw [dp, c, hp]; rfl
      rw [td_c0 z, c, al2]
      refine ⟨rfl, fun _ => ?_, rfl, by simp, by simp, fun _ => rfl, fun h => by have := P7 h; omega⟩
      have := P2 (P6 c)
      rw [c] at this; exact this
theorem td_d9 (hE : rt_NE kd nm pp pq S rs rr rh rk rl rg rb rc t) (D : td_E kd pp pq m on al is dn fz fi kl t) (P : td_P al rs rr rh rk dn fi kl t) (hal : rt_Al kd pp pq on al t) (hwf : rt_Wf kd pp pq on al t)
    (hS : S (nm t) = rv_b (is t)) (h9 : kd t = 9) : td_P al rs rr rh rk dn fi kl (pp t) ∧ td_P al rs rr rh rk dn fi kl (pq t) := by
  obtain ⟨P1, P2, P3, P4, P5, P6, P7⟩ := P
  obtain ⟨D1, D2, D3⟩ := D
  obtain ⟨p1, p2, p3⟩ := D2 (by omega)
  obtain ⟨q1, q2, q3⟩ := D3 (by omega)
  obtain ⟨e1, e2, e3, e4, f1, f2, f3, f4, -⟩ := hE.2.2.2.2.2.2.2.2 h9
  have ha : al t = (al (pp t) || al (pq t)) := by rw [rt_al_2 hal (by omega), rt_on_f hwf (by omega) (by omega)]; rfl
  have fzt : fz t = fi t := by rw [D1, h9]; simp
  have dk : td_k kd pp m dn kl t = kl t := by unfold td_k; rw [h9]; simp
  have dp : dn (pp t) = if dn t = 0 then 0 else if dn t = 1 then (if is t = true then 1 else 0) else if al (pp t) = true then dn t else 0 := by rw [p1]; unfold td_p; rw [h9]; rfl
  have dq : dn (pq t) = if dn t = 0 then 0 else if dn t = 1 then (if is t = true then 0 else 1) else if al (pp t) = true then 0 else dn t := by rw [q1]; unfold td_q; rw [h9]; rfl
  have wf := hwf.2.2 (Or.inr h9)
  rw [fzt] at p2 q2
  rw [dk] at p3 q3
  unfold td_P
  rw [e1, e2, e3, e4, f1, f2, f3, f4, p2, p3, q2, q3, P3, P1, dp, dq, hS]
  have c : dn t = 0 ∨ dn t = 1 ∨ dn t = 2 := by omega
  rcases c with c | c | c
  · rw [c]
    refine ⟨⟨rv_F_and _, fun h => ?_, rfl, by simp, by simp, by simp, by simp⟩, ⟨rv_F_and _, fun h => ?_, rfl, by simp, by simp, by simp, by simp⟩⟩
    · have := P2 (by rw [ha, h]; rfl)
      rw [c] at this; exact this
    · have := P2 (by rw [ha, h, Bool.or_true])
      rw [c] at this; exact this
  · have a0 := P5 c
    rw [ha, Bool.or_eq_false_iff] at a0
    rw [c, a0.1, a0.2]
    cases hi : is t with
    | true => exact ⟨⟨rfl, fun h => absurd h (by decide), rfl, by simp, fun _ => rfl, by simp, fun h => by have := P7 h; omega⟩, ⟨rfl, fun h => absurd h (by decide), rfl, by simp, fun _ => rfl, by simp, by simp⟩⟩
    | false => exact ⟨⟨rfl, fun h => absurd h (by decide), rfl, by simp, fun _ => rfl, by simp, by simp⟩, ⟨rfl, fun h => absurd h (by decide), rfl, by simp, fun _ => rfl, by simp, fun h => by have := P7 h; omega⟩⟩
  · have P2' := P2 (P6 c)
    rw [c] at P2'
    cases hp : al (pp t) with
    | true =>
      have q := wf hp
      rw [c, q]
      exact ⟨⟨rv_F_and _, fun _ => P2', rfl, by simp, by simp, fun _ => rfl, fun h => by have := P7 h; omega⟩, ⟨rv_F_and _, fun h => absurd h (by decide), rfl, by simp, by simp, by simp, by simp⟩⟩
    | false =>
      have al2 := P6 c
      rw [ha, hp, Bool.false_or] at al2
      rw [c, al2]
      exact ⟨⟨rv_F_and _, fun h => absurd h (by decide), rfl, by simp, by simp, by simp, by simp⟩, ⟨rv_F_and _, fun _ => P2', rfl, by simp, by simp, fun _ => rfl, fun h => by have := P7 h; omega⟩⟩
theorem td_d8 (hE : rt_NE kd nm pp pq S rs rr rh rk rl rg rb rc t) (hK : rt_KE kd pp rk rc t) (D : td_E kd pp pq m on al is dn fz fi kl t) (P : td_P al rs rr rh rk dn fi kl t) (hal : rt_Al kd pp pq on al t) (hwf : rt_Wf kd pp pq on al t)
    (hc : ∀ k, k < 5 → rc t k = rv_b (decide (td_c m dn t = k))) (hm : td_c m dn t ≤ 5) (h8 : kd t = 8) : td_P al rs rr rh rk dn fi kl (pp t) ∧ td_P al rs rr rh rk dn fi kl (pq t) := by
  obtain ⟨P1, P2, P3, P4, P5, P6, P7⟩ := P
  obtain ⟨D1, D2, D3⟩ := D
  obtain ⟨p1, p2, p3⟩ := D2 (by omega)
  obtain ⟨q1, q2, q3⟩ := D3 (by omega)
  obtain ⟨e1, e2, e3, f1, f2, f3, f4, -⟩ := hE.2.2.2.2.2.2.2.1 h8
  have ha : al t = (al (pp t) || al (pq t)) := by rw [rt_al_2 hal (by omega), rt_on_f hwf (by omega) (by omega)]; rfl
  have fzt : fz t = fi t := by rw [D1, h8]; simp
  have dk : td_k kd pp m dn kl t = (kl t || ((decide (td_c m dn t = 2) || decide (td_c m dn t = 3)) || decide (td_c m dn t = 4))) := by
    unfold td_k; rw [h8]
    have : ∀ c, c ≤ 5 → decide (1 < c ∧ c ≠ 5) = ((decide (c = 2) || decide (c = 3)) || decide (c = 4)) := by decide
    rw [this _ hm]; simp
  have rkp : rk (pp t) = rv_b (td_k kd pp m dn kl t) := by rw [hK.2 h8, hc 2 (by omega), hc 3 (by omega), hc 4 (by omega), P3, rv_b_or, rv_b_or, rv_b_or, dk]
  have dp : dn (pp t) = if dn t = 0 then 0 else if dn t = 1 ∨ al (pp t) = true then dn t else 0 := by rw [p1]; unfold td_p; rw [h8]; rfl
  have dq : dn (pq t) = if dn t = 0 then 0 else if dn t = 1 ∨ al (pq t) = true then dn t else 0 := by rw [q1]; unfold td_q; rw [h8]; rfl
  rw [fzt] at p2 q2
  have key : ∀ x, (al x = true → al t = true) → rs x = rs t → rr x = rr t → rh x = rh t → rk x = rv_b (td_k kd pp m dn kl t) → dn x = (if dn t = 0 then 0 else if dn t = 1 ∨ al x = true then dn t else 0) → fi x = fi t → kl x = td_k kd pp m dn kl t → td_P al rs rr rh rk dn fi kl x := by
    intro x h0 h1 h2 h3 h4 h5 h6 h7
    unfold td_P
    rw [h1, h2, h3, h4, h5, h6, h7, P1]
    have c : dn t = 0 ∨ dn t = 1 ∨ dn t = 2 := by omega
    rcases c with c | c | c
    · rw [c]
      refine ⟨rfl, fun h => ?_, rfl, by simp, by simp, by simp, by simp⟩
      have := P2 (h0 h)
      rw [c] at this; exact this
    · have a0 : al x = false := by
        cases hx : al x with
        | false => rfl
        | true => have := h0 hx; rw [P5 c] at this; exact absurd this (by decide)
      rw [c, a0]
      exact ⟨rfl, fun h => absurd h (by decide), rfl, by simp, fun _ => rfl, by simp, fun h => by have := P7 h; omega⟩
    · cases hp : al x with
      | true =>
        rw [c]
        refine ⟨rfl, fun _ => ?_, rfl, by simp, by simp, fun _ => rfl, fun h => by have := P7 h; omega⟩
        have := P2 (h0 hp)
        rw [c] at this; exact this
      | false =>
        rw [c]
        exact ⟨rfl, fun h => absurd h (by decide), rfl, by simp, by simp, by simp, by simp⟩
  exact ⟨key _ (fun h => by rw [ha, h]; rfl) e1 e2 e3 rkp dp p2 p3, key _ (fun h => by rw [ha, h, Bool.or_true]) f1 f2 f3 (f4.trans rkp) dq q2 q3⟩
end
end
section
/-! ===== all signals known: one code a statement, and none above the traps around it ===== -/
def fa_st (a : Nat) : Nat → rv_V := fun k => rv_b (decide (a = k))
theorem yt_st_loop : ∀ a, a < 5 → ∀ k, k < 5 → fa_loop (fa_st a) k = fa_st (if a = 0 then 1 else a) k := by decide +kernel
theorem yt_st_trap : ∀ a, a < 5 → ∀ k, k < 5 → fa_trap (fa_st a) k = fa_st (if a = 2 then 0 else if a ≤ 2 then a else a - 1) k := by decide +kernel
theorem yt_st_seq : ∀ a, a < 5 → ∀ b, b < 5 → ∀ k, k < 5 → fa_seq (fa_st a) (fa_st b) k = fa_st (if a = 0 then b else a) k := by decide +kernel
theorem yt_st_par : ∀ a, a < 5 → ∀ b, b < 5 → ∀ k, k < 5 → fa_par (fa_st a) (fa_st b) k = fa_st (if a ≤ b then b else a) k := by decide +kernel
theorem yt_st_one : ∀ a, a < 5 → ∀ k, k < 5 → fa_one a k = fa_st a k := by decide +kernel
theorem fa_seq_cg {c d c' d' : Nat → rv_V} (h : ∀ k, k < 5 → c k = c' k) (h' : ∀ k, k < 5 → d k = d' k) {k : Nat} (hk : k < 5) : fa_seq c d k = fa_seq c' d' k := by
  unfold fa_seq; rw [h k hk, h 0 (by omega), h' k hk]
theorem fa_par_cg {c d c' d' : Nat → rv_V} (h : ∀ k, k < 5 → c k = c' k) (h' : ∀ k, k < 5 → d k = d' k) {k : Nat} (hk : k < 5) : fa_par c d k = fa_par c' d' k := by
  unfold fa_par; rw [rv_up_cg rfl h k hk, rv_up_cg rfl h' k hk, h k hk, h' k hk]
theorem fa_st_inj {a b : Nat} (ha : a < 5) (h : ∀ k, k < 5 → fa_st a k = fa_st b k) : b = a := by
  have e := rv_b_inj (h a ha)
  rw [decide_eq_true rfl] at e
  exact of_decide_eq_true e.symm
/-- the traps around each statement -/
def td_Ar (kd nm pp pq ar : Nat → Nat) (i : Nat) : Prop := (kd i = 3 → nm i < ar i) ∧ (4 ≤ kd i → ar (pp i) = if kd i = 5 then ar i + 1 else ar i) ∧ (7 ≤ kd i → ar (pq i) = ar i)
/-- one code a -/
def td_1 (C : Nat → Nat → rv_V) (b x a : Nat) : Prop := a < 5 ∧ a ≤ b + 1 ∧ ∀ k, k < 5 → C x k = fa_st a k
section
variable {z : Nat} {kd nm pp pq lo ar : Nat → Nat} {on al sb : Nat → Bool} {S : Nat → rv_V} {C E : Nat → Nat → rv_V}
theorem td_tot (hT : ∀ i, i < z → rt_Nd kd nm pp pq lo i) (hS : ∀ n, n < 6 → S n = rv_b (sb n)) (hA : ∀ i, i < z → td_Ar kd nm pp pq ar i) (hJ : ∀ i, i < z → rt_Ref kd nm pp pq on al S C E i) :
    ∀ i, i < z → (∃ a, td_1 C (ar i) i a) ∧ (∃ a, td_1 C (ar i) (16 + i) a) := by
  intro i
  induction i using Nat.strongRecOn with
  | ind i ih =>
    intro hi
    have T := hT i hi
    have P := rt_Nd_p hT hi
    have k9 := T.1
    obtain ⟨A1, A2, A3⟩ := hA i hi
    have sn := hS _ T.2.1
    obtain ⟨J1, J2, -, -⟩ := hJ i hi
    by_cases h4 : kd i < 4
    · have r0 : ∃ a, td_1 C (ar i) (16 + i) a := ⟨0, by omega, by omega, fun k hk => by rw [J2 k hk, rt_jr0 h4]; exact yt_st_one 0 (by omega) k hk⟩
      by_cases e0 : kd i = 0
      · exact ⟨⟨0, by omega, by omega, fun k hk => by rw [J1 k hk, rt_js0 e0]; exact yt_st_one 0 (by omega) k hk⟩, r0⟩
      by_cases e1 : kd i = 1
      · exact ⟨⟨1, by omega, by omega, fun k hk => by rw [J1 k hk, rt_js1 e1]; exact yt_st_one 1 (by omega) k hk⟩, r0⟩
      by_cases e2 : kd i = 2
      · exact ⟨⟨0, by omega, by omega, fun k hk => by rw [J1 k hk, rt_js2 e2]; exact yt_st_one 0 (by omega) k hk⟩, r0⟩
      · have e3 : kd i = 3 := by omega
        have n3 := T.2.2.1 e3
        have := A1 e3
        exact ⟨⟨nm i + 2, by omega, by omega, fun k hk => by rw [J1 k hk, rt_js3 e3]; exact yt_st_one _ (by omega) k hk⟩, r0⟩
    obtain ⟨⟨a, a1, a2, a3⟩, ⟨b, b1, b2, b3⟩⟩ := ih (pp i) (by have := P.1 (by omega); omega) (by have := P.1 (by omega); omega)
    have A2 := A2 (by omega)
    by_cases e4 : kd i = 4
    · rw [if_neg (by omega)] at A2
      refine ⟨⟨if a = 0 then 1 else a, by split <;> omega, by split <;> omega, fun k hk => by rw [J1 k hk, rt_js4 e4, fa_loop_cg a3 hk]; exact yt_st_loop a a1 k hk⟩, ?_⟩
      cases ho : on i with
      | true => exact ⟨if a = 0 then 1 else a, by split <;> omega, by split <;> omega, fun k hk => by rw [J2 k hk, rt_jr4 e4, ho, if_pos rfl, fa_loop_cg a3 hk]; exact yt_st_loop a a1 k hk⟩
      | false => exact ⟨if b = 0 then 1 else b, by split <;> omega, by split <;> omega, fun k hk => by rw [J2 k hk, rt_jr4 e4, ho, if_neg Bool.false_ne_true, fa_loop_cg b3 hk]; exact yt_st_loop b b1 k hk⟩
    by_cases e5 : kd i = 5
    · rw [if_pos e5] at A2
      exact ⟨⟨if a = 2 then 0 else if a ≤ 2 then a else a - 1, by split <;> (try split) <;> omega, by split <;> (try split) <;> omega, fun k hk => by rw [J1 k hk, rt_js5 e5, fa_trap_cg a3 hk]; exact yt_st_trap a a1 k hk⟩,
        ⟨if b = 2 then 0 else if b ≤ 2 then b else b - 1, by split <;> (try split) <;> omega, by split <;> (try split) <;> omega, fun k hk => by rw [J2 k hk, rt_jr5 e5, fa_trap_cg b3 hk]; exact yt_st_trap b b1 k hk⟩⟩
    rw [if_neg e5] at A2
    by_cases e6 : kd i = 6
    · refine ⟨⟨a, a1, by omega, fun k hk => by rw [J1 k hk, rt_js6 e6]; exact a3 k hk⟩, ?_⟩
      cases hs : sb (nm i) with
      | true =>
        refine ⟨1, by omega, by omega, fun k hk => ?_⟩
        rw [J2 k hk, rt_jr6 e6, sn, hs]; unfold fa_susp; rw [rv_bT, rv_not_T, rv_F_and, rv_F_or, rv_F_and]
        exact (by decide : ∀ k, k < 5 → (if k = 1 then rv_T else rv_F) = fa_st 1 k) k hk
      | false =>
        refine ⟨b, b1, by omega, fun k hk => ?_⟩
        rw [J2 k hk, rt_jr6 e6, sn, hs]; unfold fa_susp; rw [rv_bF, rv_not_F, rv_T_and, rv_T_and, rv_or_F, b3 k hk, b3 1 (by omega)]
        by_cases e : k = 1
        · rw [if_pos e, e]
        · rw [if_neg e]
    obtain ⟨⟨c, c1, c2, c3⟩, ⟨d, d1, d2, d3⟩⟩ := ih (pq i) (by have := P.2 (by omega); omega) (by have := P.2 (by omega); omega)
    have A3 := A3 (by omega)
    by_cases e7 : kd i = 7
    · refine ⟨⟨if a = 0 then c else a, by split <;> omega, by split <;> omega, fun k hk => by rw [J1 k hk, rt_js7 e7, fa_seq_cg a3 c3 hk]; exact yt_st_seq a a1 c c1 k hk⟩, ?_⟩
      cases hp : al (pp i) with
      | true => exact ⟨if b = 0 then c else b, by split <;> omega, by split <;> omega, fun k hk => by rw [J2 k hk, rt_jr7 e7, hp, if_pos rfl, fa_seq_cg b3 c3 hk]; exact yt_st_seq b b1 c c1 k hk⟩
      | false => exact ⟨d, d1, by omega, fun k hk => by rw [J2 k hk, rt_jr7 e7, hp, if_neg Bool.false_ne_true]; exact d3 k hk⟩
    by_cases e8 : kd i = 8
    · refine ⟨⟨if a ≤ c then c else a, by split <;> omega, by split <;> omega, fun k hk => by rw [J1 k hk, rt_js8 e8, fa_par_cg a3 c3 hk]; exact yt_st_par a a1 c c1 k hk⟩, ?_⟩
      have o3 : ∀ k, k < 5 → fa_one 0 k = fa_st 0 k := yt_st_one 0 (by omega)
      cases hp : al (pp i) <;> cases hq : al (pq i)
      · exact ⟨0, by omega, by omega, fun k hk => by rw [J2 k hk, rt_jr8 e8, hp, hq, if_neg Bool.false_ne_true, if_neg Bool.false_ne_true, fa_par_cg o3 o3 hk]; exact yt_st_par 0 (by omega) 0 (by omega) k hk⟩
      · exact ⟨if 0 ≤ d then d else 0, by split <;> omega, by split <;> omega, fun k hk => by rw [J2 k hk, rt_jr8 e8, hp, hq, if_neg Bool.false_ne_true, if_pos rfl, fa_par_cg o3 d3 hk]; exact yt_st_par 0 (by omega) d d1 k hk⟩
      · exact ⟨if b ≤ 0 then 0 else b, by split <;> omega, by split <;> omega, fun k hk => by rw [J2 k hk, rt_jr8 e8, hp, hq, if_neg Bool.false_ne_true, if_pos rfl, fa_par_cg b3 o3 hk]; exact yt_st_par b b1 0 (by omega) k hk⟩
      · exact ⟨if b ≤ d then d else b, by split <;> omega, by split <;> omega, fun k hk => by rw [J2 k hk, rt_jr8 e8, hp, hq, if_pos rfl, if_pos rfl, fa_par_cg b3 d3 hk]; exact yt_st_par b b1 d d1 k hk⟩
    · have e9 : kd i = 9 := by omega
      have r : ∃ e, td_1 C (ar i) (16 + i) e := by
        cases hp : al (pp i) with
        | true => exact ⟨b, b1, by omega, fun k hk => by rw [J2 k hk, rt_jr9 e9, hp, if_pos rfl]; exact b3 k hk⟩
        | false => exact ⟨d, d1, by omega, fun k hk => by rw [J2 k hk, rt_jr9 e9, hp, if_neg Bool.false_ne_true]; exact d3 k hk⟩
      refine ⟨?_, r⟩
      cases hs : sb (nm i) with
      | true => exact ⟨a, a1, by omega, fun k hk => by rw [J1 k hk, rt_js9 e9, sn, hs]; unfold fa_test; rw [rv_bT, rv_T_and, rv_not_T, rv_F_and, rv_or_F]; exact a3 k hk⟩
      | false => exact ⟨c, c1, by omega, fun k hk => by rw [J1 k hk, rt_js9 e9, sn, hs]; unfold fa_test; rw [rv_bF, rv_F_and, rv_not_F, rv_T_and, rv_F_or]; exact c3 k hk⟩
/-- every statement but the whole is a part of one behind it -/
theorem rt_par (hT : ∀ i, i < z → rt_Nd kd nm pp pq lo i) : ∀ r, r < z → ∀ i, lo r ≤ i → i < r → ∃ t, i < t ∧ t ≤ r ∧ ((4 ≤ kd t ∧ pp t = i) ∨ (7 ≤ kd t ∧ pq t = i)) := by
  intro r
  induction r using Nat.strongRecOn with
  | ind r ih =>
    intro hr i h1 h2
    have T := hT r hr
    have P := rt_Nd_p hT hr
    by_cases h4 : kd r < 4
    · have := T.2.2.2.2.2.2.1 h4; omega
    have p := P.1 (by omega)
    by_cases e : i = pp r
    · exact ⟨r, h2, Nat.le_refl _, Or.inl ⟨by omega, e.symm⟩⟩
    by_cases h7 : kd r < 7
    · have := T.2.2.2.2.2.2.2.1 (by omega) h7
      obtain ⟨t, t1, t2, t3⟩ := ih (pp r) (by omega) (by omega) i (by omega) (by omega)
      exact ⟨t, t1, by omega, t3⟩
    · have q := P.2 (by omega)
      have := T.2.2.2.2.2.2.2.2 (by omega)
      by_cases e2 : i = pq r
      · exact ⟨r, h2, Nat.le_refl _, Or.inr ⟨by omega, e2.symm⟩⟩
      by_cases e3 : i < pp r
      · obtain ⟨t, t1, t2, t3⟩ := ih (pp r) (by omega) (by omega) i (by omega) e3
        exact ⟨t, t1, by omega, t3⟩
      · obtain ⟨t, t1, t2, t3⟩ := ih (pq r) (by omega) (by omega) i (by omega) (by omega)
        exact ⟨t, t1, by omega, t3⟩
end
section
variable {z : Nat} {kd nm pp pq lo ar m dn : Nat → Nat} {on al sb is fz fi kl : Nat → Bool} {S : Nat → rv_V} {C E : Nat → Nat → rv_V} {rs rr rh rk rl rg rb : Nat → rv_V} {rc : Nat → Nat → rv_V}
/-- the codes, from the wires -/
theorem td_cc {i : Nat} (M1 : m i < 5 ∧ ∀ k, k < 5 → C i k = fa_st (m i) k) (M2 : m (16 + i) < 5 ∧ ∀ k, k < 5 → C (16 + i) k = fa_st (m (16 + i)) k) (st : rt_St kd nm lo al C E rs rr rc i)
    (P1 : rs i = rv_b (decide (dn i = 1))) (P2 : al i = true → rr i = rv_b (decide (dn i = 2))) (P4 : dn i ≤ 2) (P5 : dn i = 1 → al i = false) (P6 : dn i = 2 → al i = true) :
    (∀ k, k < 5 → rc i k = rv_b (decide (td_c m dn i = k))) ∧ td_c m dn i ≤ 5 := by
  unfold td_c
  have c : dn i = 0 ∨ dn i = 1 ∨ dn i = 2 := by omega
  rcases c with c | c | c
  · rw [if_pos c]
    refine ⟨fun k hk => ?_, by omega⟩
    rw [st.1 k hk, P1, c]
    cases ha : al i with
    | true => rw [if_pos rfl, P2 ha, c, decide_eq_false (by omega : ¬ 5 = k)]; exact rv_F_and _
    | false => rw [if_neg Bool.false_ne_true, decide_eq_false (by omega : ¬ 5 = k)]; exact rv_F_and _
  · rw [if_neg (by omega), if_pos c]
    refine ⟨fun k hk => ?_, by omega⟩
    rw [st.1 k hk, P5 c, if_neg Bool.false_ne_true, P1, c, M1.2 k hk]; exact rv_T_and _
  · rw [if_neg (by omega), if_neg (by omega)]
    refine ⟨fun k hk => ?_, by omega⟩
    have ha := P6 c
    rw [st.1 k hk, ha, if_pos rfl, P2 ha, c, M2.2 k hk]; exact rv_T_and _
theorem td_all (hz1 : 1 ≤ z) (hT : ∀ i, i < z → rt_Nd kd nm pp pq lo i) (hlo : lo (z - 1) = 0) (hal : ∀ i, i < z → rt_Al kd pp pq on al i) (hwf : ∀ i, i < z → rt_Wf kd pp pq on al i) (hE : ∀ i, i < z → rt_NE kd nm pp pq S rs rr rh rk rl rg rb rc i) (hK : ∀ i, i < z → rt_KE kd pp rk rc i)
    (hg : ∀ i, i < z → kd i = 1 ∨ kd i = 4 → rg i = rv_b (on i)) (hS : ∀ i, i < z → kd i = 6 ∨ kd i = 9 → S (nm i) = rv_b (is i)) (hst : ∀ i, i < z → (al i = true → rs i = rv_F) → rt_St kd nm lo al C E rs rr rc i)
    (M1 : ∀ i, i < z → m i < 5 ∧ ∀ k, k < 5 → C i k = fa_st (m i) k) (M2 : ∀ i, i < z → m (16 + i) < 5 ∧ ∀ k, k < 5 → C (16 + i) k = fa_st (m (16 + i)) k)
    (D : ∀ i, i < z → td_E kd pp pq m on al is dn fz fi kl i) (P0 : td_P al rs rr rh rk dn fi kl (z - 1)) :
    ∀ i, i < z → td_P al rs rr rh rk dn fi kl i ∧ (∀ k, k < 5 → rc i k = rv_b (decide (td_c m dn i = k))) ∧ td_c m dn i ≤ 5 := by
  have cc : ∀ i, i < z → rs i = rv_b (decide (dn i = 1)) → (al i = true → rr i = rv_b (decide (dn i = 2))) → dn i ≤ 2 → (dn i = 1 → al i = false) → (dn i = 2 → al i = true) → (∀ k, k < 5 → rc i k = rv_b (decide (td_c m dn i = k))) ∧ td_c m dn i ≤ 5 :=
    fun i hi q1 q2 q3 q4 q5 => td_cc (M1 i hi) (M2 i hi) (hst i hi (fun ha => by
      rw [q1, decide_eq_false (fun h => by have := q4 h; rw [ha] at this; exact absurd this (by decide))]; rfl)) q1 q2 q3 q4 q5
  have cp : ∀ i, i < z → td_P al rs rr rh rk dn fi kl i → (∀ k, k < 5 → rc i k = rv_b (decide (td_c m dn i = k))) ∧ td_c m dn i ≤ 5 :=
    fun i hi P => cc i hi P.1 (fun h => (P.2.1 h).1) P.2.2.2.1 P.2.2.2.2.1 P.2.2.2.2.2.1
  have all : ∀ d i, i + d + 1 = z → td_P al rs rr rh rk dn fi kl i := by
    intro d
    induction d using Nat.strongRecOn with
    | ind d ih =>
      intro i hi
      by_cases e : d = 0
      · have : i = z - 1 := by omega
        rw [this]; exact P0
      obtain ⟨t, t1, t2, t3⟩ := rt_par hT (z - 1) (by omega) i (by omega) (by omega)
      have ht : t < z := by omega
      have P := ih (z - 1 - t) (by omega) t (by omega)
      have N := rt_Nd_p hT ht
      have k9 := (hT t ht).1
      have hp : 4 ≤ kd t → td_P al rs rr rh rk dn fi kl (pp t) := by
        intro h4
        have p := N.1 h4
        by_cases e4 : kd t = 4
        · exact td_d1 (hE t ht) (hK t ht) (D t ht) P (hal t ht) (hwf t ht) (hg t ht) e4
        by_cases e5 : kd t = 5
        · exact td_d5 (hE t ht) (hK t ht) (D t ht) P (hal t ht) (hwf t ht) (fun q1 q2 q3 q4 q5 => (cc (pp t) (by omega) q1 q2 q3 q4 q5).1) e5
        by_cases e6 : kd t = 6
        · exact td_d6 (hE t ht) (D t ht) P (hal t ht) (hwf t ht) (hS t ht (Or.inl e6)) e6
        by_cases e7 : kd t = 7
        · exact td_d7p (hE t ht) (D t ht) P (hal t ht) (hwf t ht) e7
        by_cases e8 : kd t = 8
        · exact (td_d8 (hE t ht) (hK t ht) (D t ht) P (hal t ht) (hwf t ht) (cp t ht P).1 (cp t ht P).2 e8).1
        · exact (td_d9 (hE t ht) (D t ht) P (hal t ht) (hwf t ht) (hS t ht (Or.inr (by omega))) (by omega)).1
      rcases t3 with ⟨h4, e⟩ | ⟨h7, e⟩
      · rw [← e]; exact hp h4
      · rw [← e]
        have q := N.2 h7
        have p := N.1 (by omega)
        by_cases e7 : kd t = 7
        · exact td_d7q (hE t ht) (D t ht) P (hal t ht) (hwf t ht) (cp (pp t) (by omega) (hp (by omega))).1 e7
        by_cases e8 : kd t = 8
        · exact (td_d8 (hE t ht) (hK t ht) (D t ht) P (hal t ht) (hwf t ht) (cp t ht P).1 (cp t ht P).2 e8).2
        · exact (td_d9 (hE t ht) (D t ht) P (hal t ht) (hwf t ht) (hS t ht (Or.inr (by omega))) (by omega)).2
  intro i hi
  have P := all (z - 1 - i) i (by omega)
  exact ⟨P, cp i hi P⟩
end
end
section
/-! ===== the registers behind an instant ===== -/
def td_an (kd pp m dn : xs_f) (on fz kl : Nat → Bool) (i : Nat) : Bool :=
  ((on i && fz i) || ((decide (kd i = 1) && decide (dn i = 1)) || (decide (kd i = 4) && (decide (0 < dn i) && decide (td_c m dn (pp i) = 0))))) && !kl i
section
variable {z : Nat} {kd nm pp pq lo m dn : Nat → Nat} {on al is fz fi kl al' : Nat → Bool} {S : Nat → rv_V} {C E : Nat → Nat → rv_V} {rs rr rh rk rl rg rb : Nat → rv_V} {rc : Nat → Nat → rv_V}
theorem td_next {i : Nat} (hE : rt_NE kd nm pp pq S rs rr rh rk rl rg rb rc i) (D : td_E kd pp pq m on al is dn fz fi kl i) (P : td_P al rs rr rh rk dn fi kl i) (hal : rt_Al kd pp pq on al i)
    (hg : kd i = 1 ∨ kd i = 4 → rg i = rv_b (on i)) (hc : kd i = 4 → ∀ k, k < 5 → rc (pp i) k = rv_b (decide (td_c m dn (pp i) = k))) (hk : kd i = 1 ∨ kd i = 4) : (rb i).1 = td_an kd pp m dn on fz kl i := by
  obtain ⟨P1, P2, P3, P4, P5, P6, P7⟩ := P
  have fzt : fz i = fi i := by rw [D.1, decide_eq_false (by omega : ¬ kd i = 6)]; simp
  have hh : rv_and (rh i) (rg i) = rv_b (fi i && on i) := by
    rw [hg hk]
    cases ho : on i with
    | false => rw [rv_bF, rv_and_F, Bool.and_false]; rfl
    | true =>
      have ha : al i = true := by have h : al i = _ := hal; rw [h, ho]; rfl
      rw [(P2 ha).2, rv_b_and]
  unfold td_an
  rw [fzt]
  rcases hk with hk | hk
  · rw [(hE.2.1 hk).2, hh, P1, P3, rv_b_or, rv_b_not, rv_b_and, rv_b_1, hk]
    simp only [decide_true, Bool.true_and]
    rw [show decide (1 = 4) = false from rfl]
    cases fi i <;> cases on i <;> cases kl i <;> simp
  · have D2 := D.2.1 (by omega)
    rw [(hE.2.2.2.1 hk).2.2.2.2.2, hh, hc hk 0 (by omega), P3, rv_b_or, rv_b_not, rv_b_and, rv_b_1, hk]
    rw [show decide (4 = 1) = false from rfl]
    by_cases z : dn i = 0
    · have d0 : dn (pp i) = 0 := by rw [D2.1, z]; rfl
      rw [td_c0 d0, z]
      cases fi i <;> cases on i <;> cases kl i <;> simp
    · rw [decide_eq_true (by omega : 0 < dn i)]
      cases fi i <;> cases on i <;> cases kl i <;> simp
theorem td_mx1 {i : Nat} (hJ : rt_Ref kd nm pp pq on al S C E i) (h8 : kd i = 8) (M : ∀ x, x = i ∨ x = pp i ∨ x = pq i → m x < 5 ∧ ∀ k, k < 5 → C x k = fa_st (m x) k) : m i = if m (pp i) ≤ m (pq i) then m (pq i) else m (pp i) := by
  have a := M i (Or.inl rfl)
  have b := M _ (Or.inr (Or.inl rfl))
  have c := M _ (Or.inr (Or.inr rfl))
  refine fa_st_inj (by split <;> omega) (fun k hk => ?_)
  rw [← a.2 k hk, hJ.1 k hk, rt_js8 h8, fa_par_cg b.2 c.2 hk]
  exact (yt_st_par _ b.1 _ c.1 k hk).symm
theorem td_mx2 {i : Nat} (hJ : rt_Ref kd nm pp pq on al S C E i) (h8 : kd i = 8) (M : ∀ x, x = i ∨ x = pp i ∨ x = pq i → m (16 + x) < 5 ∧ ∀ k, k < 5 → C (16 + x) k = fa_st (m (16 + x)) k) :
    m (16 + i) = if (if al (pp i) = true then m (16 + pp i) else 0) ≤ (if al (pq i) = true then m (16 + pq i) else 0) then (if al (pq i) = true then m (16 + pq i) else 0) else (if al (pp i) = true then m (16 + pp i) else 0) := by
  have a := M i (Or.inl rfl)
  have b := M _ (Or.inr (Or.inl rfl))
  have c := M _ (Or.inr (Or.inr rfl))
  have b1 : (if al (pp i) = true then m (16 + pp i) else 0) < 5 := by split <;> omega
  have c1 : (if al (pq i) = true then m (16 + pq i) else 0) < 5 := by split <;> omega
  have mx : ∀ a b : Nat, a < 5 → b < 5 → (if a ≤ b then b else a) < 5 := fun a b h1 h2 => by split <;> omega
  refine fa_st_inj (mx _ _ b1 c1) (fun k hk => ?_)
  rw [← a.2 k hk, hJ.2.1 k hk, rt_jr8 h8]
  refine (yt_st_par _ b1 _ c1 k hk).symm.trans (fa_par_cg (fun k hk => ?_) (fun k hk => ?_) hk)
  · cases al (pp i)
    · exact (yt_st_one 0 (by omega) k hk).symm
    · exact (b.2 k hk).symm
  · cases al (pq i)
    · exact (yt_st_one 0 (by omega) k hk).symm
    · exact (c.2 k hk).symm
/-- what is active behind the instant -/
def td_N (m dn : xs_f) (al fi kl al' : Nat → Bool) (i : Nat) : Prop := al' i = ((if fi i = true then al i else decide (td_c m dn i = 1)) && !kl i)
theorem td_N_all (hT : ∀ i, i < z → rt_Nd kd nm pp pq lo i) (hal : ∀ i, i < z → rt_Al kd pp pq on al i) (hwf : ∀ i, i < z → rt_Wf kd pp pq on al i) (hE : ∀ i, i < z → rt_NE kd nm pp pq S rs rr rh rk rl rg rb rc i)
    (hl : ∀ i, i < z → rl i = rv_b (al i)) (hS : ∀ i, i < z → kd i = 6 ∨ kd i = 9 → S (nm i) = rv_b (is i)) (hJ : ∀ i, i < z → rt_Ref kd nm pp pq on al S C E i)
    (M1 : ∀ i, i < z → m i < 5 ∧ ∀ k, k < 5 → C i k = fa_st (m i) k) (M2 : ∀ i, i < z → m (16 + i) < 5 ∧ ∀ k, k < 5 → C (16 + i) k = fa_st (m (16 + i)) k)
    (D : ∀ i, i < z → td_E kd pp pq m on al is dn fz fi kl i) (A : ∀ i, i < z → td_P al rs rr rh rk dn fi kl i ∧ (∀ k, k < 5 → rc i k = rv_b (decide (td_c m dn i = k))) ∧ td_c m dn i ≤ 5)
    (hal' : ∀ i, i < z → rt_Al kd pp pq (td_an kd pp m dn on fz kl) al' i) : ∀ i, i < z → td_N m dn al fi kl al' i := by
  intro i
  induction i using Nat.strongRecOn with
  | ind i ih =>
    intro hi
    have T := hT i hi
    have k9 := T.1
    have N := rt_Nd_p hT hi
    obtain ⟨⟨P1, P2, P3, P4, P5, P6, P7⟩, cc, c5⟩ := A i hi
    obtain ⟨D1, D2, D3⟩ := D i hi
    have E := hE i hi
    unfold td_N
    by_cases h4 : kd i < 4
    · rw [rt_al_0 (hal' i hi) h4]
      unfold td_an
      have ai := rt_al_0 (hal i hi) h4
      have fzt : fz i = fi i := by rw [D1, decide_eq_false (by omega : ¬ kd i = 6)]; simp
      rw [fzt, ai, decide_eq_false (by omega : ¬ kd i = 4)]
      congr 1
      by_cases e1 : kd i = 1
      · rw [decide_eq_true e1]
        cases hf : fi i with
        | true => rw [P7 hf]; simp
        | false =>
          have c : dn i = 0 ∨ dn i = 1 ∨ dn i = 2 := by omega
          have q0 := cc 0 (by omega)
          have q1 := cc 1 (by omega)
          have mi : ∀ k, k < 5 → fa_st (m i) k = fa_st 1 k := fun k hk => by rw [← (M1 i hi).2 k hk, (hJ i hi).1 k hk, rt_js1 e1]; exact yt_st_one 1 (by omega) k hk
          have mr : ∀ k, k < 5 → fa_st (m (16 + i)) k = fa_st 0 k := fun k hk => by rw [← (M2 i hi).2 k hk, (hJ i hi).2.1 k hk, rt_jr0 h4]; exact yt_st_one 0 (by omega) k hk
          have mi := fa_st_inj (M1 i hi).1 mi
          have mr := fa_st_inj (M2 i hi).1 mr
          unfold td_c
          rcases c with c | c | c
          · rw [c]; simp
          · rw [c, ← mi]; simp
          · rw [c, ← mr]; simp
      · rw [decide_eq_false e1, rt_on_f (hwf i hi) e1 (by omega)]
        cases hf : fi i with
        | true => simp
        | false =>
          have n2 : dn i ≠ 2 := fun h => by have := P6 h; rw [ai, rt_on_f (hwf i hi) e1 (by omega)] at this; exact absurd this (by decide)
          have m1 : m i ≠ 1 := fun h => by
            have a := (M1 i hi).2 1 (by omega)
            rw [(hJ i hi).1 1 (by omega), h] at a
            by_cases e0 : kd i = 0
            · rw [rt_js0 e0] at a; exact absurd a (by decide)
            by_cases e2 : kd i = 2
            · rw [rt_js2 e2] at a; exact absurd a (by decide)
            · rw [rt_js3 (by omega)] at a
              unfold fa_one at a
              rw [if_neg (by omega)] at a
              exact absurd a (by decide)
          unfold td_c
          have c : dn i = 0 ∨ dn i = 1 := by omega
          rcases c with c | c
          · rw [c]; simp
          · rw [c]; simp [m1]
    have p := N.1 (by omega)
    have Ip : al' (pp i) = _ := ih (pp i) p.2 (by omega)
    obtain ⟨-, pc, -⟩ := A (pp i) (by omega)
    obtain ⟨d1, d2, d3⟩ := D2 (by omega)
    by_cases e4 : kd i = 4
    · have fzt : fz i = fi i := by rw [D1, e4]; simp
      have dk : td_k kd pp m dn kl i = kl i := by unfold td_k; rw [e4]; simp
      have dp : dn (pp i) = if dn i = 0 then 0 else if on i = true then 1 else dn i := by rw [d1]; unfold td_p; rw [e4]; simp
      have ai := rt_al_1 (hal i hi) (by omega) (by omega)
      have q1 := cc 1 (by omega)
      rw [(E.2.2.2.1 e4).2.2.2.2.1 1 (by omega)] at q1
      have q1 : rv_or (rc (pp i) 1) (rc (pp i) 0) = _ := q1
      rw [pc 1 (by omega), pc 0 (by omega), rv_b_or] at q1
      have q1 := rv_b_inj q1
      rw [rt_al_1 (hal' i hi) (by omega) (by omega), Ip, d2, d3, dk, fzt, ai]
      unfold td_an
      rw [fzt, e4, show decide (4 = 1) = false from rfl, ← q1]
      cases hk : kl i with
      | true => simp
      | false =>
        cases hf : fi i with
        | true => rw [P7 hf]; simp
        | false =>
          by_cases z0 : dn i = 0
          · have z1 : dn (pp i) = 0 := by rw [dp, if_pos z0]
            rw [td_c0 z1, z0]; simp
          · rw [decide_eq_true (by omega : 0 < dn i)]; simp [Bool.or_comm]
    have o0 : on i = false := rt_on_f (hwf i hi) (by omega) e4
    have an0 : td_an kd pp m dn on fz kl i = false := by unfold td_an; rw [o0, decide_eq_false (by omega : ¬ kd i = 1), decide_eq_false e4]; simp
    by_cases e5 : kd i = 5
    · have fzt : fz i = fi i := by rw [D1, e5]; simp
      have dk : td_k kd pp m dn kl i = (kl i || decide (td_c m dn (pp i) = 2)) := by unfold td_k; rw [e5]; simp
      have dp : dn (pp i) = dn i := by
        rw [d1]; unfold td_p; rw [e5]
        by_cases z0 : dn i = 0
        · rw [if_pos z0, z0]
        · rw [if_neg z0]; rfl
      have ai := rt_al_1 (hal i hi) (by omega) (by omega)
      have q1 := cc 1 (by omega)
      rw [(E.2.2.2.2.1 e5).2.2.2 1 (by omega)] at q1
      have q1 : rc (pp i) 1 = _ := q1
      rw [pc 1 (by omega)] at q1
      have q1 := rv_b_inj q1
      rw [rt_al_1 (hal' i hi) (by omega) (by omega), an0, Ip, d2, d3, dk, fzt, ai, o0, ← q1]
      cases hk : kl i with
      | true => simp
      | false =>
        cases hf : fi i with
        | true =>
          have z1 : dn (pp i) = 0 := by rw [dp]; exact P7 hf
          rw [td_c0 z1]; simp
        | false =>
          by_cases z2 : td_c m dn (pp i) = 2
          · rw [z2]; simp
          · simp [z2]
    by_cases e6 : kd i = 6
    · have fzt : fz i = (fi i || (decide (dn i = 2) && is i)) := by rw [D1, e6]; simp
      have dk : td_k kd pp m dn kl i = kl i := by unfold td_k; rw [e6]; simp
      have ai := rt_al_1 (hal i hi) (by omega) (by omega)
      rw [o0, Bool.false_or] at ai
      have q1 := cc 1 (by omega)
      rw [(E.2.2.2.2.2.1 e6).2.2.2.2 1 (by omega), if_pos rfl, pc 1 (by omega), hS i hi (Or.inl e6), hl (pp i) (by omega)] at q1
      rw [rt_al_1 (hal' i hi) (by omega) (by omega), an0, Ip, d2, d3, dk, fzt, ai]
      cases hk : kl i with
      | true => simp
      | false =>
        cases hf : fi i with
        | true => simp
        | false =>
          cases hp : al (pp i) with
          | true =>
            rw [(P2 (by rw [ai, hp])).1, hp, rv_b_and, rv_b_and, rv_b_or] at q1
            have q1 := rv_b_inj q1
            rw [← q1]
            by_cases z2 : dn i = 2
            · rw [z2]; cases is i <;> simp
            · simp [z2]
          | false =>
            rw [hp, rv_bF, rv_and_F, rv_or_F] at q1
            have q1 := rv_b_inj q1
            have n2 : dn i ≠ 2 := fun h => by have := P6 h; rw [ai, hp] at this; exact absurd this (by decide)
            rw [← q1]
            simp [n2]
    have q := N.2 (by omega)
    have Iq : al' (pq i) = _ := ih (pq i) q.2.1 (by omega)
    obtain ⟨-, qc, -⟩ := A (pq i) (by omega)
    obtain ⟨f1, f2, f3⟩ := D3 (by omega)
    have ai := rt_al_2 (hal i hi) (by omega)
    rw [o0, Bool.false_or] at ai
    have fzt : fz i = fi i := by rw [D1, decide_eq_false e6]; simp
    by_cases e8 : kd i = 8
    · have dk : td_k kd pp m dn kl i = (kl i || decide (1 < td_c m dn i ∧ td_c m dn i ≠ 5)) := by unfold td_k; rw [e8]; simp
      have dp : dn (pp i) = if dn i = 0 then 0 else if dn i = 1 ∨ al (pp i) = true then dn i else 0 := by rw [d1]; unfold td_p; rw [e8]; rfl
      have dq : dn (pq i) = if dn i = 0 then 0 else if dn i = 1 ∨ al (pq i) = true then dn i else 0 := by rw [f1]; unfold td_q; rw [e8]; rfl
      rw [rt_al_2 (hal' i hi) (by omega), an0, Ip, Iq, d2, d3, f2, f3, dk, fzt, ai]
      cases hk : kl i with
      | true => simp
      | false =>
        cases hf : fi i with
        | true =>
          have z0 := P7 hf
          rw [td_c0 z0]; simp
        | false =>
          have c : dn i = 0 ∨ dn i = 1 ∨ dn i = 2 := by omega
          rcases c with c | c | c
          · have zp : dn (pp i) = 0 := by rw [dp, c]; rfl
            have zq : dn (pq i) = 0 := by rw [dq, c]; rfl
            rw [td_c0 zp, td_c0 zq, td_c0 c]; simp
          · have zp : dn (pp i) = 1 := by rw [dp, c]; rfl
            have zq : dn (pq i) = 1 := by rw [dq, c]; rfl
            have mx := td_mx1 (hJ i hi) e8 (m := m) (fun x hx => M1 x (by rcases hx with h | h | h <;> omega))
            have ci : td_c m dn i = m i := by unfold td_c; rw [c]; rfl
            have cp : td_c m dn (pp i) = m (pp i) := by unfold td_c; rw [zp]; rfl
            have cq : td_c m dn (pq i) = m (pq i) := by unfold td_c; rw [zq]; rfl
            have m5 := (M1 i hi).1
            rw [ci, cp, cq]
            have tb : ∀ a, a < 5 → ∀ b, b < 5 → ((false : Bool) || ((decide (a = 1) && !decide (1 < (if a ≤ b then b else a) ∧ (if a ≤ b then b else a) ≠ 5)) || (decide (b = 1) && !decide (1 < (if a ≤ b then b else a) ∧ (if a ≤ b then b else a) ≠ 5)))) = (decide ((if a ≤ b then b else a) = 1)) := by decide +kernel
            rw [mx]
            have := tb _ (M1 (pp i) (by omega)).1 _ (M1 (pq i) (by omega)).1
            simpa using this
          · have mx := td_mx2 (hJ i hi) e8 (m := m) (fun x hx => M2 x (by rcases hx with h | h | h <;> omega))
            have ci : td_c m dn i = m (16 + i) := by unfold td_c; rw [c]; rfl
            have cp : td_c m dn (pp i) = if al (pp i) = true then m (16 + pp i) else 5 := by
              unfold td_c; rw [dp, c]
              cases al (pp i) <;> rfl
            have cq : td_c m dn (pq i) = if al (pq i) = true then m (16 + pq i) else 5 := by
              unfold td_c; rw [dq, c]
              cases al (pq i) <;> rfl
            have al2 := P6 c
            rw [ai] at al2
            have tb : ∀ u v : Bool, (u || v) = true → ∀ a, a < 5 → ∀ b, b < 5 → ((false : Bool) || ((decide ((if u = true then a else 5) = 1) && !decide (1 < (if (if u = true then a else 0) ≤ (if v = true then b else 0) then (if v = true then b else 0) else (if u = true then a else 0)) ∧ (if (if u = true then a else 0) ≤ (if v = true then b else 0) then (if v = true then b else 0) else (if u = true then a else 0)) ≠ 5)) || (decide ((if v = true then b else 5) = 1) && !decide (1 < (if (if u = true then a else 0) ≤ (if v = true then b else 0) then (if v = true then b else 0) else (if u = true then a else 0)) ∧ (if (if u = true then a else 0) ≤ (if v = true then b else 0) then (if v = true then b else 0) else (if u = true then a else 0)) ≠ 5)))) =
                (decide ((if (if u = true then a else 0) ≤ (if v = true then b else 0) then (if v = true then b else 0) else (if u = true then a else 0)) = 1)) := by decide +kernel
            rw [ci, cp, cq, mx]
            have := tb _ _ al2 _ (M2 (pp i) (by omega)).1 _ (M2 (pq i) (by omega)).1
            simpa using this
    · have dk : td_k kd pp m dn kl i = kl i := by unfold td_k; rw [decide_eq_false e8, decide_eq_false e5]; simp
      have q1 := cc 1 (by omega)
      have r1 : rc i 1 = rv_or (rc (pp i) 1) (rc (pq i) 1) := by
        by_cases e7 : kd i = 7
        · rw [(E.2.2.2.2.2.2.1 e7).2.2.2.2.2.2.2.2 1 (by omega)]; rfl
        · exact (E.2.2.2.2.2.2.2.2 (by omega)).2.2.2.2.2.2.2.2 1 (by omega)
      rw [r1, pc 1 (by omega), qc 1 (by omega), rv_b_or] at q1
      have q1 := rv_b_inj q1
      rw [rt_al_2 (hal' i hi) (by omega), an0, Ip, Iq, d2, d3, f2, f3, dk, fzt, ai, ← q1]
      cases hk : kl i with
      | true => simp
      | false => cases hf : fi i <;> simp
/-- registers are in order again -/
theorem td_Wf (hT : ∀ i, i < z → rt_Nd kd nm pp pq lo i) (hwf : ∀ i, i < z → rt_Wf kd pp pq on al i) (D : ∀ i, i < z → td_E kd pp pq m on al is dn fz fi kl i)
    (A : ∀ i, i < z → td_P al rs rr rh rk dn fi kl i) (N : ∀ i, i < z → td_N m dn al fi kl al' i) : ∀ i, i < z → rt_Wf kd pp pq (td_an kd pp m dn on fz kl) al' i := by
  intro i hi
  have P := rt_Nd_p hT hi
  obtain ⟨W1, W2, W3⟩ := hwf i hi
  obtain ⟨P1, P2, P3, P4, P5, P6, P7⟩ := A i hi
  obtain ⟨D1, D2, D3⟩ := D i hi
  refine ⟨fun h => ?_, fun h4 h => ?_, fun h79 h => ?_⟩
  · unfold td_an at h
    refine Classical.byContradiction fun hn => ?_
    have n1 : ¬ kd i = 1 := fun q => hn (Or.inl q)
    have n4 : ¬ kd i = 4 := fun q => hn (Or.inr q)
    have o0 : on i = false := by
      cases ho : on i with
      | false => rfl
      | true => exact absurd (W1 ho) hn
    rw [o0, decide_eq_false n1, decide_eq_false n4] at h
    simp at h
  · have p := P.1 (by omega)
    obtain ⟨d1, d2, d3⟩ := D2 (by omega)
    have fzt : fz i = fi i := by rw [D1, h4]; simp
    have Np : al' (pp i) = _ := N (pp i) (by omega)
    rw [Np, d2, fzt]
    unfold td_an at h
    rw [h4, fzt, show decide (4 = 1) = false from rfl, Bool.and_eq_true, Bool.or_eq_true] at h
    rcases h.1 with h | h
    · rw [Bool.and_eq_true] at h
      rw [h.2, if_pos rfl, W2 h4 h.1]; rfl
    · simp at h
      have nf : fi i = false := by
        cases hf : fi i with
        | false => rfl
        | true => have := P7 hf; omega
      rw [nf, h.2]; simp
  · have q := P.2 (by omega)
    have p := P.1 (by omega)
    obtain ⟨d1, d2, d3⟩ := D2 (by omega)
    obtain ⟨f1, f2, f3⟩ := D3 (by omega)
    have Np : al' (pp i) = _ := N (pp i) (by omega)
    have Nq : al' (pq i) = _ := N (pq i) (by omega)
    rw [Np, d2, d3] at h
    rw [Nq, f2, f3]
    have fzt : fz i = fi i := by rw [D1, decide_eq_false (by omega : ¬ kd i = 6)]; simp
    rw [fzt] at h ⊢
    cases hk : td_k kd pp m dn kl i with
    | true => simp
    | false =>
      rw [hk] at h
      cases hf : fi i with
      | true =>
        rw [hf, if_pos rfl] at h
        simp at h
        rw [if_pos rfl, W3 h79 h]; rfl
      | false =>
        rw [hf] at h
        simp at h
        have q0 : dn (pq i) = 0 := by
          rw [f1]; unfold td_q
          have c : dn i = 0 ∨ dn i = 1 ∨ dn i = 2 := by omega
          rcases h79 with e | e
          · rw [e]
            rcases c with c | c | c
            · rw [c]; rfl
            · rw [c, h]; simp
            · rw [c, h]
              cases hp : al (pp i) with
              | true => simp
              | false =>
                have z : dn (pp i) = 0 := by rw [d1, e, c, hp]; rfl
                rw [td_c0 z] at h; omega
          · rw [e]
            rcases c with c | c | c
            · rw [c]; rfl
            · rw [c]
              cases hi' : is i with
              | true => simp
              | false =>
                have z : dn (pp i) = 0 := by rw [d1, e, c, hi']; rfl
                rw [td_c0 z] at h; omega
            · rw [c]
              cases hp : al (pp i) with
              | true => simp
              | false =>
                have z : dn (pp i) = 0 := by rw [d1, e, c, hp]; rfl
                rw [td_c0 z] at h; omega
        rw [td_c0 q0]; simp
end
end
section
/-! ===== code, pass ===== -/
section
variable {p : ys_P} {o : ys_O} {s : Nat × Nat} {l : xs_f} {j : ys_J} {nm : xs_f} {i : Nat} {dn fz kl af : xs_f}
theorem ys_code {post : Int32 → Prop} {d : ys_D} {x : Nat} (hx : x < 16) (hd : d.1 x ≤ 2) (h : post (ys_m (td_c j.2.2.1 d.1 x))) : wpY_code post (ys p o s l j d) (nI x) := by
  have h16 : vp_in (nI x) 16 := vp_in_nI hx (by omega)
  have h32 : vp_in (nI x) 32 := vp_in_nI (by omega) (by omega)
  have e16 : (16 : Int32) + nI x = nI (16 + x) := nI_add 16 x
  have ed : xs_A d.1 (nI x).toNatClampNeg = nI (d.1 x) := xs_at (by omega)
  unfold td_c at h
  refine And.intro h16 ?_
  by_cases e0 : d.1 x = 0
  · rw [if_pos e0] at h
    exact br_t (xs_at' (by omega) e0) h
  rw [if_neg e0] at h
  refine br_f (by rw [show xs_A d.1 (nI x).toNatClampNeg = _ from ed]; exact nI_ne0 (by omega) (by omega)) (And.intro h16 ?_)
  by_cases e1 : d.1 x = 1
  · rw [if_pos e1] at h
    exact br_t (xs_at' (by omega) e1) (And.intro h32 (xs_v (P := post) (ys_atE (by omega)) h))
  · rw [if_neg e1] at h
    refine br_f (by rw [show xs_A d.1 (nI x).toNatClampNeg = _ from ed]; exact xs_ne 1 rfl (by omega) (by omega) e1) (And.intro (by rw [e16]; exact vp_in_nI (by omega) (by omega)) ?_)
    exact xs_v (P := post) (by rw [e16]; exact ys_atE (by omega)) h
/-- what pass has done -/
def ys_Pa (p : ys_P) (m : xs_f) (on al is : Nat → Bool) (dn dn' fz fz' : xs_f) (i : Nat) : Prop :=
  (∀ x, (4 ≤ p.2.1 i → x ≠ p.2.2.2.1 i) → (7 ≤ p.2.1 i → x ≠ p.2.2.2.2 i) → dn' x = dn x) ∧
  (4 ≤ p.2.1 i → dn' (p.2.2.2.1 i) = td_p (p.2.1 i) (is i) (on i) (al (p.2.2.2.1 i)) (dn i)) ∧
  (7 ≤ p.2.1 i → dn' (p.2.2.2.2 i) = td_q (p.2.1 i) (is i) (al (p.2.2.2.1 i)) (al (p.2.2.2.2 i)) (td_c m dn' (p.2.2.2.1 i)) (dn i)) ∧
  (∀ x, x ≠ i → fz' x = fz x) ∧ fz' i = (if p.2.1 i = 6 ∧ dn i = 2 ∧ is i = true then 1 else fz i)
theorem ys_pass {is : Nat → Bool} (his : ∀ i, is i = s.1.testBit (nm i)) (hi : i < 16) (h9 : p.2.1 i ≤ 9) (hn : nm i < 6) (hN : ys_N p nm i) (hp : p.2.2.2.1 i < 16) (hq : p.2.2.2.2 i < 16) (hpi : 4 ≤ p.2.1 i → p.2.2.2.1 i < i) (hqi : 7 ≤ p.2.1 i → p.2.2.2.1 i < p.2.2.2.2 i ∧ p.2.2.2.2 i < i)
    (hon : ∀ t, t < 16 → o.2.2.2.2.2.2.2.2.2.2 t ≤ 1) (hl : ∀ t, t < 16 → l t ≤ 1) (hd : dn i ≤ 2) (hm : 4 ≤ p.2.1 i → j.2.2.1 (p.2.2.2.1 i) ≤ 5 ∧ j.2.2.1 (16 + p.2.2.2.1 i) ≤ 5) (zp : 4 ≤ p.2.1 i → dn (p.2.2.2.1 i) = 0) (zq : 7 ≤ p.2.1 i → dn (p.2.2.2.2 i) = 0) :
    ∃ dn' fz', ys_Pa p j.2.2.1 (ys_on o) (ys_al l) is dn dn' fz fz' i ∧ ∀ post : SY → Prop, post (ys p o s l j (dn', fz', kl, af)) → wpY_pass post (ys p o s l j (dn, fz, kl, af)) (nI i) := by
  have h32 : vp_in (nI i) 32 := vp_in_nI (by omega) (by omega)
  have h16 : vp_in (nI i) 16 := vp_in_nI hi (by omega)
  have p16 : vp_in (nI (p.2.2.2.1 i)) 16 := vp_in_nI hp (by omega)
  have q16 : vp_in (nI (p.2.2.2.2 i)) 16 := vp_in_nI hq (by omega)
  have i31 : i < 2 ^ 31 := by omega
  have p31 : p.2.2.2.1 i < 2 ^ 31 := by omega
  have q31 : p.2.2.2.2 i < 2 ^ 31 := by omega
  have K := fun (c : Nat) (hc : c < 2 ^ 31) (h : p.2.1 i ≠ c) => xs_ne c (rfl : nI (p.2.1 i) = nI (p.2.1 i)) (by omega) hc h
  -- it is enough to walk behind the look at the signal
  have key : ∀ b : Nat, b ≤ 1 → (p.2.1 i = 6 ∨ p.2.1 i = 9 → b = if is i = true then 1 else 0) → ∃ dn' fz', ys_Pa p j.2.2.1 (ys_on o) (ys_al l) is dn dn' fz fz' i ∧ ∀ post : SY → Prop, post (ys p o s l j (dn', fz', kl, af)) →
      wY_pass_52 post (nI i) (nI (p.2.1 i)) (nI (p.2.2.2.1 i)) (nI (p.2.2.2.2 i)) (nI (dn i)) (nI b) (nI o.1) (nI o.2.1) (nI p.1) (nI o.2.2.1) (nI o.2.2.2.1) (nI o.2.2.2.2.1) (nI s.1) (nI s.2) (nI o.2.2.2.2.2.1) (nI o.2.2.2.2.2.2.1) (nI o.2.2.2.2.2.2.2.1) (xs_A p.2.1) p.2.2.1 (xs_A p.2.2.2.1) (xs_A p.2.2.2.2) (xs_A o.2.2.2.2.2.2.2.2.1) (xs_A o.2.2.2.2.2.2.2.2.2.1) (xs_A o.2.2.2.2.2.2.2.2.2.2) (xs_A l) (xs_A j.1) (xs_A j.2.1) (ys_E j.2.2.1) (xs_A j.2.2.2) (xs_A ((dn, fz, kl, af) : ys_D).1) (xs_A ((dn, fz, kl, af) : ys_D).2.1) (xs_A ((dn, fz, kl, af) : ys_D).2.2.1) (xs_A ((dn, fz, kl, af) : ys_D).2.2.2) := by
    intro b hb1 hb
    have fz0 : ∀ x, fz x = (if p.2.1 i = 6 ∧ dn i = 2 ∧ is i = true then 1 else fz i) ∨ True := fun _ => Or.inr trivial
    by_cases d0 : dn i = 0
    · refine ⟨dn, fz, ⟨fun _ _ _ => rfl, fun h => by rw [zp h]; unfold td_p; rw [if_pos d0], fun h => by rw [zq h]; unfold td_q; rw [if_pos d0], fun _ _ => rfl, by rw [if_neg (by omega)]⟩, fun post H => br_t (by rw [d0]; rfl) H⟩
    have d0' : ¬ nI (dn i) = 0 := nI_ne0 (by omega) (by omega)
    by_cases h4 : p.2.1 i < 4
    · exact ⟨dn, fz, ⟨fun _ _ _ => rfl, fun h => by omega, fun h => by omega, fun _ _ => rfl, by rw [if_neg (by omega)]⟩, fun post H => br_f d0' (br_f (nI_ge (b := 4) h4 (by omega)) H)⟩
    have go4 : (4 : Int32) ≤ nI (p.2.1 i) := nI_le (a := 4) (by omega) (by omega)
    -- one part gets c, the rest stays
    have one : ∀ c, c = td_p (p.2.1 i) (is i) (ys_on o i) (ys_al l (p.2.2.2.1 i)) (dn i) → p.2.1 i < 7 → ¬ (p.2.1 i = 6 ∧ dn i = 2 ∧ is i = true) → ys_Pa p j.2.2.1 (ys_on o) (ys_al l) is dn (xs_u dn (p.2.2.2.1 i) c) fz fz i := by
      intro c hc h7 h6
      exact ⟨fun x hx _ => xs_un (hx (by omega)), fun _ => by rw [xs_us, hc], fun h => by omega, fun _ _ => rfl, by rw [if_neg h6]⟩
    by_cases e4 : p.2.1 i = 4
    · have tp : td_p (p.2.1 i) (is i) (ys_on o i) (ys_al l (p.2.2.2.1 i)) (dn i) = if ys_on o i = true then 1 else dn i := by unfold td_p; rw [if_neg d0, if_pos e4]
      cases ho : ys_on o i with
      | true =>
        rw [ho, if_pos rfl] at tp
        refine ⟨_, _, by rw [ho] at one; exact one 1 tp.symm (by omega) (by omega), fun post H => br_f d0' (br_t go4 (br_t (by rw [e4]; rfl) (And.intro h16 (ys_b0 i31 (hon i hi) (fun f => absurd (ho.symm.trans f) (by decide)) (fun _ => And.intro p16 (nm_r (ys_pi rfl p31 rfl) H))))))⟩
      | false =>
        rw [ho, if_neg Bool.false_ne_true] at tp
        refine ⟨_, _, by rw [ho] at one; exact one (dn i) tp.symm (by omega) (by omega), fun post H => br_f d0' (br_t go4 (br_t (by rw [e4]; rfl) (And.intro h16 (ys_b0 i31 (hon i hi) (fun _ => And.intro p16 (nm_r (ys_pi rfl p31 rfl) H)) (fun f => absurd (ho.symm.trans f) (by decide))))))⟩
    by_cases e5 : p.2.1 i = 5
    · exact ⟨_, _, one (dn i) (by unfold td_p; rw [if_neg d0, if_neg e4, if_pos e5]) (by omega) (by omega), fun post H => br_f d0' (br_t go4 (br_f (K 4 (by omega) e4) (br_t (by rw [e5]; rfl) (And.intro p16 (nm_r (ys_pi rfl p31 rfl) H)))))⟩
    by_cases e6 : p.2.1 i = 6
    · have hb := hb (Or.inl e6)
      have tp : td_p (p.2.1 i) (is i) (ys_on o i) (ys_al l (p.2.2.2.1 i)) (dn i) = if dn i = 2 ∧ is i = true then 0 else dn i := by unfold td_p; rw [if_neg d0, if_neg e4, if_neg e5, if_pos e6]
      by_cases d2 : dn i = 2
      · cases hs : is i with
        | true =>
          rw [hs, if_pos rfl] at hb
          refine ⟨dn, xs_u fz i 1, ⟨fun _ _ _ => rfl, fun h => by rw [tp, if_pos ⟨d2, hs⟩, zp h], fun h => by omega, fun x hx => xs_un hx, by rw [xs_us, if_pos ⟨e6, d2, hs⟩]⟩, fun post H => br_f d0' (br_t go4 (br_f (K 4 (by omega) e4) (br_f (K 5 (by omega) e5) (br_t (by rw [e6]; rfl) (br_t (by rw [d2]; rfl) (br_f (by rw [hb]; decide) (And.intro h16 (nm_r (xs_pz (x := 1) rfl i31 rfl (by omega)) H))))))))⟩
        | false =>
          rw [hs, if_neg Bool.false_ne_true] at hb
          exact ⟨_, _, one (dn i) (by rw [tp, hs]; simp) (by omega) (by rw [hs]; simp), fun post H => br_f d0' (br_t go4 (br_f (K 4 (by omega) e4) (br_f (K 5 (by omega) e5) (br_t (by rw [e6]; rfl) (br_t (by rw [d2]; rfl) (br_t (by rw [hb]; rfl) (And.intro p16 (nm_r (ys_pi rfl p31 rfl) H))))))))⟩
      · exact ⟨_, _, one (dn i) (by rw [tp, if_neg (fun q => d2 q.1)]) (by omega) (by omega), fun post H => br_f d0' (br_t go4 (br_f (K 4 (by omega) e4) (br_f (K 5 (by omega) e5) (br_t (by rw [e6]; rfl) (br_f (xs_ne 2 rfl (by omega) (by omega) d2) (And.intro p16 (nm_r (ys_pi rfl p31 rfl) H)))))))⟩
    have h7 : 7 ≤ p.2.1 i := by omega
    have q := hqi h7
    have z0p := zp (by omega)
    have z0q := zq h7
    have alp := hl _ hp
    have alq := hl _ hq
    have pne : p.2.2.2.1 i ≠ p.2.2.2.2 i := by omega
    have fzi : fz i = (if p.2.1 i = 6 ∧ dn i = 2 ∧ is i = true then 1 else fz i) := by rw [if_neg (by omega)]
    by_cases e7 : p.2.1 i = 7
    · have tp : td_p (p.2.1 i) (is i) (ys_on o i) (ys_al l (p.2.2.2.1 i)) (dn i) = if dn i = 1 ∨ ys_al l (p.2.2.2.1 i) = true then dn i else 0 := by unfold td_p; rw [if_neg d0, if_neg e4, if_neg e5, if_neg e6, if_neg (by omega)]
      have tq : ∀ c, td_q (p.2.1 i) (is i) (ys_al l (p.2.2.2.1 i)) (ys_al l (p.2.2.2.2 i)) c (dn i) = if dn i = 2 ∧ ys_al l (p.2.2.2.1 i) = false then 2 else if c = 0 then 1 else 0 := fun c => by unfold td_q; rw [if_neg d0, if_pos e7]
      by_cases c1 : dn i = 1 ∨ ys_al l (p.2.2.2.1 i) = true
      · -- the first part gets the same way; the second is started if the first ends
        rw [if_pos c1] at tp
        have nd : ¬ (dn i = 2 ∧ ys_al l (p.2.2.2.1 i) = false) := fun a => by
          rcases c1 with c | c
          · omega
          · rw [a.2] at c; exact absurd c (by decide)
        have dp2 : (xs_u dn (p.2.2.2.1 i) (dn i)) (p.2.2.2.1 i) ≤ 2 := by rw [xs_us]; exact hd
        have enter : ∀ post : SY → Prop, wY_pass_203 post (nI (p.2.2.2.1 i)) (nI (p.2.2.2.2 i)) (nI o.1) (nI o.2.1) (nI p.1) (nI o.2.2.1) (nI o.2.2.2.1) (nI o.2.2.2.2.1) (nI s.1) (nI s.2) (nI o.2.2.2.2.2.1) (nI o.2.2.2.2.2.2.1) (nI o.2.2.2.2.2.2.2.1) (xs_A p.2.1) p.2.2.1 (xs_A p.2.2.2.1) (xs_A p.2.2.2.2) (xs_A o.2.2.2.2.2.2.2.2.1) (xs_A o.2.2.2.2.2.2.2.2.2.1) (xs_A o.2.2.2.2.2.2.2.2.2.2) (xs_A l) (xs_A j.1) (xs_A j.2.1) (ys_E j.2.2.1) (xs_A j.2.2.2) (xs_A ((xs_u dn (p.2.2.2.1 i) (dn i), fz, kl, af) : ys_D).1) (xs_A ((xs_u dn (p.2.2.2.1 i) (dn i), fz, kl, af) : ys_D).2.1) (xs_A ((xs_u dn (p.2.2.2.1 i) (dn i), fz, kl, af) : ys_D).2.2.1) (xs_A ((xs_u dn (p.2.2.2.1 i) (dn i), fz, kl, af) : ys_D).2.2.2) → wY_pass_52 post (nI i) (nI (p.2.1 i)) (nI (p.2.2.2.1 i)) (nI (p.2.2.2.2 i)) (nI (dn i)) (nI b) (nI o.1) (nI o.2.1) (nI p.1) (nI o.2.2.1) (nI o.2.2.2.1) (nI o.2.2.2.2.1) (nI s.1) (nI s.2) (nI o.2.2.2.2.2.1) (nI o.2.2.2.2.2.2.1) (nI o.2.2.2.2.2.2.2.1) (xs_A p.2.1) p.2.2.1 (xs_A p.2.2.2.1) (xs_A p.2.2.2.2) (xs_A o.2.2.2.2.2.2.2.2.1) (xs_A o.2.2.2.2.2.2.2.2.2.1) (xs_A o.2.2.2.2.2.2.2.2.2.2) (xs_A l) (xs_A j.1) (xs_A j.2.1) (ys_E j.2.2.1) (xs_A j.2.2.2) (xs_A ((dn, fz, kl, af) : ys_D).1) (xs_A ((dn, fz, kl, af) : ys_D).2.1) (xs_A ((dn, fz, kl, af) : ys_D).2.2.1) (xs_A ((dn, fz, kl, af) : ys_D).2.2.2) := fun post H => by
          have L : wY_pass_177 post (nI (p.2.2.2.1 i)) (nI (p.2.2.2.2 i)) (nI (dn i)) (nI o.1) (nI o.2.1) (nI p.1) (nI o.2.2.1) (nI o.2.2.2.1) (nI o.2.2.2.2.1) (nI s.1) (nI s.2) (nI o.2.2.2.2.2.1) (nI o.2.2.2.2.2.2.1) (nI o.2.2.2.2.2.2.2.1) (xs_A p.2.1) p.2.2.1 (xs_A p.2.2.2.1) (xs_A p.2.2.2.2) (xs_A o.2.2.2.2.2.2.2.2.1) (xs_A o.2.2.2.2.2.2.2.2.2.1) (xs_A o.2.2.2.2.2.2.2.2.2.2) (xs_A l) (xs_A j.1) (xs_A j.2.1) (ys_E j.2.2.1) (xs_A j.2.2.2) (xs_A ((xs_u dn (p.2.2.2.1 i) (dn i), fz, kl, af) : ys_D).1) (xs_A ((xs_u dn (p.2.2.2.1 i) (dn i), fz, kl, af) : ys_D).2.1) (xs_A ((xs_u dn (p.2.2.2.1 i) (dn i), fz, kl, af) : ys_D).2.2.1) (xs_A ((xs_u dn (p.2.2.2.1 i) (dn i), fz, kl, af) : ys_D).2.2.2) := by
            by_cases d2 : dn i = 2
            · exact br_t (by rw [d2]; rfl) (And.intro p16 (ys_b0 p31 alp (fun f => absurd ⟨d2, f⟩ nd) (fun _ => H)))
            · exact br_f (xs_ne 2 rfl (by omega) (by omega) d2) H
          have L2 : wY_pass_169 post (nI (p.2.2.2.1 i)) (nI (p.2.2.2.2 i)) (nI (dn i)) (nI o.1) (nI o.2.1) (nI p.1) (nI o.2.2.1) (nI o.2.2.2.1) (nI o.2.2.2.2.1) (nI s.1) (nI s.2) (nI o.2.2.2.2.2.1) (nI o.2.2.2.2.2.2.1) (nI o.2.2.2.2.2.2.2.1) (xs_A p.2.1) p.2.2.1 (xs_A p.2.2.2.1) (xs_A p.2.2.2.2) (xs_A o.2.2.2.2.2.2.2.2.1) (xs_A o.2.2.2.2.2.2.2.2.2.1) (xs_A o.2.2.2.2.2.2.2.2.2.2) (xs_A l) (xs_A j.1) (xs_A j.2.1) (ys_E j.2.2.1) (xs_A j.2.2.2) (xs_A ((dn, fz, kl, af) : ys_D).1) (xs_A ((dn, fz, kl, af) : ys_D).2.1) (xs_A ((dn, fz, kl, af) : ys_D).2.2.1) (xs_A ((dn, fz, kl, af) : ys_D).2.2.2) := And.intro p16 (nm_r (ys_pi rfl p31 rfl) L)
          refine br_f d0' (br_t go4 (br_f (K 4 (by omega) e4) (br_f (K 5 (by omega) e5) (br_f (K 6 (by omega) e6) (br_t (by rw [e7]; rfl) ?_)))))
          by_cases d1 : dn i = 1
          · exact br_t (by rw [d1]; rfl) L2
          · refine br_f (xs_ne 1 rfl (by omega) (by omega) d1) (And.intro p16 (ys_b0 p31 alp (fun f => ?_) (fun _ => L2)))
            rcases c1 with c | c
            · exact absurd c d1
            · exact absurd (c.symm.trans f) (by decide)
        by_cases c0 : td_c j.2.2.1 (xs_u dn (p.2.2.2.1 i) (dn i)) (p.2.2.2.1 i) = 0
        · have cc : td_c j.2.2.1 (xs_u (xs_u dn (p.2.2.2.1 i) (dn i)) (p.2.2.2.2 i) 1) (p.2.2.2.1 i) = 0 := by rw [← c0]; unfold td_c; rw [xs_un pne]
          refine ⟨xs_u (xs_u dn (p.2.2.2.1 i) (dn i)) (p.2.2.2.2 i) 1, fz, ⟨fun x h1 h2 => (xs_un (h2 h7)).trans (xs_un (h1 (by omega))), fun _ => by rw [tp, xs_un pne, xs_us], fun _ => by rw [tq, xs_us, if_neg nd, cc, if_pos rfl], fun _ _ => rfl, fzi⟩, fun post H => enter post (ys_code (p := p) (o := o) (s := s) (l := l) (j := j) (d := (xs_u dn (p.2.2.2.1 i) (dn i), fz, kl, af)) hp dp2 ?_)⟩
          rw [show (xs_u dn (p.2.2.2.1 i) (dn i), fz, kl, af).1 = xs_u dn (p.2.2.2.1 i) (dn i) from rfl, c0]
          exact br_t rfl (And.intro q16 (nm_r (ys_pi rfl q31 rfl) H))
        · refine ⟨xs_u dn (p.2.2.2.1 i) (dn i), fz, ⟨fun x h1 h2 => xs_un (h1 (by omega)), fun _ => by rw [tp, xs_us], fun _ => by rw [tq, xs_un (Ne.symm pne), if_neg nd, if_neg c0, z0q], fun _ _ => rfl, fzi⟩, fun post H => enter post (ys_code (p := p) (o := o) (s := s) (l := l) (j := j) (d := (xs_u dn (p.2.2.2.1 i) (dn i), fz, kl, af)) hp dp2 ?_)⟩
          have mm := hm (by omega)
          have c6 : td_c j.2.2.1 (xs_u dn (p.2.2.2.1 i) (dn i)) (p.2.2.2.1 i) < 6 := by unfold td_c; split <;> (try split) <;> omega
          exact br_f (fun q => c0 ((yt_m0 _ c6).mp q)) H
      · -- the second part goes on
        rw [if_neg c1] at tp
        have d2 : dn i = 2 := by omega
        have ap : ys_al l (p.2.2.2.1 i) = false := Bool.eq_false_iff.mpr (fun h => c1 (Or.inr h))
        refine ⟨xs_u dn (p.2.2.2.2 i) 2, fz, ⟨fun x h1 h2 => xs_un (h2 h7), fun _ => by rw [tp, xs_un pne, z0p], fun _ => by rw [tq, xs_us, if_pos ⟨d2, ap⟩], fun _ _ => rfl, fzi⟩, fun post H => br_f d0' (br_t go4 (br_f (K 4 (by omega) e4) (br_f (K 5 (by omega) e5) (br_f (K 6 (by omega) e6) (br_t (by rw [e7]; rfl)
          (br_f (xs_ne 1 rfl (by omega) (by omega) (by omega)) (And.intro p16 (ys_b0 p31 alp (fun _ => br_t (by rw [d2]; rfl) (And.intro p16 (ys_b0 p31 alp (fun _ => And.intro q16 (nm_r (ys_pi rfl q31 rfl) H)) (fun f => absurd (ap.symm.trans f) (by decide))))) (fun f => absurd (ap.symm.trans f) (by decide))))))))))⟩
    by_cases e8 : p.2.1 i = 8
    · have tp : td_p (p.2.1 i) (is i) (ys_on o i) (ys_al l (p.2.2.2.1 i)) (dn i) = if dn i = 1 ∨ ys_al l (p.2.2.2.1 i) = true then dn i else 0 := by unfold td_p; rw [if_neg d0, if_neg e4, if_neg e5, if_neg e6, if_neg (by omega)]
      have tq : ∀ c, td_q (p.2.1 i) (is i) (ys_al l (p.2.2.2.1 i)) (ys_al l (p.2.2.2.2 i)) c (dn i) = if dn i = 1 ∨ ys_al l (p.2.2.2.2 i) = true then dn i else 0 := fun c => by unfold td_q; rw [if_neg d0, if_neg e7, if_pos e8]
      -- the second part, behind the first
      have second : ∀ d1 : xs_f, d1 (p.2.2.2.2 i) = 0 → ∃ d2 : xs_f, (∀ x, x ≠ p.2.2.2.2 i → d2 x = d1 x) ∧ d2 (p.2.2.2.2 i) = (if dn i = 1 ∨ ys_al l (p.2.2.2.2 i) = true then dn i else 0) ∧ ∀ post : SY → Prop, post (ys p o s l j (d2, fz, kl, af)) →
          wY_pass_251 post (nI (p.2.2.2.2 i)) (nI (dn i)) (nI o.1) (nI o.2.1) (nI p.1) (nI o.2.2.1) (nI o.2.2.2.1) (nI o.2.2.2.2.1) (nI s.1) (nI s.2) (nI o.2.2.2.2.2.1) (nI o.2.2.2.2.2.2.1) (nI o.2.2.2.2.2.2.2.1) (xs_A p.2.1) p.2.2.1 (xs_A p.2.2.2.1) (xs_A p.2.2.2.2) (xs_A o.2.2.2.2.2.2.2.2.1) (xs_A o.2.2.2.2.2.2.2.2.2.1) (xs_A o.2.2.2.2.2.2.2.2.2.2) (xs_A l) (xs_A j.1) (xs_A j.2.1) (ys_E j.2.2.1) (xs_A j.2.2.2) (xs_A ((d1, fz, kl, af) : ys_D).1) (xs_A ((d1, fz, kl, af) : ys_D).2.1) (xs_A ((d1, fz, kl, af) : ys_D).2.2.1) (xs_A ((d1, fz, kl, af) : ys_D).2.2.2) := by
        intro d1 hd1
        by_cases c1 : dn i = 1
        · exact ⟨xs_u d1 (p.2.2.2.2 i) (dn i), fun x hx => xs_un hx, by rw [xs_us, if_pos (Or.inl c1)], fun post H => br_t (by rw [c1]; rfl) (And.intro q16 (nm_r (ys_pi rfl q31 rfl) H))⟩
        · cases ha : ys_al l (p.2.2.2.2 i) with
          | true => exact ⟨xs_u d1 (p.2.2.2.2 i) (dn i), fun x hx => xs_un hx, by rw [xs_us, if_pos (Or.inr rfl)], fun post H => br_f (xs_ne 1 rfl (by omega) (by omega) c1) (And.intro q16 (ys_b0 q31 alq (fun f => absurd (ha.symm.trans f) (by decide)) (fun _ => And.intro q16 (nm_r (ys_pi rfl q31 rfl) H))))⟩
          | false => exact ⟨d1, fun x hx => rfl, by rw [if_neg (by simp [c1]), hd1], fun post H => br_f (xs_ne 1 rfl (by omega) (by omega) c1) (And.intro q16 (ys_b0 q31 alq (fun _ => H) (fun f => absurd (ha.symm.trans f) (by decide))))⟩
      by_cases c1 : dn i = 1 ∨ ys_al l (p.2.2.2.1 i) = true
      · rw [if_pos c1] at tp
        obtain ⟨d2, s1, s2, s3⟩ := second (xs_u dn (p.2.2.2.1 i) (dn i)) (by rw [xs_un (Ne.symm pne)]; exact z0q)
        refine ⟨d2, fz, ⟨fun x h1 h2 => (s1 x (h2 h7)).trans (xs_un (h1 (by omega))), fun _ => by rw [tp, s1 _ pne, xs_us], fun _ => by rw [tq, s2], fun _ _ => rfl, fzi⟩, fun post H => ?_⟩
        have L : wY_pass_243 post (nI (p.2.2.2.1 i)) (nI (p.2.2.2.2 i)) (nI (dn i)) (nI o.1) (nI o.2.1) (nI p.1) (nI o.2.2.1) (nI o.2.2.2.1) (nI o.2.2.2.2.1) (nI s.1) (nI s.2) (nI o.2.2.2.2.2.1) (nI o.2.2.2.2.2.2.1) (nI o.2.2.2.2.2.2.2.1) (xs_A p.2.1) p.2.2.1 (xs_A p.2.2.2.1) (xs_A p.2.2.2.2) (xs_A o.2.2.2.2.2.2.2.2.1) (xs_A o.2.2.2.2.2.2.2.2.2.1) (xs_A o.2.2.2.2.2.2.2.2.2.2) (xs_A l) (xs_A j.1) (xs_A j.2.1) (ys_E j.2.2.1) (xs_A j.2.2.2) (xs_A ((dn, fz, kl, af) : ys_D).1) (xs_A ((dn, fz, kl, af) : ys_D).2.1) (xs_A ((dn, fz, kl, af) : ys_D).2.2.1) (xs_A ((dn, fz, kl, af) : ys_D).2.2.2) := And.intro p16 (nm_r (ys_pi rfl p31 rfl) (s3 post H))
        refine br_f d0' (br_t go4 (br_f (K 4 (by omega) e4) (br_f (K 5 (by omega) e5) (br_f (K 6 (by omega) e6) (br_f (K 7 (by omega) e7) (br_t (by rw [e8]; rfl) ?_))))))
        by_cases d1 : dn i = 1
        · exact br_t (by rw [d1]; rfl) L
        · refine br_f (xs_ne 1 rfl (by omega) (by omega) d1) (And.intro p16 (ys_b0 p31 alp (fun f => ?_) (fun _ => L)))
          rcases c1 with c | c
          · exact absurd c d1
          · exact absurd (c.symm.trans f) (by decide)
      · rw [if_neg c1] at tp
        have ap : ys_al l (p.2.2.2.1 i) = false := Bool.eq_false_iff.mpr (fun h => c1 (Or.inr h))
        obtain ⟨d2, s1, s2, s3⟩ := second dn z0q
        refine ⟨d2, fz, ⟨fun x h1 h2 => s1 x (h2 h7), fun _ => by rw [tp, s1 _ pne, z0p], fun _ => by rw [tq, s2], fun _ _ => rfl, fzi⟩, fun post H => br_f d0' (br_t go4 (br_f (K 4 (by omega) e4) (br_f (K 5 (by omega) e5) (br_f (K 6 (by omega) e6) (br_f (K 7 (by omega) e7) (br_t (by rw [e8]; rfl)
          (br_f (xs_ne 1 rfl (by omega) (by omega) (by omega)) (And.intro p16 (ys_b0 p31 alp (fun _ => s3 post H) (fun f => absurd (ap.symm.trans f) (by decide)))))))))))⟩
    · have e9 : p.2.1 i = 9 := by omega
      have hb := hb (Or.inr e9)
      have tp : td_p (p.2.1 i) (is i) (ys_on o i) (ys_al l (p.2.2.2.1 i)) (dn i) = if dn i = 1 then (if is i = true then 1 else 0) else if ys_al l (p.2.2.2.1 i) = true then dn i else 0 := by unfold td_p; rw [if_neg d0, if_neg e4, if_neg e5, if_neg e6, if_pos e9]
      have tq : ∀ c, td_q (p.2.1 i) (is i) (ys_al l (p.2.2.2.1 i)) (ys_al l (p.2.2.2.2 i)) c (dn i) = if dn i = 1 then (if is i = true then 0 else 1) else if ys_al l (p.2.2.2.1 i) = true then 0 else dn i := fun c => by unfold td_q; rw [if_neg d0, if_neg e7, if_neg e8]
      have toP : td_p (p.2.1 i) (is i) (ys_on o i) (ys_al l (p.2.2.2.1 i)) (dn i) = dn i → (∀ c, td_q (p.2.1 i) (is i) (ys_al l (p.2.2.2.1 i)) (ys_al l (p.2.2.2.2 i)) c (dn i) = 0) → ys_Pa p j.2.2.1 (ys_on o) (ys_al l) is dn (xs_u dn (p.2.2.2.1 i) (dn i)) fz fz i := fun h1 h2 =>
        ⟨fun x a _ => xs_un (a (by omega)), fun _ => by rw [h1, xs_us], fun _ => by rw [h2, xs_un (Ne.symm pne), z0q], fun _ _ => rfl, fzi⟩
      have toQ : td_p (p.2.1 i) (is i) (ys_on o i) (ys_al l (p.2.2.2.1 i)) (dn i) = 0 → (∀ c, td_q (p.2.1 i) (is i) (ys_al l (p.2.2.2.1 i)) (ys_al l (p.2.2.2.2 i)) c (dn i) = dn i) → ys_Pa p j.2.2.1 (ys_on o) (ys_al l) is dn (xs_u dn (p.2.2.2.2 i) (dn i)) fz fz i := fun h1 h2 =>
        ⟨fun x _ b => xs_un (b h7), fun _ => by rw [h1, xs_un pne, z0p], fun _ => by rw [h2, xs_us], fun _ _ => rfl, fzi⟩
      have enter : ∀ post : SY → Prop, _ → wY_pass_52 post (nI i) (nI (p.2.1 i)) (nI (p.2.2.2.1 i)) (nI (p.2.2.2.2 i)) (nI (dn i)) (nI b) (nI o.1) (nI o.2.1) (nI p.1) (nI o.2.2.1) (nI o.2.2.2.1) (nI o.2.2.2.2.1) (nI s.1) (nI s.2) (nI o.2.2.2.2.2.1) (nI o.2.2.2.2.2.2.1) (nI o.2.2.2.2.2.2.2.1) (xs_A p.2.1) p.2.2.1 (xs_A p.2.2.2.1) (xs_A p.2.2.2.2) (xs_A o.2.2.2.2.2.2.2.2.1) (xs_A o.2.2.2.2.2.2.2.2.2.1) (xs_A o.2.2.2.2.2.2.2.2.2.2) (xs_A l) (xs_A j.1) (xs_A j.2.1) (ys_E j.2.2.1) (xs_A j.2.2.2) (xs_A ((dn, fz, kl, af) : ys_D).1) (xs_A ((dn, fz, kl, af) : ys_D).2.1) (xs_A ((dn, fz, kl, af) : ys_D).2.2.1) (xs_A ((dn, fz, kl, af) : ys_D).2.2.2) := fun post H =>
        br_f d0' (br_t go4 (br_f (K 4 (by omega) e4) (br_f (K 5 (by omega) e5) (br_f (K 6 (by omega) e6) (br_f (K 7 (by omega) e7) (br_f (K 8 (by omega) e8) H))))))
      by_cases c1 : dn i = 1
      · cases hs : is i with
        | true =>
          rw [hs, if_pos rfl] at hb
          exact ⟨_, _, toP (by rw [tp, if_pos c1, hs, c1]; rfl) (fun c => by rw [tq, if_pos c1, hs]; rfl), fun post H => enter post (br_t (by rw [c1]; rfl) (br_f (by rw [hb]; decide) (And.intro p16 (nm_r (ys_pi rfl p31 rfl) H))))⟩
        | false =>
          rw [hs, if_neg Bool.false_ne_true] at hb
          exact ⟨_, _, toQ (by rw [tp, if_pos c1, hs]; rfl) (fun c => by rw [tq, if_pos c1, hs, c1]; rfl), fun post H => enter post (br_t (by rw [c1]; rfl) (br_t (by rw [hb]; rfl) (And.intro q16 (nm_r (ys_pi rfl q31 rfl) H))))⟩
      · cases ha : ys_al l (p.2.2.2.1 i) with
        | true =>
          rw [ha] at toP tp
          refine ⟨_, _, toP (by rw [tp, if_neg c1]; rfl) (fun c => by rw [← ha, tq, if_neg c1, ha]; rfl), fun post H => enter post (br_f (xs_ne 1 rfl (by omega) (by omega) c1) (And.intro p16 (ys_b0 p31 alp (fun f => absurd (ha.symm.trans f) (by decide)) (fun _ => And.intro p16 (nm_r (ys_pi rfl p31 rfl) H)))))⟩
        | false =>
          rw [ha] at toQ tp
          refine ⟨_, _, toQ (by rw [tp, if_neg c1]; rfl) (fun c => by rw [← ha, tq, if_neg c1, ha]; rfl), fun post H => enter post (br_f (xs_ne 1 rfl (by omega) (by omega) c1) (And.intro p16 (ys_b0 p31 alp (fun _ => And.intro q16 (nm_r (ys_pi rfl q31 rfl) H)) (fun f => absurd (ha.symm.trans f) (by decide)))))⟩
  have en : p.2.1 i = 6 ∨ p.2.1 i = 9 → p.2.2.1 (nI i).toNatClampNeg = nI (nm i) := fun h => by rw [nI_clamp i31]; exact hN (by omega)
  by_cases hbit : ((nI s.1 >>> (p.2.2.1 (nI i).toNatClampNeg &&& 31)) &&& 1) = 1
  · obtain ⟨dn', fz', P1, P2⟩ := key 1 (by omega) (fun h => by
      rw [en h] at hbit
      rw [his, (nx_b1 _ (by omega)).mp hbit]; rfl)
    exact ⟨dn', fz', P1, fun post H => And.intro h32 (nm_r (e' := nI (p.2.1 i)) (xs_at i31) (And.intro h32 (nm_r (e' := nI (p.2.2.2.1 i)) (xs_at i31) (And.intro h32 (nm_r (e' := nI (p.2.2.2.2 i)) (xs_at i31) (And.intro h16 (nm_r (e' := nI (dn i)) (xs_at i31) (And.intro h32 (br_t hbit (P2 post H))))))))))⟩
  · obtain ⟨dn', fz', P1, P2⟩ := key 0 (by omega) (fun h => by
      rw [en h] at hbit
      have : ¬ s.1.testBit (nm i) = true := fun q => hbit ((nx_b1 _ (by omega)).mpr q)
      rw [his, if_neg this])
    exact ⟨dn', fz', P1, fun post H => And.intro h32 (nm_r (e' := nI (p.2.1 i)) (xs_at i31) (And.intro h32 (nm_r (e' := nI (p.2.2.2.1 i)) (xs_at i31) (And.intro h32 (nm_r (e' := nI (p.2.2.2.2 i)) (xs_at i31) (And.intro h16 (nm_r (e' := nI (dn i)) (xs_at i31) (And.intro h32 (br_f hbit (P2 post H))))))))))⟩
end
end
section
/-! ===== the reference's spread; the way down ===== -/
def ys_Sp (p : ys_P) (m dn fz fz' kl kl' : xs_f) (i : Nat) : Prop :=
  (∀ x, (4 ≤ p.2.1 i → x ≠ p.2.2.2.1 i) → (7 ≤ p.2.1 i → x ≠ p.2.2.2.2 i) → fz' x = fz x ∧ kl' x = kl x) ∧
  (4 ≤ p.2.1 i → fz' (p.2.2.2.1 i) = fz i ∧ kl' (p.2.2.2.1 i) ≤ 1 ∧ decide (kl' (p.2.2.2.1 i) = 1) = td_k p.2.1 p.2.2.2.1 m dn (fun x => decide (kl x = 1)) i) ∧
  (7 ≤ p.2.1 i → fz' (p.2.2.2.2 i) = fz i ∧ kl' (p.2.2.2.2 i) ≤ 1 ∧ decide (kl' (p.2.2.2.2 i) = 1) = td_k p.2.1 p.2.2.2.1 m dn (fun x => decide (kl x = 1)) i)
theorem yt_g1 : ∀ m, m < 6 → (1 < ys_m m ↔ (1 < m ∧ m ≠ 5)) := by decide +kernel
section
variable {p : ys_P} {o : ys_O} {s : Nat × Nat} {l : xs_f} {j : ys_J} {nm lo : xs_f} {i : Nat} {dn fz kl af : xs_f}
theorem ys_spread (hi : i < 16) (h9 : p.2.1 i ≤ 9) (hp : p.2.2.2.1 i < 16) (hq : p.2.2.2.2 i < 16) (hpi : 4 ≤ p.2.1 i → p.2.2.2.1 i < i) (hqi : 7 ≤ p.2.1 i → p.2.2.2.1 i < p.2.2.2.2 i ∧ p.2.2.2.2 i < i)
    (hd : dn i ≤ 2) (hdp : 4 ≤ p.2.1 i → dn (p.2.2.2.1 i) ≤ 2) (hm : j.2.2.1 i ≤ 5 ∧ j.2.2.1 (16 + i) ≤ 5) (hmp : 4 ≤ p.2.1 i → j.2.2.1 (p.2.2.2.1 i) ≤ 5 ∧ j.2.2.1 (16 + p.2.2.2.1 i) ≤ 5) (hf : fz i ≤ 1) (hk : kl i ≤ 1)
    (zp : 4 ≤ p.2.1 i → fz (p.2.2.2.1 i) = 0 ∧ kl (p.2.2.2.1 i) = 0) (zq : 7 ≤ p.2.1 i → fz (p.2.2.2.2 i) = 0 ∧ kl (p.2.2.2.2 i) = 0) :
    ∃ fz' kl', ys_Sp p j.2.2.1 dn fz fz' kl kl' i ∧ ∀ post : SY → Prop, post (ys p o s l j (dn, fz', kl', af)) → wpY_spread post (ys p o s l j (dn, fz, kl, af)) (nI i) := by
  have h32 : vp_in (nI i) 32 := vp_in_nI (by omega) (by omega)
  have h16 : vp_in (nI i) 16 := vp_in_nI hi (by omega)
  have p16 : vp_in (nI (p.2.2.2.1 i)) 16 := vp_in_nI hp (by omega)
  have q16 : vp_in (nI (p.2.2.2.2 i)) 16 := vp_in_nI hq (by omega)
  have i31 : i < 2 ^ 31 := by omega
  have p31 : p.2.2.2.1 i < 2 ^ 31 := by omega
  have q31 : p.2.2.2.2 i < 2 ^ 31 := by omega
  have c6 : td_c j.2.2.1 dn i < 6 := by unfold td_c; split <;> (try split) <;> omega
  have enter : ∀ post : SY → Prop, _ → wpY_spread post (ys p o s l j (dn, fz, kl, af)) (nI i) := fun post H =>
    And.intro h32 (nm_r (e' := nI (p.2.1 i)) (xs_at i31) (And.intro h32 (nm_r (e' := nI (p.2.2.2.1 i)) (xs_at i31) (And.intro h32 (nm_r (e' := nI (p.2.2.2.2 i)) (xs_at i31) (ys_code (p := p) (o := o) (s := s) (l := l) (j := j) (d := (dn, fz, kl, af)) hi hd H))))))
  by_cases h4 : p.2.1 i < 4
  · exact ⟨fz, kl, ⟨fun _ _ _ => ⟨rfl, rfl⟩, fun h => by omega, fun h => by omega⟩, fun post H => enter post (br_f (nI_ge (b := 4) h4 (by omega)) H)⟩
  have pi := hpi (by omega)
  have z1 := zp (by omega)
  -- behind the join, with e whether the parts are ended
  have key : ∀ e : Nat, e ≤ 1 → decide (e = 1) = td_k p.2.1 p.2.2.2.1 j.2.2.1 dn (fun x => decide (kl x = 1)) i → ∃ fz' kl', ys_Sp p j.2.2.1 dn fz fz' kl kl' i ∧ ∀ post : SY → Prop, post (ys p o s l j (dn, fz', kl', af)) →
      wY_spread_75 post (nI i) (nI (p.2.1 i)) (nI (p.2.2.2.1 i)) (nI (p.2.2.2.2 i)) (nI e) (nI o.1) (nI o.2.1) (nI p.1) (nI o.2.2.1) (nI o.2.2.2.1) (nI o.2.2.2.2.1) (nI s.1) (nI s.2) (nI o.2.2.2.2.2.1) (nI o.2.2.2.2.2.2.1) (nI o.2.2.2.2.2.2.2.1) (xs_A p.2.1) p.2.2.1 (xs_A p.2.2.2.1) (xs_A p.2.2.2.2) (xs_A o.2.2.2.2.2.2.2.2.1) (xs_A o.2.2.2.2.2.2.2.2.2.1) (xs_A o.2.2.2.2.2.2.2.2.2.2) (xs_A l) (xs_A j.1) (xs_A j.2.1) (ys_E j.2.2.1) (xs_A j.2.2.2) (xs_A ((dn, fz, kl, af) : ys_D).1) (xs_A ((dn, fz, kl, af) : ys_D).2.1) (xs_A ((dn, fz, kl, af) : ys_D).2.2.1) (xs_A ((dn, fz, kl, af) : ys_D).2.2.2) := by
    intro e he hek
    -- killed of the first part
    have s1 : ∃ kl1 : xs_f, (∀ x, x ≠ p.2.2.2.1 i → kl1 x = kl x) ∧ kl1 (p.2.2.2.1 i) = e ∧ ∀ post : SY → Prop, wY_spread_89 post (nI i) (nI (p.2.1 i)) (nI (p.2.2.2.1 i)) (nI (p.2.2.2.2 i)) (nI e) (nI o.1) (nI o.2.1) (nI p.1) (nI o.2.2.1) (nI o.2.2.2.1) (nI o.2.2.2.2.1) (nI s.1) (nI s.2) (nI o.2.2.2.2.2.1) (nI o.2.2.2.2.2.2.1) (nI o.2.2.2.2.2.2.2.1) (xs_A p.2.1) p.2.2.1 (xs_A p.2.2.2.1) (xs_A p.2.2.2.2) (xs_A o.2.2.2.2.2.2.2.2.1) (xs_A o.2.2.2.2.2.2.2.2.2.1) (xs_A o.2.2.2.2.2.2.2.2.2.2) (xs_A l) (xs_A j.1) (xs_A j.2.1) (ys_E j.2.2.1) (xs_A j.2.2.2) (xs_A ((dn, fz, kl1, af) : ys_D).1) (xs_A ((dn, fz, kl1, af) : ys_D).2.1) (xs_A ((dn, fz, kl1, af) : ys_D).2.2.1) (xs_A ((dn, fz, kl1, af) : ys_D).2.2.2) → wY_spread_75 post (nI i) (nI (p.2.1 i)) (nI (p.2.2.2.1 i)) (nI (p.2.2.2.2 i)) (nI e) (nI o.1) (nI o.2.1) (nI p.1) (nI o.2.2.1) (nI o.2.2.2.1) (nI o.2.2.2.2.1) (nI s.1) (nI s.2) (nI o.2.2.2.2.2.1) (nI o.2.2.2.2.2.2.1) (nI o.2.2.2.2.2.2.2.1) (xs_A p.2.1) p.2.2.1 (xs_A p.2.2.2.1) (xs_A p.2.2.2.2) (xs_A o.2.2.2.2.2.2.2.2.1) (xs_A o.2.2.2.2.2.2.2.2.2.1) (xs_A o.2.2.2.2.2.2.2.2.2.2) (xs_A l) (xs_A j.1) (xs_A j.2.1) (ys_E j.2.2.1) (xs_A j.2.2.2) (xs_A ((dn, fz, kl, af) : ys_D).1) (xs_A ((dn, fz, kl, af) : ys_D).2.1) (xs_A ((dn, fz, kl, af) : ys_D).2.2.1) (xs_A ((dn, fz, kl, af) : ys_D).2.2.2) := by
      by_cases e0 : e = 0
      · subst e0
        exact ⟨kl, fun _ _ => rfl, z1.2, fun post H => br_t rfl H⟩
      · have e1 : e = 1 := by omega
        subst e1
        exact ⟨xs_u kl (p.2.2.2.1 i) 1, fun x hx => xs_un hx, xs_us _ _ _, fun post H => br_f (by decide) (And.intro p16 (nm_r (xs_pz (x := 1) rfl p31 rfl (by omega)) H))⟩
    obtain ⟨kl1, k1, k2, k3⟩ := s1
    -- frozen of the first part
    have s2 : ∃ fz1 : xs_f, (∀ x, x ≠ p.2.2.2.1 i → fz1 x = fz x) ∧ fz1 (p.2.2.2.1 i) = fz i ∧ ∀ post : SY → Prop, wY_spread_105 post (nI i) (nI (p.2.1 i)) (nI (p.2.2.2.2 i)) (nI e) (nI o.1) (nI o.2.1) (nI p.1) (nI o.2.2.1) (nI o.2.2.2.1) (nI o.2.2.2.2.1) (nI s.1) (nI s.2) (nI o.2.2.2.2.2.1) (nI o.2.2.2.2.2.2.1) (nI o.2.2.2.2.2.2.2.1) (xs_A p.2.1) p.2.2.1 (xs_A p.2.2.2.1) (xs_A p.2.2.2.2) (xs_A o.2.2.2.2.2.2.2.2.1) (xs_A o.2.2.2.2.2.2.2.2.2.1) (xs_A o.2.2.2.2.2.2.2.2.2.2) (xs_A l) (xs_A j.1) (xs_A j.2.1) (ys_E j.2.2.1) (xs_A j.2.2.2) (xs_A ((dn, fz1, kl1, af) : ys_D).1) (xs_A ((dn, fz1, kl1, af) : ys_D).2.1) (xs_A ((dn, fz1, kl1, af) : ys_D).2.2.1) (xs_A ((dn, fz1, kl1, af) : ys_D).2.2.2) → wY_spread_89 post (nI i) (nI (p.2.1 i)) (nI (p.2.2.2.1 i)) (nI (p.2.2.2.2 i)) (nI e) (nI o.1) (nI o.2.1) (nI p.1) (nI o.2.2.1) (nI o.2.2.2.1) (nI o.2.2.2.2.1) (nI s.1) (nI s.2) (nI o.2.2.2.2.2.1) (nI o.2.2.2.2.2.2.1) (nI o.2.2.2.2.2.2.2.1) (xs_A p.2.1) p.2.2.1 (xs_A p.2.2.2.1) (xs_A p.2.2.2.2) (xs_A o.2.2.2.2.2.2.2.2.1) (xs_A o.2.2.2.2.2.2.2.2.2.1) (xs_A o.2.2.2.2.2.2.2.2.2.2) (xs_A l) (xs_A j.1) (xs_A j.2.1) (ys_E j.2.2.1) (xs_A j.2.2.2) (xs_A ((dn, fz, kl1, af) : ys_D).1) (xs_A ((dn, fz, kl1, af) : ys_D).2.1) (xs_A ((dn, fz, kl1, af) : ys_D).2.2.1) (xs_A ((dn, fz, kl1, af) : ys_D).2.2.2) := by
      by_cases e0 : fz i = 0
      · exact ⟨fz, fun _ _ => rfl, by rw [z1.1, e0], fun post H => And.intro h16 (br_t (xs_at' i31 e0) H)⟩
      · have e1 : fz i = 1 := by omega
        exact ⟨xs_u fz (p.2.2.2.1 i) 1, fun x hx => xs_un hx, by rw [xs_us, e1], fun post H => And.intro h16 (br_f (by rw [show xs_A fz (nI i).toNatClampNeg = nI 1 from xs_at' i31 e1]; decide) (And.intro p16 (nm_r (xs_pz (x := 1) rfl p31 rfl (by omega)) H)))⟩
    obtain ⟨fz1, f1, f2, f3⟩ := s2
    have fi1 : fz1 i = fz i := f1 i (by omega)
    by_cases h7 : p.2.1 i ≤ 6
    · have l6 : nI (p.2.1 i) ≤ 6 := nI_le (b := 6) h7 (by omega)
      refine ⟨fz1, kl1, ⟨fun x h1 _ => ⟨f1 x (h1 (by omega)), k1 x (h1 (by omega))⟩, fun _ => ⟨f2, by omega, by rw [k2]; exact hek⟩, fun h => by omega⟩, fun post H => k3 post (f3 post ?_)⟩
      have L : wY_spread_124 post (nI i) (nI (p.2.1 i)) (nI (p.2.2.2.2 i)) (nI o.1) (nI o.2.1) (nI p.1) (nI o.2.2.1) (nI o.2.2.2.1) (nI o.2.2.2.2.1) (nI s.1) (nI s.2) (nI o.2.2.2.2.2.1) (nI o.2.2.2.2.2.2.1) (nI o.2.2.2.2.2.2.2.1) (xs_A p.2.1) p.2.2.1 (xs_A p.2.2.2.1) (xs_A p.2.2.2.2) (xs_A o.2.2.2.2.2.2.2.2.1) (xs_A o.2.2.2.2.2.2.2.2.2.1) (xs_A o.2.2.2.2.2.2.2.2.2.2) (xs_A l) (xs_A j.1) (xs_A j.2.1) (ys_E j.2.2.1) (xs_A j.2.2.2) (xs_A ((dn, fz1, kl1, af) : ys_D).1) (xs_A ((dn, fz1, kl1, af) : ys_D).2.1) (xs_A ((dn, fz1, kl1, af) : ys_D).2.2.1) (xs_A ((dn, fz1, kl1, af) : ys_D).2.2.2) := And.intro h16 (br_c (fun _ => H) (fun _ => br_t l6 H))
      exact br_c (fun _ => L) (fun _ => br_t l6 L)
    · have g6 : ¬ nI (p.2.1 i) ≤ 6 := nI_ge (a := 6) (by omega) (by omega)
      have q := hqi (by omega)
      have z2 := zq (by omega)
      have pne : p.2.2.2.2 i ≠ p.2.2.2.1 i := by omega
      have s3 : ∃ kl2 : xs_f, (∀ x, x ≠ p.2.2.2.2 i → kl2 x = kl1 x) ∧ kl2 (p.2.2.2.2 i) = e ∧ ∀ post : SY → Prop, wY_spread_124 post (nI i) (nI (p.2.1 i)) (nI (p.2.2.2.2 i)) (nI o.1) (nI o.2.1) (nI p.1) (nI o.2.2.1) (nI o.2.2.2.1) (nI o.2.2.2.2.1) (nI s.1) (nI s.2) (nI o.2.2.2.2.2.1) (nI o.2.2.2.2.2.2.1) (nI o.2.2.2.2.2.2.2.1) (xs_A p.2.1) p.2.2.1 (xs_A p.2.2.2.1) (xs_A p.2.2.2.2) (xs_A o.2.2.2.2.2.2.2.2.1) (xs_A o.2.2.2.2.2.2.2.2.2.1) (xs_A o.2.2.2.2.2.2.2.2.2.2) (xs_A l) (xs_A j.1) (xs_A j.2.1) (ys_E j.2.2.1) (xs_A j.2.2.2) (xs_A ((dn, fz1, kl2, af) : ys_D).1) (xs_A ((dn, fz1, kl2, af) : ys_D).2.1) (xs_A ((dn, fz1, kl2, af) : ys_D).2.2.1) (xs_A ((dn, fz1, kl2, af) : ys_D).2.2.2) → wY_spread_105 post (nI i) (nI (p.2.1 i)) (nI (p.2.2.2.2 i)) (nI e) (nI o.1) (nI o.2.1) (nI p.1) (nI o.2.2.1) (nI o.2.2.2.1) (nI o.2.2.2.2.1) (nI s.1) (nI s.2) (nI o.2.2.2.2.2.1) (nI o.2.2.2.2.2.2.1) (nI o.2.2.2.2.2.2.2.1) (xs_A p.2.1) p.2.2.1 (xs_A p.2.2.2.1) (xs_A p.2.2.2.2) (xs_A o.2.2.2.2.2.2.2.2.1) (xs_A o.2.2.2.2.2.2.2.2.2.1) (xs_A o.2.2.2.2.2.2.2.2.2.2) (xs_A l) (xs_A j.1) (xs_A j.2.1) (ys_E j.2.2.1) (xs_A j.2.2.2) (xs_A ((dn, fz1, kl1, af) : ys_D).1) (xs_A ((dn, fz1, kl1, af) : ys_D).2.1) (xs_A ((dn, fz1, kl1, af) : ys_D).2.2.1) (xs_A ((dn, fz1, kl1, af) : ys_D).2.2.2) := by
        by_cases e0 : e = 0
        · subst e0
          exact ⟨kl1, fun _ _ => rfl, by rw [k1 _ pne, z2.2], fun post H => br_t rfl H⟩
        · have e1 : e = 1 := by omega
          subst e1
          exact ⟨xs_u kl1 (p.2.2.2.2 i) 1, fun x hx => xs_un hx, xs_us _ _ _, fun post H => br_f (by decide) (br_f g6 (And.intro q16 (nm_r (xs_pz (x := 1) rfl q31 rfl (by omega)) H)))⟩
      obtain ⟨kl2, k4, k5, k6⟩ := s3
      have s4 : ∃ fz2 : xs_f, (∀ x, x ≠ p.2.2.2.2 i → fz2 x = fz1 x) ∧ fz2 (p.2.2.2.2 i) = fz i ∧ ∀ post : SY → Prop, post (ys p o s l j (dn, fz2, kl2, af)) → wY_spread_124 post (nI i) (nI (p.2.1 i)) (nI (p.2.2.2.2 i)) (nI o.1) (nI o.2.1) (nI p.1) (nI o.2.2.1) (nI o.2.2.2.1) (nI o.2.2.2.2.1) (nI s.1) (nI s.2) (nI o.2.2.2.2.2.1) (nI o.2.2.2.2.2.2.1) (nI o.2.2.2.2.2.2.2.1) (xs_A p.2.1) p.2.2.1 (xs_A p.2.2.2.1) (xs_A p.2.2.2.2) (xs_A o.2.2.2.2.2.2.2.2.1) (xs_A o.2.2.2.2.2.2.2.2.2.1) (xs_A o.2.2.2.2.2.2.2.2.2.2) (xs_A l) (xs_A j.1) (xs_A j.2.1) (ys_E j.2.2.1) (xs_A j.2.2.2) (xs_A ((dn, fz1, kl2, af) : ys_D).1) (xs_A ((dn, fz1, kl2, af) : ys_D).2.1) (xs_A ((dn, fz1, kl2, af) : ys_D).2.2.1) (xs_A ((dn, fz1, kl2, af) : ys_D).2.2.2) := by
        by_cases e0 : fz i = 0
        · exact ⟨fz1, fun _ _ => rfl, by rw [f1 _ pne, z2.1, e0], fun post H => And.intro h16 (br_t (xs_at' i31 (fi1.trans e0)) H)⟩
        · have e1 : fz i = 1 := by omega
          exact ⟨xs_u fz1 (p.2.2.2.2 i) 1, fun x hx => xs_un hx, by rw [xs_us, e1], fun post H => And.intro h16 (br_f (by rw [show xs_A fz1 (nI i).toNatClampNeg = nI 1 from xs_at' i31 (fi1.trans e1)]; decide) (br_f g6 (And.intro q16 (nm_r (xs_pz (x := 1) rfl q31 rfl (by omega)) H))))⟩
      obtain ⟨fz2, f4, f5, f6⟩ := s4
      exact ⟨fz2, kl2, ⟨fun x h1 h2 => ⟨(f4 x (h2 (by omega))).trans (f1 x (h1 (by omega))), (k4 x (h2 (by omega))).trans (k1 x (h1 (by omega)))⟩, fun _ => ⟨(f4 _ (Ne.symm pne)).trans f2, by rw [k4 _ (Ne.symm pne)]; omega, by rw [k4 _ (Ne.symm pne), k2]; exact hek⟩, fun _ => ⟨f5, by omega, by rw [k5]; exact hek⟩⟩,
        fun post H => k3 post (f3 post (k6 post (f6 post H)))⟩
  have go4 : (4 : Int32) ≤ nI (p.2.1 i) := nI_le (a := 4) (by omega) (by omega)
  have ekl : xs_A kl (nI i).toNatClampNeg = nI (kl i) := xs_at i31
  by_cases k1 : kl i = 1
  · obtain ⟨fz', kl', S1, S2⟩ := key 1 (by omega) (by unfold td_k; dsimp only; rw [k1]; rfl)
    exact ⟨fz', kl', S1, fun post H => enter post (br_t go4 (And.intro h16 (br_f (by rw [show xs_A (dn, fz, kl, af).2.2.1 (nI i).toNatClampNeg = _ from ekl, k1]; decide) (S2 post H))))⟩
  have k0 : kl i = 0 := by omega
  have kz : xs_A kl (nI i).toNatClampNeg = 0 := xs_at' i31 k0
  have dk : td_k p.2.1 p.2.2.2.1 j.2.2.1 dn (fun x => decide (kl x = 1)) i = ((decide (p.2.1 i = 8) && decide (1 < td_c j.2.2.1 dn i ∧ td_c j.2.2.1 dn i ≠ 5)) || (decide (p.2.1 i = 5) && decide (td_c j.2.2.1 dn (p.2.2.2.1 i) = 2))) := by unfold td_k; dsimp only; rw [k0]; rfl
  by_cases e8 : p.2.1 i = 8
  · have e8' : nI (p.2.1 i) = 8 := by rw [e8]; rfl
    by_cases g : 1 < td_c j.2.2.1 dn i ∧ td_c j.2.2.1 dn i ≠ 5
    · obtain ⟨fz', kl', S1, S2⟩ := key 1 (by omega) (by rw [dk, decide_eq_true e8, decide_eq_true g]; rfl)
      exact ⟨fz', kl', S1, fun post H => enter post (br_t go4 (And.intro h16 (br_t kz (br_t e8' (br_t ((yt_g1 _ c6).mpr g) (S2 post H))))))⟩
    · obtain ⟨fz', kl', S1, S2⟩ := key 0 (by omega) (by rw [dk, decide_eq_false g, decide_eq_false (by omega : ¬ p.2.1 i = 5), Bool.and_false]; rfl)
      exact ⟨fz', kl', S1, fun post H => enter post (br_t go4 (And.intro h16 (br_t kz (br_t e8' (br_f (fun q => g ((yt_g1 _ c6).mp q)) (br_f (xs_ne 5 rfl (by omega) (by omega) (by omega)) (S2 post H)))))))⟩
  · have e8' : ¬ nI (p.2.1 i) = 8 := xs_ne 8 rfl (by omega) (by omega) e8
    by_cases e5 : p.2.1 i = 5
    · have e5' : nI (p.2.1 i) = 5 := by rw [e5]; rfl
      have mp := hmp (by omega)
      have cp6 : td_c j.2.2.1 dn (p.2.2.2.1 i) < 6 := by unfold td_c; split <;> (try split) <;> omega
      by_cases g : td_c j.2.2.1 dn (p.2.2.2.1 i) = 2
      · obtain ⟨fz', kl', S1, S2⟩ := key 1 (by omega) (by rw [dk, decide_eq_true e5, decide_eq_true g, Bool.true_and, Bool.or_true]; rfl)
        exact ⟨fz', kl', S1, fun post H => enter post (br_t go4 (And.intro h16 (br_t kz (br_f e8' (br_t e5' (ys_code (p := p) (o := o) (s := s) (l := l) (j := j) (d := (dn, fz, kl, af)) hp (hdp (by omega)) (br_t ((yt_e2 _ cp6).mpr g) (S2 post H))))))))⟩
      · obtain ⟨fz', kl', S1, S2⟩ := key 0 (by omega) (by rw [dk, decide_eq_false e8, decide_eq_false g, Bool.and_false]; rfl)
        exact ⟨fz', kl', S1, fun post H => enter post (br_t go4 (And.intro h16 (br_t kz (br_f e8' (br_t e5' (ys_code (p := p) (o := o) (s := s) (l := l) (j := j) (d := (dn, fz, kl, af)) hp (hdp (by omega)) (br_f (fun q => g ((yt_e2 _ cp6).mp q)) (S2 post H))))))))⟩
    · obtain ⟨fz', kl', S1, S2⟩ := key 0 (by omega) (by rw [dk, decide_eq_false e8, decide_eq_false e5]; rfl)
      exact ⟨fz', kl', S1, fun post H => enter post (br_t go4 (And.intro h16 (br_t kz (br_f e8' (br_f (xs_ne 5 rfl (by omega) (by omega) e5) (S2 post H))))))⟩
end
/-- two statements share no part -/
theorem rt_parts {z : Nat} {kd nm pp pq lo : Nat → Nat} (hT : ∀ i, i < z → rt_Nd kd nm pp pq lo i) {t i : Nat} (hi : i < z) (h : t < i) :
    (4 ≤ kd t → 4 ≤ kd i → pp t ≠ pp i) ∧ (4 ≤ kd t → 7 ≤ kd i → pp t ≠ pq i) ∧ (7 ≤ kd t → 4 ≤ kd i → pq t ≠ pp i) ∧ (7 ≤ kd t → 7 ≤ kd i → pq t ≠ pq i) := by
  have T := hT i hi
  have P := rt_Nd_p hT hi
  have P' := rt_Nd_p hT (i := t) (by omega)
  have inn := rt_Nd_in hT
  by_cases h4 : 4 ≤ kd i
  · have p := P.1 h4
    have t7 := T.2.2.2.2.2.2.2.2
    have t4 := T.2.2.2.2.2.2.2.1
    by_cases h7 : 7 ≤ kd i
    · have q := P.2 h7
      have t7 := t7 h7
      refine ⟨fun a _ => ?_, fun a _ => ?_, fun a _ => ?_, fun a _ => ?_⟩
      all_goals
        first
        | (have x := P'.1 a
           by_cases c : t ≤ pp i
           · omega
           · have := inn (pq i) (by omega) t (by omega) (by omega)
             omega)
        | (have x := P'.2 a
           have y := P'.1 (by omega)
           by_cases c : t ≤ pp i
           · omega
           · have := inn (pq i) (by omega) t (by omega) (by omega)
             omega)
    · have t4 := t4 h4 (by omega)
      refine ⟨fun a _ => ?_, fun _ b => by omega, fun a _ => ?_, fun _ b => by omega⟩
      · have := P'.1 a; omega
      · have := P'.2 a; omega
  · exact ⟨fun _ b => by omega, fun _ b => by omega, fun _ b => by omega, fun _ b => by omega⟩
end
section
/-! ===== the loop from the whole down to the parts ===== -/
def ys_bn (f : xs_f) (x : Nat) : Bool := decide (f x = 1)
/-- statements from e on have been looked at -/
def ys_DI (p : ys_P) (m : xs_f) (on al is : Nat → Bool) (d : ys_D) (fi : Nat → Bool) (e : Nat) : Prop :=
  (∀ t, t < p.1 → d.1 t ≤ 2 ∧ d.2.1 t ≤ 1 ∧ d.2.2.1 t ≤ 1) ∧
  (∀ t, t < e → (4 ≤ p.2.1 t → d.1 (p.2.2.2.1 t) = 0 ∧ d.2.1 (p.2.2.2.1 t) = 0 ∧ d.2.2.1 (p.2.2.2.1 t) = 0) ∧ (7 ≤ p.2.1 t → d.1 (p.2.2.2.2 t) = 0 ∧ d.2.1 (p.2.2.2.2 t) = 0 ∧ d.2.2.1 (p.2.2.2.2 t) = 0)) ∧
  (∀ t, t < e → fi t = ys_bn d.2.1 t) ∧
  (∀ t, e ≤ t → t < p.1 → td_E p.2.1 p.2.2.2.1 p.2.2.2.2 m on al is d.1 (ys_bn d.2.1) fi (ys_bn d.2.2.1) t)
theorem td_p_le (k : Nat) (is on alp : Bool) {way : Nat} (h : way ≤ 2) : td_p k is on alp way ≤ 2 := by
  unfold td_p
  split
  · omega
  split
  · split <;> omega
  split
  · omega
  split
  · split <;> omega
  split
  · split
    · split <;> omega
    · split <;> omega
  · split <;> omega
theorem td_q_le (k : Nat) (is alp alq : Bool) (cp : Nat) {way : Nat} (h : way ≤ 2) : td_q k is alp alq cp way ≤ 2 := by
  unfold td_q
  split
  · omega
  split
  · split
    · omega
    · split <;> omega
  split
  · split <;> omega
  · split
    · split <;> omega
    · split <;> omega
section
variable {p : ys_P} {o : ys_O} {s : Nat × Nat} {l : xs_f} {j : ys_J} {nm lo : xs_f} {is : Nat → Bool}
/-- one statement: pass, then spread -/
theorem ys_step (his : ∀ i, is i = s.1.testBit (nm i)) (hz : p.1 ≤ 16) (hT : ∀ i, i < p.1 → rt_Nd p.2.1 nm p.2.2.2.1 p.2.2.2.2 lo i) (hN : ∀ i, i < p.1 → ys_N p nm i) (hon : ∀ t, t < 16 → o.2.2.2.2.2.2.2.2.2.2 t ≤ 1) (hl : ∀ t, t < 16 → l t ≤ 1)
    (hm : ∀ t, t < p.1 → j.2.2.1 t ≤ 5 ∧ j.2.2.1 (16 + t) ≤ 5) {i : Nat} (hi : i < p.1) {d : ys_D} {fi : Nat → Bool} (I : ys_DI p j.2.2.1 (ys_on o) (ys_al l) is d fi (i + 1)) :
    ∃ d' fi', ys_DI p j.2.2.1 (ys_on o) (ys_al l) is d' fi' i ∧ (d'.1 (p.1 - 1) = d.1 (p.1 - 1) ∧ d'.2.2.1 (p.1 - 1) = d.2.2.1 (p.1 - 1) ∧ fi' (p.1 - 1) = fi (p.1 - 1)) ∧
      ∀ post : SY → Prop, post (ys p o s l j d') → wpY_pass (fun u => match u with | (f_made, f_depth, f_size, f_begun, f_over, f_ticks, f_present, f_absent, f_any, f_lastPresent, f_lastAbsent, a_sorts, a_numbers, a_firsts, a_seconds, a_stack, a_around, a_on, a_alive, a_mustEmit, a_canEmit, a_mustEnd, a_canEnd, a_done, a_frozen, a_killed, a_after) => wpY_spread post (f_made, f_depth, f_size, f_begun, f_over, f_ticks, f_present, f_absent, f_any, f_lastPresent, f_lastAbsent, a_sorts, a_numbers, a_firsts, a_seconds, a_stack, a_around, a_on, a_alive, a_mustEmit, a_canEmit, a_mustEnd, a_canEnd, a_done, a_frozen, a_killed, a_after) (nI i)) (ys p o s l j d) (nI i) := by
  obtain ⟨dn, fz, kl, af⟩ := d
  obtain ⟨I1, I2, I3, I4⟩ := I
  have I1 : ∀ t, t < p.1 → dn t ≤ 2 ∧ fz t ≤ 1 ∧ kl t ≤ 1 := I1
  have T := hT i hi
  have k9 := T.1
  have P := rt_Nd_p hT hi
  have U : (4 ≤ p.2.1 i → dn (p.2.2.2.1 i) = 0 ∧ fz (p.2.2.2.1 i) = 0 ∧ kl (p.2.2.2.1 i) = 0) ∧ (7 ≤ p.2.1 i → dn (p.2.2.2.2 i) = 0 ∧ fz (p.2.2.2.2 i) = 0 ∧ kl (p.2.2.2.2 i) = 0) := I2 i (by omega)
  have fii : fi i = ys_bn fz i := I3 i (by omega)
  have b := I1 i hi
  obtain ⟨dn', fz1, ⟨a1, a2, a3, a4, a5⟩, KP⟩ := ys_pass (p := p) (o := o) (l := l) (j := j) (dn := dn) (fz := fz) (kl := kl) (af := af) his (by omega) k9 T.2.1 (hN i hi) T.2.2.2.2.1 T.2.2.2.2.2.1 (fun h => (P.1 h).2) (fun h => ⟨(P.2 h).1, (P.2 h).2.1⟩) hon hl b.1 (fun h => hm _ (by have := P.1 h; omega)) (fun h => (U.1 h).1) (fun h => (U.2 h).1)
  have dni : dn' i = dn i := a1 i (fun h => by have := P.1 h; omega) (fun h => by have := P.2 h; omega)
  have fz1i : fz1 i ≤ 1 := by rw [a5]; split <;> omega
  have dnp : 4 ≤ p.2.1 i → dn' (p.2.2.2.1 i) ≤ 2 := fun h => by rw [a2 h]; exact td_p_le _ _ _ _ b.1
  have dnq : 7 ≤ p.2.1 i → dn' (p.2.2.2.2 i) ≤ 2 := fun h => by rw [a3 h]; exact td_q_le _ _ _ _ _ b.1
  obtain ⟨fz', kl', ⟨s1, s2, s3⟩, KS⟩ := ys_spread (p := p) (o := o) (s := s) (l := l) (j := j) (dn := dn') (fz := fz1) (kl := kl) (af := af) (i := i) (by omega) k9 T.2.2.2.2.1 T.2.2.2.2.2.1 (fun h => (P.1 h).2) (fun h => ⟨(P.2 h).1, (P.2 h).2.1⟩) (by omega) dnp (hm i hi) (fun h => hm _ (by have := P.1 h; omega)) fz1i b.2.2
    (fun h => ⟨by rw [a4 _ (by have := P.1 h; omega)]; exact (U.1 h).2.1, (U.1 h).2.2⟩) (fun h => ⟨by rw [a4 _ (by have := P.2 h; omega)]; exact (U.2 h).2.1, (U.2 h).2.2⟩)
  have si := s1 i (fun h => by have := P.1 h; omega) (fun h => by have := P.2 h; omega)
  -- ghosts: what the parts have from above
  refine ⟨(dn', fz', kl', af), fun x => if (4 ≤ p.2.1 i ∧ x = p.2.2.2.1 i) ∨ (7 ≤ p.2.1 i ∧ x = p.2.2.2.2 i) then ys_bn fz' x else fi x, ⟨fun t ht => ?_, fun t ht => ?_, fun t ht => ?_, fun t h1 ht => ?_⟩, ⟨?_, ?_, ?_⟩, fun post H => KP _ (KS post H)⟩
  · show dn' t ≤ 2 ∧ fz' t ≤ 1 ∧ kl' t ≤ 1
    by_cases c1 : 4 ≤ p.2.1 i ∧ t = p.2.2.2.1 i
    · rw [c1.2]
      have x := s2 c1.1
      exact ⟨dnp c1.1, by rw [x.1]; exact fz1i, x.2.1⟩
    by_cases c2 : 7 ≤ p.2.1 i ∧ t = p.2.2.2.2 i
    · rw [c2.2]
      have x := s3 c2.1
      exact ⟨dnq c2.1, by rw [x.1]; exact fz1i, x.2.1⟩
    have y := s1 t (fun h e => c1 ⟨h, e⟩) (fun h e => c2 ⟨h, e⟩)
    have z := I1 t ht
    rw [a1 t (fun h e => c1 ⟨h, e⟩) (fun h e => c2 ⟨h, e⟩), y.1, y.2]
    refine ⟨z.1, ?_, z.2.2⟩
    by_cases e : t = i
    · rw [e]; exact fz1i
    · rw [a4 t e]; exact z.2.1
  · have W := I2 t (by omega)
    have PP := rt_parts hT hi ht
    have P' := rt_Nd_p hT (i := t) (by omega)
    refine ⟨fun h => ?_, fun h => ?_⟩
    · have w := W.1 h
      have n1 : 4 ≤ p.2.1 i → p.2.2.2.1 t ≠ p.2.2.2.1 i := PP.1 h
      have n2 : 7 ≤ p.2.1 i → p.2.2.2.1 t ≠ p.2.2.2.2 i := PP.2.1 h
      have y := s1 _ n1 n2
      show dn' _ = 0 ∧ fz' _ = 0 ∧ kl' _ = 0
      rw [a1 _ n1 n2, y.1, y.2, a4 _ (by have := P'.1 h; omega)]
      exact w
    · have w := W.2 h
      have n1 : 4 ≤ p.2.1 i → p.2.2.2.2 t ≠ p.2.2.2.1 i := PP.2.2.1 h
      have n2 : 7 ≤ p.2.1 i → p.2.2.2.2 t ≠ p.2.2.2.2 i := PP.2.2.2 h
      have y := s1 _ n1 n2
      show dn' _ = 0 ∧ fz' _ = 0 ∧ kl' _ = 0
      rw [a1 _ n1 n2, y.1, y.2, a4 _ (by have := P'.2 h; omega)]
      exact w
  · show (if (4 ≤ p.2.1 i ∧ t = p.2.2.2.1 i) ∨ (7 ≤ p.2.1 i ∧ t = p.2.2.2.2 i) then ys_bn fz' t else fi t) = ys_bn fz' t
    by_cases c : (4 ≤ p.2.1 i ∧ t = p.2.2.2.1 i) ∨ (7 ≤ p.2.1 i ∧ t = p.2.2.2.2 i)
    · rw [if_pos c]
    · rw [if_neg c]
      have y := s1 t (fun h e => c (Or.inl ⟨h, e⟩)) (fun h e => c (Or.inr ⟨h, e⟩))
      rw [I3 t (by omega)]
      unfold ys_bn
      rw [y.1, a4 t (by omega)]
  · by_cases e : t = i
    · subst e
      have ng : ¬ ((4 ≤ p.2.1 t ∧ t = p.2.2.2.1 t) ∨ (7 ≤ p.2.1 t ∧ t = p.2.2.2.2 t)) := by
        intro h
        rcases h with h | h
        · have := P.1 h.1; omega
        · have := P.2 h.1; omega
      have kle : td_k p.2.1 p.2.2.2.1 j.2.2.1 dn' (fun x => decide (kl x = 1)) t = td_k p.2.1 p.2.2.2.1 j.2.2.1 dn' (ys_bn kl') t := by
        unfold td_k ys_bn; dsimp only; rw [si.2]
      refine ⟨?_, fun h => ⟨?_, ?_, ?_⟩, fun h => ⟨?_, ?_, ?_⟩⟩
      · show ys_bn fz' t = ((if _ then ys_bn fz' t else fi t) || (decide (p.2.1 t = 6) && (decide (dn' t = 2) && is t)))
        rw [if_neg ng, fii, dni]
        unfold ys_bn
        rw [si.1, a5]
        by_cases c : p.2.1 t = 6 ∧ dn t = 2 ∧ is t = true
        · rw [if_pos c, c.1, c.2.1, c.2.2]; simp
        · rw [if_neg c]
          by_cases c1 : p.2.1 t = 6
          · by_cases c2 : dn t = 2
            · have c3 : is t = false := Bool.eq_false_iff.mpr (fun q => c ⟨c1, c2, q⟩)
              rw [c3]; simp
            · simp [c2]
          · simp [c1]
      · show dn' (p.2.2.2.1 t) = td_p _ _ _ _ (dn' t)
        rw [a2 h, dni]
      · show (if _ then ys_bn fz' (p.2.2.2.1 t) else fi (p.2.2.2.1 t)) = ys_bn fz' t
        rw [if_pos (Or.inl ⟨h, rfl⟩)]
        unfold ys_bn; rw [(s2 h).1, si.1]
      · show ys_bn kl' (p.2.2.2.1 t) = _
        exact (s2 h).2.2.trans kle
      · show dn' (p.2.2.2.2 t) = td_q _ _ _ _ _ (dn' t)
        rw [a3 h, dni]
      · show (if _ then ys_bn fz' (p.2.2.2.2 t) else fi (p.2.2.2.2 t)) = ys_bn fz' t
        rw [if_pos (Or.inr ⟨h, rfl⟩)]
        unfold ys_bn; rw [(s3 h).1, si.1]
      · show ys_bn kl' (p.2.2.2.2 t) = _
        exact (s3 h).2.2.trans kle
    · have hlt : i < t := by omega
      have PP := rt_parts hT ht hlt
      have P' := rt_Nd_p hT ht
      obtain ⟨e1, e2, e3⟩ := I4 t (by omega) ht
      -- t itself, and its parts, are no parts of i
      have nt : ¬ ((4 ≤ p.2.1 i ∧ t = p.2.2.2.1 i) ∨ (7 ≤ p.2.1 i ∧ t = p.2.2.2.2 i)) := by
        intro h
        rcases h with h | h
        · have := P.1 h.1; omega
        · have := P.2 h.1; omega
      have same : ∀ x, ¬ ((4 ≤ p.2.1 i ∧ x = p.2.2.2.1 i) ∨ (7 ≤ p.2.1 i ∧ x = p.2.2.2.2 i)) → dn' x = dn x ∧ fz' x = fz1 x ∧ kl' x = kl x ∧ (if (4 ≤ p.2.1 i ∧ x = p.2.2.2.1 i) ∨ (7 ≤ p.2.1 i ∧ x = p.2.2.2.2 i) then ys_bn fz' x else fi x) = fi x := fun x hx => by
        have y := s1 x (fun h e => hx (Or.inl ⟨h, e⟩)) (fun h e => hx (Or.inr ⟨h, e⟩))
        exact ⟨a1 x (fun h e => hx (Or.inl ⟨h, e⟩)) (fun h e => hx (Or.inr ⟨h, e⟩)), y.1, y.2, if_neg hx⟩
      have np : 4 ≤ p.2.1 t → ¬ ((4 ≤ p.2.1 i ∧ p.2.2.2.1 t = p.2.2.2.1 i) ∨ (7 ≤ p.2.1 i ∧ p.2.2.2.1 t = p.2.2.2.2 i)) := fun h q => by
        rcases q with q | q
        · exact PP.1 q.1 h q.2.symm
        · exact PP.2.2.1 q.1 h q.2.symm
      have nq : 7 ≤ p.2.1 t → ¬ ((4 ≤ p.2.1 i ∧ p.2.2.2.2 t = p.2.2.2.1 i) ∨ (7 ≤ p.2.1 i ∧ p.2.2.2.2 t = p.2.2.2.2 i)) := fun h q => by
        rcases q with q | q
        · exact PP.2.1 q.1 h q.2.symm
        · exact PP.2.2.2 q.1 h q.2.symm
      have St := same t nt
      have fzt : ys_bn fz' t = ys_bn fz t := by unfold ys_bn; rw [St.2.1, a4 t e]
      have klt : ys_bn kl' t = ys_bn kl t := by unfold ys_bn; rw [St.2.2.1]
      have ct : td_c j.2.2.1 dn' t = td_c j.2.2.1 dn t := by unfold td_c; rw [St.1]
      have cp : 4 ≤ p.2.1 t → td_c j.2.2.1 dn' (p.2.2.2.1 t) = td_c j.2.2.1 dn (p.2.2.2.1 t) := fun h => by unfold td_c; rw [(same _ (np h)).1]
      have tk : 4 ≤ p.2.1 t → td_k p.2.1 p.2.2.2.1 j.2.2.1 dn' (ys_bn kl') t = td_k p.2.1 p.2.2.2.1 j.2.2.1 dn (ys_bn kl) t := fun h => by unfold td_k; rw [klt, ct, cp h]
      refine ⟨?_, fun h => ?_, fun h => ?_⟩
      · show ys_bn fz' t = ((if _ then _ else fi t) || (_ && (decide (dn' t = 2) && is t)))
        rw [St.2.2.2, fzt, St.1]; exact e1
      · have Sp := same _ (np h)
        have x := e2 h
        show dn' (p.2.2.2.1 t) = td_p _ _ _ _ (dn' t) ∧ (if _ then _ else fi (p.2.2.2.1 t)) = ys_bn fz' t ∧ ys_bn kl' (p.2.2.2.1 t) = td_k _ _ _ dn' (ys_bn kl') t
        rw [Sp.1, St.1, Sp.2.2.2, fzt, tk h, show ys_bn kl' (p.2.2.2.1 t) = ys_bn kl (p.2.2.2.1 t) by unfold ys_bn; rw [Sp.2.2.1]]
        exact x
      · have Sq := same _ (nq h)
        have x := e3 h
        show dn' (p.2.2.2.2 t) = td_q _ _ _ _ (td_c _ dn' _) (dn' t) ∧ (if _ then _ else fi (p.2.2.2.2 t)) = ys_bn fz' t ∧ ys_bn kl' (p.2.2.2.2 t) = td_k _ _ _ dn' (ys_bn kl') t
        rw [Sq.1, St.1, Sq.2.2.2, fzt, tk (by omega), cp (by omega), show ys_bn kl' (p.2.2.2.2 t) = ys_bn kl (p.2.2.2.2 t) by unfold ys_bn; rw [Sq.2.2.1]]
        exact x
  · exact a1 _ (fun h => by have := P.1 h; omega) (fun h => by have := P.2 h; omega)
  · exact (s1 _ (fun h => by have := P.1 h; omega) (fun h => by have := P.2 h; omega)).2
  · show (if _ then _ else fi (p.1 - 1)) = _
    rw [if_neg]
    intro h
    rcases h with h | h
    · have := P.1 h.1; omega
    · have := P.2 h.1; omega
def ys_xi (e : Nat) : Int32 := if e = 0 then (-1) else nI (e - 1)
theorem ys_down (his : ∀ i, is i = s.1.testBit (nm i)) (hz : p.1 ≤ 16) (hT : ∀ i, i < p.1 → rt_Nd p.2.1 nm p.2.2.2.1 p.2.2.2.2 lo i) (hN : ∀ i, i < p.1 → ys_N p nm i) (hon : ∀ t, t < 16 → o.2.2.2.2.2.2.2.2.2.2 t ≤ 1) (hl : ∀ t, t < 16 → l t ≤ 1)
    (hm : ∀ t, t < p.1 → j.2.2.1 t ≤ 5 ∧ j.2.2.1 (16 + t) ≤ 5) : ∀ e, e ≤ p.1 → ∀ d fi, ys_DI p j.2.2.1 (ys_on o) (ys_al l) is d fi e → ∃ d' fi', ys_DI p j.2.2.1 (ys_on o) (ys_al l) is d' fi' 0 ∧ (d'.1 (p.1 - 1) = d.1 (p.1 - 1) ∧ d'.2.2.1 (p.1 - 1) = d.2.2.1 (p.1 - 1) ∧ fi' (p.1 - 1) = fi (p.1 - 1)) ∧
      ∀ post : SY → Prop, (∃ n, wY_finish_89 post (nI o.1) (nI o.2.1) (nI p.1) (nI o.2.2.1) (nI o.2.2.2.1) (nI o.2.2.2.2.1) (nI s.1) (nI s.2) (nI o.2.2.2.2.2.1) (nI o.2.2.2.2.2.2.1) (nI o.2.2.2.2.2.2.2.1) n 0 (xs_A p.2.1) p.2.2.1 (xs_A p.2.2.2.1) (xs_A p.2.2.2.2) (xs_A o.2.2.2.2.2.2.2.2.1) (xs_A o.2.2.2.2.2.2.2.2.2.1) (xs_A o.2.2.2.2.2.2.2.2.2.2) (xs_A l) (xs_A j.1) (xs_A j.2.1) (ys_E j.2.2.1) (xs_A j.2.2.2) (xs_A d'.1) (xs_A d'.2.1) (xs_A d'.2.2.1) (xs_A d'.2.2.2)) → wY_finish_67 post (e + 1) (ys_xi e) (nI o.1) (nI o.2.1) (nI p.1) (nI o.2.2.1) (nI o.2.2.2.1) (nI o.2.2.2.2.1) (nI s.1) (nI s.2) (nI o.2.2.2.2.2.1) (nI o.2.2.2.2.2.2.1) (nI o.2.2.2.2.2.2.2.1) (xs_A p.2.1) p.2.2.1 (xs_A p.2.2.2.1) (xs_A p.2.2.2.2) (xs_A o.2.2.2.2.2.2.2.2.1) (xs_A o.2.2.2.2.2.2.2.2.2.1) (xs_A o.2.2.2.2.2.2.2.2.2.2) (xs_A l) (xs_A j.1) (xs_A j.2.1) (ys_E j.2.2.1) (xs_A j.2.2.2) (xs_A d.1) (xs_A d.2.1) (xs_A d.2.2.1) (xs_A d.2.2.2) := by
  intro e
  induction e with
  | zero => intro _ d fi I; exact ⟨d, fi, I, ⟨rfl, rfl, rfl⟩, fun post H => br_t (show ys_xi 0 < 0 by decide) H⟩
  | succ e ih =>
    intro he d fi I
    obtain ⟨d1, f1, I1, R1, K1⟩ := ys_step his hz hT hN hon hl hm (i := e) (by omega) I
    obtain ⟨d2, f2, I2, R2, K2⟩ := ih (by omega) d1 f1 I1
    refine ⟨d2, f2, I2, ⟨R2.1.trans R1.1, R2.2.1.trans R1.2.1, R2.2.2.trans R1.2.2⟩, fun post H => ?_⟩
    have ex : ys_xi (e + 1) = nI e := by unfold ys_xi; rw [if_neg (by omega)]; rfl
    have em : nI e + (-1) = ys_xi e := by
      cases e with
      | zero => decide
      | succ e => unfold ys_xi; rw [if_neg (by omega)]; exact pk_m1 e
    rw [ex]
    exact br_f (nI_pos (by omega)) (K1 _ (nm_r em (K2 post H)))
end
end
section
/-! ===== the reference's finish ===== -/
def ys_of (o : ys_O) (f : xs_f) : ys_O := (o.1, o.2.1, o.2.2.1, o.2.2.2.1, o.2.2.2.2.1, o.2.2.2.2.2.1, o.2.2.2.2.2.2.1, o.2.2.2.2.2.2.2.1, o.2.2.2.2.2.2.2.2.1, o.2.2.2.2.2.2.2.2.2.1, f)
def ys_ob (o : ys_O) : ys_O := (o.1, o.2.1, 1, o.2.2.2.1, o.2.2.2.2.1 + 1, o.2.2.2.2.2)
section
variable {p : ys_P} {o : ys_O} {s : Nat × Nat} {l : xs_f} {j : ys_J} {nm lo : xs_f} {is : Nat → Bool} {dn fz kl : xs_f}
theorem ys_f2_loop (hz : p.1 ≤ 16) : ∀ e i, i + e = p.1 → ∀ d : ys_D, (∀ t, t < i → d.1 t = 0 ∧ d.2.1 t = 0 ∧ d.2.2.1 t = 0) → ∃ d' : ys_D, (∀ t, t < p.1 → d'.1 t = 0 ∧ d'.2.1 t = 0 ∧ d'.2.2.1 t = 0) ∧
    ∀ post : SY → Prop, wY_finish_2 post (nI o.1) (nI o.2.1) (nI p.1) (nI o.2.2.1) (nI o.2.2.2.1) (nI o.2.2.2.2.1) (nI s.1) (nI s.2) (nI o.2.2.2.2.2.1) (nI o.2.2.2.2.2.2.1) (nI o.2.2.2.2.2.2.2.1) 1 (nI p.1) (xs_A p.2.1) p.2.2.1 (xs_A p.2.2.2.1) (xs_A p.2.2.2.2) (xs_A o.2.2.2.2.2.2.2.2.1) (xs_A o.2.2.2.2.2.2.2.2.2.1) (xs_A o.2.2.2.2.2.2.2.2.2.2) (xs_A l) (xs_A j.1) (xs_A j.2.1) (ys_E j.2.2.1) (xs_A j.2.2.2) (xs_A d'.1) (xs_A d'.2.1) (xs_A d'.2.2.1) (xs_A d'.2.2.2) → wY_finish_2 post (nI o.1) (nI o.2.1) (nI p.1) (nI o.2.2.1) (nI o.2.2.2.1) (nI o.2.2.2.2.1) (nI s.1) (nI s.2) (nI o.2.2.2.2.2.1) (nI o.2.2.2.2.2.2.1) (nI o.2.2.2.2.2.2.2.1) (1 + e) (nI i) (xs_A p.2.1) p.2.2.1 (xs_A p.2.2.2.1) (xs_A p.2.2.2.2) (xs_A o.2.2.2.2.2.2.2.2.1) (xs_A o.2.2.2.2.2.2.2.2.2.1) (xs_A o.2.2.2.2.2.2.2.2.2.2) (xs_A l) (xs_A j.1) (xs_A j.2.1) (ys_E j.2.2.1) (xs_A j.2.2.2) (xs_A d.1) (xs_A d.2.1) (xs_A d.2.2.1) (xs_A d.2.2.2) := by
  intro e
  induction e with
  | zero => intro i hi d h; have e : i = p.1 := by omega
            subst e; exact ⟨d, h, fun post H => H⟩
  | succ e ih =>
    intro i hi d h
    have h16 : vp_in (nI i) 16 := vp_in_nI (by omega) (by omega)
    obtain ⟨d', H', K⟩ := ih (i + 1) (by omega) (xs_u d.1 i 0, xs_u d.2.1 i 0, xs_u d.2.2.1 i 0, d.2.2.2) (fun t ht => by
      show xs_u d.1 i 0 t = 0 ∧ xs_u d.2.1 i 0 t = 0 ∧ xs_u d.2.2.1 i 0 t = 0
      by_cases e : t = i
      · rw [e, xs_us, xs_us, xs_us]; exact ⟨rfl, rfl, rfl⟩
      · rw [xs_un e, xs_un e, xs_un e]; exact h t (by omega))
    exact ⟨d', H', fun post H => br_f (nI_ge (by omega) (by omega)) (And.intro h16 (nm_r (ys_pi (x := 0) rfl (by omega) rfl) (And.intro h16 (nm_r (xs_pz (x := 0) rfl (by omega) rfl (by omega)) (And.intro h16 (nm_r (xs_pz (x := 0) rfl (by omega) rfl (by omega)) (nm_r (nI_1 i) (K post H))))))))⟩
theorem toNat_b (c : Bool) : c.toNat < 2 ∧ decide (c.toNat = 1) = c := by cases c <;> exact ⟨by decide, rfl⟩
theorem ys_f192 {i : Nat} (hi : i < 16) (hk : kl i ≤ 1) {af : xs_f} {c : Bool} (hc : af i = c.toNat) : ∃ af', (∀ x, x ≠ i → af' x = af x) ∧ af' i = (c && !ys_bn kl i).toNat ∧
    ∀ (post : SY → Prop) J, J (nI (i + 1)) (xs_A p.2.1) p.2.2.1 (xs_A p.2.2.2.1) (xs_A p.2.2.2.2) (xs_A o.2.2.2.2.2.2.2.2.1) (xs_A o.2.2.2.2.2.2.2.2.2.1) (xs_A o.2.2.2.2.2.2.2.2.2.2) (xs_A l) (xs_A j.1) (xs_A j.2.1) (ys_E j.2.2.1) (xs_A j.2.2.2) (xs_A ((dn, fz, kl, af') : ys_D).1) (xs_A ((dn, fz, kl, af') : ys_D).2.1) (xs_A ((dn, fz, kl, af') : ys_D).2.2.1) (xs_A ((dn, fz, kl, af') : ys_D).2.2.2) → wY_finish_192 post J (nI i) (nI o.1) (nI o.2.1) (nI p.1) (nI o.2.2.1) (nI o.2.2.2.1) (nI o.2.2.2.2.1) (nI s.1) (nI s.2) (nI o.2.2.2.2.2.1) (nI o.2.2.2.2.2.2.1) (nI o.2.2.2.2.2.2.2.1) (xs_A p.2.1) p.2.2.1 (xs_A p.2.2.2.1) (xs_A p.2.2.2.2) (xs_A o.2.2.2.2.2.2.2.2.1) (xs_A o.2.2.2.2.2.2.2.2.2.1) (xs_A o.2.2.2.2.2.2.2.2.2.2) (xs_A l) (xs_A j.1) (xs_A j.2.1) (ys_E j.2.2.1) (xs_A j.2.2.2) (xs_A ((dn, fz, kl, af) : ys_D).1) (xs_A ((dn, fz, kl, af) : ys_D).2.1) (xs_A ((dn, fz, kl, af) : ys_D).2.2.1) (xs_A ((dn, fz, kl, af) : ys_D).2.2.2) := by
  have h16 : vp_in (nI i) 16 := vp_in_nI hi (by omega)
  have i31 : i < 2 ^ 31 := by omega
  by_cases e : kl i = 0
  · refine ⟨af, fun _ _ => rfl, ?_, fun post J H => And.intro h16 (br_t (xs_at' i31 e) (nm_r (nI_1 i) H))⟩
    unfold ys_bn; rw [e, hc]; simp
  · have e1 : kl i = 1 := by omega
    refine ⟨xs_u af i 0, fun x hx => xs_un hx, ?_, fun post J H => And.intro h16 (br_f (by rw [show xs_A kl (nI i).toNatClampNeg = nI 1 from xs_at' i31 e1]; decide) (And.intro h16 (nm_r (xs_pz (x := 0) rfl i31 rfl (by omega)) (nm_r (nI_1 i) H))))⟩
    unfold ys_bn; rw [e1, xs_us]; simp
theorem ys_f153 {i : Nat} (hi : i < 16) (h9 : p.2.1 i ≤ 9) (hp : p.2.2.2.1 i < 16) (hd : dn i ≤ 2) (hdp : dn (p.2.2.2.1 i) ≤ 2) (hm : p.2.1 i = 4 → td_c j.2.2.1 dn (p.2.2.2.1 i) < 6) (hk : kl i ≤ 1) {af : xs_f} {c : Bool} (hc : af i = c.toNat) :
    ∃ af', (∀ x, x ≠ i → af' x = af x) ∧ af' i = ((c || (decide (p.2.1 i = 4) && (decide (0 < dn i) && decide (td_c j.2.2.1 dn (p.2.2.2.1 i) = 0)))) && !ys_bn kl i).toNat ∧
    ∀ (post : SY → Prop) J, J (nI (i + 1)) (xs_A p.2.1) p.2.2.1 (xs_A p.2.2.2.1) (xs_A p.2.2.2.2) (xs_A o.2.2.2.2.2.2.2.2.1) (xs_A o.2.2.2.2.2.2.2.2.2.1) (xs_A o.2.2.2.2.2.2.2.2.2.2) (xs_A l) (xs_A j.1) (xs_A j.2.1) (ys_E j.2.2.1) (xs_A j.2.2.2) (xs_A ((dn, fz, kl, af') : ys_D).1) (xs_A ((dn, fz, kl, af') : ys_D).2.1) (xs_A ((dn, fz, kl, af') : ys_D).2.2.1) (xs_A ((dn, fz, kl, af') : ys_D).2.2.2) → wY_finish_153 post J (nI i) (nI o.1) (nI o.2.1) (nI p.1) (nI o.2.2.1) (nI o.2.2.2.1) (nI o.2.2.2.2.1) (nI s.1) (nI s.2) (nI o.2.2.2.2.2.1) (nI o.2.2.2.2.2.2.1) (nI o.2.2.2.2.2.2.2.1) (xs_A p.2.1) p.2.2.1 (xs_A p.2.2.2.1) (xs_A p.2.2.2.2) (xs_A o.2.2.2.2.2.2.2.2.1) (xs_A o.2.2.2.2.2.2.2.2.2.1) (xs_A o.2.2.2.2.2.2.2.2.2.2) (xs_A l) (xs_A j.1) (xs_A j.2.1) (ys_E j.2.2.1) (xs_A j.2.2.2) (xs_A ((dn, fz, kl, af) : ys_D).1) (xs_A ((dn, fz, kl, af) : ys_D).2.1) (xs_A ((dn, fz, kl, af) : ys_D).2.2.1) (xs_A ((dn, fz, kl, af) : ys_D).2.2.2) := by
  have h16 : vp_in (nI i) 16 := vp_in_nI hi (by omega)
  have h32 : vp_in (nI i) 32 := vp_in_nI (by omega) (by omega)
  have i31 : i < 2 ^ 31 := by omega
  have ek : xs_A p.2.1 (nI i).toNatClampNeg = nI (p.2.1 i) := xs_at i31
  have ed : xs_A dn (nI i).toNatClampNeg = nI (dn i) := xs_at i31
  by_cases e4 : p.2.1 i = 4
  · have e4' : xs_A p.2.1 (nI i).toNatClampNeg = 4 := by rw [ek, e4]; rfl
    by_cases d0 : dn i = 0
    · obtain ⟨af', a1, a2, a3⟩ := ys_f192 (p := p) (o := o) (s := s) (l := l) (j := j) (dn := dn) (fz := fz) (kl := kl) hi hk hc
      refine ⟨af', a1, by rw [a2, d0]; simp, fun post J H => And.intro h32 (br_t e4' (And.intro h16 (br_t ?_ (a3 post J H))))⟩
      rw [show xs_A (dn, fz, kl, af).1 (nI i).toNatClampNeg = _ from ed, d0]; decide
    · have dpos : ¬ xs_A dn (nI i).toNatClampNeg ≤ 0 := by rw [ed]; exact nI_nle (by omega) (by omega)
      have c6 := hm e4
      by_cases c0 : td_c j.2.2.1 dn (p.2.2.2.1 i) = 0
      · obtain ⟨af', a1, a2, a3⟩ := ys_f192 (p := p) (o := o) (s := s) (l := l) (j := j) (dn := dn) (fz := fz) (kl := kl) hi hk (af := xs_u af i 1) (c := true) (xs_us _ _ _)
        refine ⟨af', fun x hx => (a1 x hx).trans (xs_un hx), by rw [a2, e4, c0, decide_eq_true (by omega : 0 < dn i)]; simp, fun post J H => And.intro h32 (br_t e4' (And.intro h16 (br_f dpos (And.intro h32 ?_))))⟩
        rw [show xs_A p.2.2.2.1 (nI i).toNatClampNeg = nI (p.2.2.2.1 i) from xs_at i31]
        refine ys_code (p := p) (o := o) (s := s) (l := l) (j := j) (d := (dn, fz, kl, af)) hp hdp ?_
        exact br_t ((yt_m0 _ c6).mpr c0) (And.intro h16 (nm_r (xs_pz (x := 1) rfl i31 rfl (by omega)) (a3 post J H)))
      · obtain ⟨af', a1, a2, a3⟩ := ys_f192 (p := p) (o := o) (s := s) (l := l) (j := j) (dn := dn) (fz := fz) (kl := kl) hi hk hc
        refine ⟨af', a1, by rw [a2, decide_eq_false c0]; simp, fun post J H => And.intro h32 (br_t e4' (And.intro h16 (br_f dpos (And.intro h32 ?_))))⟩
        rw [show xs_A p.2.2.2.1 (nI i).toNatClampNeg = nI (p.2.2.2.1 i) from xs_at i31]
        refine ys_code (p := p) (o := o) (s := s) (l := l) (j := j) (d := (dn, fz, kl, af)) hp hdp ?_
        exact br_f (fun q => c0 ((yt_m0 _ c6).mp q)) (a3 post J H)
  · obtain ⟨af', a1, a2, a3⟩ := ys_f192 (p := p) (o := o) (s := s) (l := l) (j := j) (dn := dn) (fz := fz) (kl := kl) hi hk hc
    exact ⟨af', a1, by rw [a2, decide_eq_false e4]; simp, fun post J H => And.intro h32 (br_f (by rw [ek]; exact xs_ne 4 rfl (by omega) (by omega) e4) (a3 post J H))⟩
theorem ys_f89_loop (hz : p.1 ≤ 16) (hT : ∀ i, i < p.1 → rt_Nd p.2.1 nm p.2.2.2.1 p.2.2.2.2 lo i) (hon : ∀ t, t < 16 → o.2.2.2.2.2.2.2.2.2.2 t ≤ 1) (hm : ∀ t, t < p.1 → j.2.2.1 t ≤ 5 ∧ j.2.2.1 (16 + t) ≤ 5) (hd : ∀ t, t < p.1 → dn t ≤ 2 ∧ fz t ≤ 1 ∧ kl t ≤ 1) (hd0 : dn 0 ≤ 2) :
    ∀ e i, i + e = p.1 → ∀ af : xs_f, (∀ t, t < i → af t = (td_an p.2.1 p.2.2.2.1 j.2.2.1 dn (ys_on o) (ys_bn fz) (ys_bn kl) t).toNat) → ∃ af', (∀ t, t < p.1 → af' t = (td_an p.2.1 p.2.2.2.1 j.2.2.1 dn (ys_on o) (ys_bn fz) (ys_bn kl) t).toNat) ∧
      ∀ post : SY → Prop, (∃ n, wY_finish_216 post (nI o.1) (nI o.2.1) (nI p.1) (nI o.2.2.1) (nI o.2.2.2.1) (nI o.2.2.2.2.1) (nI s.1) (nI s.2) (nI o.2.2.2.2.2.1) (nI o.2.2.2.2.2.2.1) (nI o.2.2.2.2.2.2.2.1) n 0 (xs_A p.2.1) p.2.2.1 (xs_A p.2.2.2.1) (xs_A p.2.2.2.2) (xs_A o.2.2.2.2.2.2.2.2.1) (xs_A o.2.2.2.2.2.2.2.2.2.1) (xs_A o.2.2.2.2.2.2.2.2.2.2) (xs_A l) (xs_A j.1) (xs_A j.2.1) (ys_E j.2.2.1) (xs_A j.2.2.2) (xs_A ((dn, fz, kl, af') : ys_D).1) (xs_A ((dn, fz, kl, af') : ys_D).2.1) (xs_A ((dn, fz, kl, af') : ys_D).2.2.1) (xs_A ((dn, fz, kl, af') : ys_D).2.2.2)) → wY_finish_89 post (nI o.1) (nI o.2.1) (nI p.1) (nI o.2.2.1) (nI o.2.2.2.1) (nI o.2.2.2.2.1) (nI s.1) (nI s.2) (nI o.2.2.2.2.2.1) (nI o.2.2.2.2.2.2.1) (nI o.2.2.2.2.2.2.2.1) (e + 1) (nI i) (xs_A p.2.1) p.2.2.1 (xs_A p.2.2.2.1) (xs_A p.2.2.2.2) (xs_A o.2.2.2.2.2.2.2.2.1) (xs_A o.2.2.2.2.2.2.2.2.2.1) (xs_A o.2.2.2.2.2.2.2.2.2.2) (xs_A l) (xs_A j.1) (xs_A j.2.1) (ys_E j.2.2.1) (xs_A j.2.2.2) (xs_A ((dn, fz, kl, af) : ys_D).1) (xs_A ((dn, fz, kl, af) : ys_D).2.1) (xs_A ((dn, fz, kl, af) : ys_D).2.2.1) (xs_A ((dn, fz, kl, af) : ys_D).2.2.2) := by
  intro e
  induction e with
  | zero => intro i hi af h; exact ⟨af, fun t ht => h t (by omega), fun post H => br_t (nI_le (by omega) (by omega)) H⟩
  | succ e ih =>
    intro i hi af h
    have T := hT i (by omega)
    have k9 := T.1
    have P := rt_Nd_p hT (i := i) (by omega)
    have h16 : vp_in (nI i) 16 := vp_in_nI (by omega) (by omega)
    have h32 : vp_in (nI i) 32 := vp_in_nI (by omega) (by omega)
    have i31 : i < 2 ^ 31 := by omega
    have b := hd i (by omega)
    have on1 := hon i (by omega)
    have hdp : p.2.1 i = 4 → dn (p.2.2.2.1 i) ≤ 2 := fun h => (hd _ (by have := P.1 (by omega); omega)).1
    have ek : xs_A p.2.1 (nI i).toNatClampNeg = nI (p.2.1 i) := xs_at i31
    -- from the join with c at i
    have key : ∀ c : Bool, c = (ys_on o i && ys_bn fz i) → ∃ af', (∀ t, t < p.1 → af' t = (td_an p.2.1 p.2.2.2.1 j.2.2.1 dn (ys_on o) (ys_bn fz) (ys_bn kl) t).toNat) ∧ ∀ post : SY → Prop, (∃ n, wY_finish_216 post (nI o.1) (nI o.2.1) (nI p.1) (nI o.2.2.1) (nI o.2.2.2.1) (nI o.2.2.2.2.1) (nI s.1) (nI s.2) (nI o.2.2.2.2.2.1) (nI o.2.2.2.2.2.2.1) (nI o.2.2.2.2.2.2.2.1) n 0 (xs_A p.2.1) p.2.2.1 (xs_A p.2.2.2.1) (xs_A p.2.2.2.2) (xs_A o.2.2.2.2.2.2.2.2.1) (xs_A o.2.2.2.2.2.2.2.2.2.1) (xs_A o.2.2.2.2.2.2.2.2.2.2) (xs_A l) (xs_A j.1) (xs_A j.2.1) (ys_E j.2.2.1) (xs_A j.2.2.2) (xs_A ((dn, fz, kl, af') : ys_D).1) (xs_A ((dn, fz, kl, af') : ys_D).2.1) (xs_A ((dn, fz, kl, af') : ys_D).2.2.1) (xs_A ((dn, fz, kl, af') : ys_D).2.2.2)) →
        wY_finish_125 post (wY_finish_89 post (nI o.1) (nI o.2.1) (nI p.1) (nI o.2.2.1) (nI o.2.2.2.1) (nI o.2.2.2.2.1) (nI s.1) (nI s.2) (nI o.2.2.2.2.2.1) (nI o.2.2.2.2.2.2.1) (nI o.2.2.2.2.2.2.2.1) (e + 1)) (nI i) (nI c.toNat) (nI i) (nI o.1) (nI o.2.1) (nI p.1) (nI o.2.2.1) (nI o.2.2.2.1) (nI o.2.2.2.2.1) (nI s.1) (nI s.2) (nI o.2.2.2.2.2.1) (nI o.2.2.2.2.2.2.1) (nI o.2.2.2.2.2.2.2.1) (xs_A p.2.1) p.2.2.1 (xs_A p.2.2.2.1) (xs_A p.2.2.2.2) (xs_A o.2.2.2.2.2.2.2.2.1) (xs_A o.2.2.2.2.2.2.2.2.2.1) (xs_A o.2.2.2.2.2.2.2.2.2.2) (xs_A l) (xs_A j.1) (xs_A j.2.1) (ys_E j.2.2.1) (xs_A j.2.2.2) (xs_A ((dn, fz, kl, af) : ys_D).1) (xs_A ((dn, fz, kl, af) : ys_D).2.1) (xs_A ((dn, fz, kl, af) : ys_D).2.2.1) (xs_A ((dn, fz, kl, af) : ys_D).2.2.2) := by
      intro c hc
      have step : ∀ c2 : Bool, c2 = (c || (decide (p.2.1 i = 1) && decide (dn i = 1))) → ∀ af2 : xs_f, (∀ x, x ≠ i → af2 x = af x) → af2 i = c2.toNat → ∃ af', (∀ t, t < p.1 → af' t = (td_an p.2.1 p.2.2.2.1 j.2.2.1 dn (ys_on o) (ys_bn fz) (ys_bn kl) t).toNat) ∧ ∀ post : SY → Prop, (∃ n, wY_finish_216 post (nI o.1) (nI o.2.1) (nI p.1) (nI o.2.2.1) (nI o.2.2.2.1) (nI o.2.2.2.2.1) (nI s.1) (nI s.2) (nI o.2.2.2.2.2.1) (nI o.2.2.2.2.2.2.1) (nI o.2.2.2.2.2.2.2.1) n 0 (xs_A p.2.1) p.2.2.1 (xs_A p.2.2.2.1) (xs_A p.2.2.2.2) (xs_A o.2.2.2.2.2.2.2.2.1) (xs_A o.2.2.2.2.2.2.2.2.2.1) (xs_A o.2.2.2.2.2.2.2.2.2.2) (xs_A l) (xs_A j.1) (xs_A j.2.1) (ys_E j.2.2.1) (xs_A j.2.2.2) (xs_A ((dn, fz, kl, af') : ys_D).1) (xs_A ((dn, fz, kl, af') : ys_D).2.1) (xs_A ((dn, fz, kl, af') : ys_D).2.2.1) (xs_A ((dn, fz, kl, af') : ys_D).2.2.2)) →
          wY_finish_153 post (wY_finish_89 post (nI o.1) (nI o.2.1) (nI p.1) (nI o.2.2.1) (nI o.2.2.2.1) (nI o.2.2.2.2.1) (nI s.1) (nI s.2) (nI o.2.2.2.2.2.1) (nI o.2.2.2.2.2.2.1) (nI o.2.2.2.2.2.2.2.1) (e + 1)) (nI i) (nI o.1) (nI o.2.1) (nI p.1) (nI o.2.2.1) (nI o.2.2.2.1) (nI o.2.2.2.2.1) (nI s.1) (nI s.2) (nI o.2.2.2.2.2.1) (nI o.2.2.2.2.2.2.1) (nI o.2.2.2.2.2.2.2.1) (xs_A p.2.1) p.2.2.1 (xs_A p.2.2.2.1) (xs_A p.2.2.2.2) (xs_A o.2.2.2.2.2.2.2.2.1) (xs_A o.2.2.2.2.2.2.2.2.2.1) (xs_A o.2.2.2.2.2.2.2.2.2.2) (xs_A l) (xs_A j.1) (xs_A j.2.1) (ys_E j.2.2.1) (xs_A j.2.2.2) (xs_A ((dn, fz, kl, af2) : ys_D).1) (xs_A ((dn, fz, kl, af2) : ys_D).2.1) (xs_A ((dn, fz, kl, af2) : ys_D).2.2.1) (xs_A ((dn, fz, kl, af2) : ys_D).2.2.2) := by
        intro c2 hc2 af2 f1 f2
        have hdp' : dn (p.2.2.2.1 i) ≤ 2 ∨ p.2.1 i ≠ 4 := by
          by_cases e4 : p.2.1 i = 4
          · exact Or.inl (hdp e4)
          · exact Or.inr e4
        have g : ∃ af3, (∀ x, x ≠ i → af3 x = af2 x) ∧ af3 i = ((c2 || (decide (p.2.1 i = 4) && (decide (0 < dn i) && decide (td_c j.2.2.1 dn (p.2.2.2.1 i) = 0)))) && !ys_bn kl i).toNat ∧
            ∀ (post : SY → Prop) J, J (nI (i + 1)) (xs_A p.2.1) p.2.2.1 (xs_A p.2.2.2.1) (xs_A p.2.2.2.2) (xs_A o.2.2.2.2.2.2.2.2.1) (xs_A o.2.2.2.2.2.2.2.2.2.1) (xs_A o.2.2.2.2.2.2.2.2.2.2) (xs_A l) (xs_A j.1) (xs_A j.2.1) (ys_E j.2.2.1) (xs_A j.2.2.2) (xs_A ((dn, fz, kl, af3) : ys_D).1) (xs_A ((dn, fz, kl, af3) : ys_D).2.1) (xs_A ((dn, fz, kl, af3) : ys_D).2.2.1) (xs_A ((dn, fz, kl, af3) : ys_D).2.2.2) → wY_finish_153 post J (nI i) (nI o.1) (nI o.2.1) (nI p.1) (nI o.2.2.1) (nI o.2.2.2.1) (nI o.2.2.2.2.1) (nI s.1) (nI s.2) (nI o.2.2.2.2.2.1) (nI o.2.2.2.2.2.2.1) (nI o.2.2.2.2.2.2.2.1) (xs_A p.2.1) p.2.2.1 (xs_A p.2.2.2.1) (xs_A p.2.2.2.2) (xs_A o.2.2.2.2.2.2.2.2.1) (xs_A o.2.2.2.2.2.2.2.2.2.1) (xs_A o.2.2.2.2.2.2.2.2.2.2) (xs_A l) (xs_A j.1) (xs_A j.2.1) (ys_E j.2.2.1) (xs_A j.2.2.2) (xs_A ((dn, fz, kl, af2) : ys_D).1) (xs_A ((dn, fz, kl, af2) : ys_D).2.1) (xs_A ((dn, fz, kl, af2) : ys_D).2.2.1) (xs_A ((dn, fz, kl, af2) : ys_D).2.2.2) := by
          rcases hdp' with q | q
          · exact ys_f153 (p := p) (o := o) (s := s) (l := l) (j := j) (dn := dn) (fz := fz) (kl := kl) (by omega) k9 T.2.2.2.2.1 b.1 q (fun e4 => by
              have := hm (p.2.2.2.1 i) (by have := P.1 (by omega); omega)
              unfold td_c; split <;> (try split) <;> omega) b.2.2 f2
          · obtain ⟨af3, a1, a2, a3⟩ := ys_f192 (p := p) (o := o) (s := s) (l := l) (j := j) (dn := dn) (fz := fz) (kl := kl) (by omega) b.2.2 f2
            exact ⟨af3, a1, by rw [a2, decide_eq_false q]; simp, fun post J H => And.intro h32 (br_f (by rw [ek]; exact xs_ne 4 rfl (by omega) (by omega) q) (a3 post J H))⟩
        obtain ⟨af3, a1, a2, a3⟩ := g
        obtain ⟨af', b1, b2⟩ := ih (i + 1) (by omega) af3 (fun t ht => by
          by_cases et : t = i
          · rw [et, a2]
            unfold td_an
            rw [hc2, hc, Bool.or_assoc]
          · rw [a1 t et, f1 t et]; exact h t (by omega))
        exact ⟨af', b1, fun post H => a3 post _ (b2 post H)⟩
      by_cases e1 : p.2.1 i = 1
      · have e1' : xs_A p.2.1 (nI i).toNatClampNeg = 1 := by rw [ek, e1]; rfl
        by_cases d1 : dn i = 1
        · obtain ⟨af', b1, b2⟩ := step true (by rw [e1, d1]; simp) (xs_u (xs_u af i c.toNat) i 1) (fun x hx => (xs_un hx).trans (xs_un hx)) (xs_us _ _ _)
          exact ⟨af', b1, fun post H => And.intro h16 (nm_r (xs_pz rfl i31 rfl (toNat_b c).1) (And.intro h32 (br_t e1' (And.intro h16 (br_t (xs_at' i31 d1) (And.intro h16 (nm_r (xs_pz (x := 1) rfl i31 rfl (by omega)) (b2 post H))))))))⟩
        · obtain ⟨af', b1, b2⟩ := step c (by rw [decide_eq_false d1]; simp) (xs_u af i c.toNat) (fun x hx => xs_un hx) (xs_us _ _ _)
          refine ⟨af', b1, fun post H => And.intro h16 (nm_r (xs_pz rfl i31 rfl (toNat_b c).1) (And.intro h32 (br_t e1' (And.intro h16 (br_f ?_ (b2 post H))))))⟩
          rw [show xs_A (dn, fz, kl, xs_u af i c.toNat).1 (nI i).toNatClampNeg = nI (dn i) from xs_at i31]; exact xs_ne 1 rfl (by omega) (by omega) d1
      · obtain ⟨af', b1, b2⟩ := step c (by rw [decide_eq_false e1]; simp) (xs_u af i c.toNat) (fun x hx => xs_un hx) (xs_us _ _ _)
        exact ⟨af', b1, fun post H => And.intro h16 (nm_r (xs_pz rfl i31 rfl (toNat_b c).1) (And.intro h32 (br_f (by rw [ek]; exact xs_ne 1 rfl (by omega) (by omega) e1) (b2 post H))))⟩
    obtain ⟨af', b1, b2⟩ := key _ rfl
    refine ⟨af', b1, fun post H => br_f (nI_ge (by omega) (by omega)) (And.intro h16 ?_)⟩
    have B := b2 post H
    refine ys_b0 i31 on1 (fun f => ?_) (fun f => And.intro h16 (ys_b0 i31 b.2.1 (fun g => ?_) (fun g => ?_)))
    · have : (ys_on o i && ys_bn fz i) = false := by unfold ys_on; rw [f]; rfl
      rw [this] at B; exact B
    · have : (ys_on o i && ys_bn fz i) = false := by unfold ys_bn; rw [g, Bool.and_false]
      rw [this] at B; exact B
    · have : (ys_on o i && ys_bn fz i) = true := by unfold ys_on ys_bn; rw [f, g]; rfl
      rw [this] at B; exact B
theorem ys_f216_loop {d : ys_D} (hz : p.1 ≤ 16) (ha : ∀ t, t < p.1 → d.2.2.2 t ≤ 1) : ∀ e i, i + e = p.1 → ∀ f : xs_f, (∀ t, t < i → f t = d.2.2.2 t) → ∃ f' : xs_f, (∀ t, t < p.1 → f' t = d.2.2.2 t) ∧ (∀ t, p.1 ≤ t → f' t = f t) ∧
    ∀ post : SY → Prop, post (ys p (ys_ob (ys_of o f')) s l j d) → wY_finish_216 post (nI (ys_of o f).1) (nI (ys_of o f).2.1) (nI p.1) (nI (ys_of o f).2.2.1) (nI (ys_of o f).2.2.2.1) (nI (ys_of o f).2.2.2.2.1) (nI s.1) (nI s.2) (nI (ys_of o f).2.2.2.2.2.1) (nI (ys_of o f).2.2.2.2.2.2.1) (nI (ys_of o f).2.2.2.2.2.2.2.1) (e + 1) (nI i) (xs_A p.2.1) p.2.2.1 (xs_A p.2.2.2.1) (xs_A p.2.2.2.2) (xs_A (ys_of o f).2.2.2.2.2.2.2.2.1) (xs_A (ys_of o f).2.2.2.2.2.2.2.2.2.1) (xs_A (ys_of o f).2.2.2.2.2.2.2.2.2.2) (xs_A l) (xs_A j.1) (xs_A j.2.1) (ys_E j.2.2.1) (xs_A j.2.2.2) (xs_A d.1) (xs_A d.2.1) (xs_A d.2.2.1) (xs_A d.2.2.2) := by
  intro e
  induction e with
  | zero => intro i hi f h; exact ⟨f, fun t ht => h t (by omega), fun _ _ => rfl, fun post H => br_t (nI_le (by omega) (by omega)) (nm_r (nI_1 _) H)⟩
  | succ e ih =>
    intro i hi f h
    have h16 : vp_in (nI i) 16 := vp_in_nI (by omega) (by omega)
    have i31 : i < 2 ^ 31 := by omega
    have a := ha i (by omega)
    obtain ⟨f', b1, b2, b3⟩ := ih (i + 1) (by omega) (xs_u f i (d.2.2.2 i)) (fun t ht => by
      by_cases et : t = i
      · rw [et, xs_us]
      · rw [xs_un et]; exact h t (by omega))
    exact ⟨f', b1, fun t ht => (b2 t ht).trans (xs_un (by omega)), fun post H => br_f (nI_ge (by omega) (by omega)) (And.intro h16 (And.intro h16 (nm_r (xs_pz (x := d.2.2.2 i) rfl i31 (xs_at i31) (by omega)) (nm_r (nI_1 i) (b3 post H)))))⟩
/-- finish as a whole -/
theorem ys_finish (his : ∀ i, is i = s.1.testBit (nm i)) (hz1 : 1 ≤ p.1) (hz : p.1 ≤ 16) (hT : ∀ i, i < p.1 → rt_Nd p.2.1 nm p.2.2.2.1 p.2.2.2.2 lo i) (hN : ∀ i, i < p.1 → ys_N p nm i) (hon : ∀ t, t < 16 → o.2.2.2.2.2.2.2.2.2.2 t ≤ 1) (hl : ∀ t, t < 16 → l t ≤ 1)
    (hm : ∀ t, t < p.1 → j.2.2.1 t ≤ 5 ∧ j.2.2.1 (16 + t) ≤ 5) (hb : o.2.2.1 ≤ 1) (d0 : ys_D) :
    ∃ (d : ys_D) (fi : Nat → Bool) (f : xs_f), (∀ t, t < p.1 → td_E p.2.1 p.2.2.2.1 p.2.2.2.2 j.2.2.1 (ys_on o) (ys_al l) is d.1 (ys_bn d.2.1) fi (ys_bn d.2.2.1) t) ∧ (d.1 (p.1 - 1) = (if o.2.2.1 = 0 then 1 else 2) ∧ ys_bn d.2.2.1 (p.1 - 1) = false ∧ fi (p.1 - 1) = false) ∧
      (∀ t, t < p.1 → f t = (td_an p.2.1 p.2.2.2.1 j.2.2.1 d.1 (ys_on o) (ys_bn d.2.1) (ys_bn d.2.2.1) t).toNat) ∧ (∀ t, p.1 ≤ t → f t = o.2.2.2.2.2.2.2.2.2.2 t) ∧
      ∀ post : SY → Prop, post (ys p (ys_ob (ys_of o f)) s l j d) → wpY_finish post (ys p o s l j d0) := by
  obtain ⟨d1, Z, K1⟩ := ys_f2_loop (p := p) (o := o) (s := s) (l := l) (j := j) hz p.1 0 (by omega) d0 (fun t ht => by omega)
  have r16 : vp_in (nI p.1 - 1) 16 := by rw [show nI p.1 - 1 = nI (p.1 - 1) from pk_sub hz1]; exact vp_in_nI (by omega) (by omega)
  have er : nI p.1 - 1 = nI (p.1 - 1) := pk_sub hz1
  have ex : nI p.1 - 1 = ys_xi p.1 := by rw [er]; unfold ys_xi; rw [if_neg (by omega)]
  have key : ∀ way : Nat, way ≤ 2 → ∃ d' fi', ys_DI p j.2.2.1 (ys_on o) (ys_al l) is d' fi' 0 ∧ (d'.1 (p.1 - 1) = way ∧ d'.2.2.1 (p.1 - 1) = 0 ∧ fi' (p.1 - 1) = false) ∧
      ∀ post : SY → Prop, (∃ n, wY_finish_89 post (nI o.1) (nI o.2.1) (nI p.1) (nI o.2.2.1) (nI o.2.2.2.1) (nI o.2.2.2.2.1) (nI s.1) (nI s.2) (nI o.2.2.2.2.2.1) (nI o.2.2.2.2.2.2.1) (nI o.2.2.2.2.2.2.2.1) n 0 (xs_A p.2.1) p.2.2.1 (xs_A p.2.2.2.1) (xs_A p.2.2.2.2) (xs_A o.2.2.2.2.2.2.2.2.1) (xs_A o.2.2.2.2.2.2.2.2.2.1) (xs_A o.2.2.2.2.2.2.2.2.2.2) (xs_A l) (xs_A j.1) (xs_A j.2.1) (ys_E j.2.2.1) (xs_A j.2.2.2) (xs_A d'.1) (xs_A d'.2.1) (xs_A d'.2.2.1) (xs_A d'.2.2.2)) → wY_finish_67 post (p.1 + 1) (ys_xi p.1) (nI o.1) (nI o.2.1) (nI p.1) (nI o.2.2.1) (nI o.2.2.2.1) (nI o.2.2.2.2.1) (nI s.1) (nI s.2) (nI o.2.2.2.2.2.1) (nI o.2.2.2.2.2.2.1) (nI o.2.2.2.2.2.2.2.1) (xs_A p.2.1) p.2.2.1 (xs_A p.2.2.2.1) (xs_A p.2.2.2.2) (xs_A o.2.2.2.2.2.2.2.2.1) (xs_A o.2.2.2.2.2.2.2.2.2.1) (xs_A o.2.2.2.2.2.2.2.2.2.2) (xs_A l) (xs_A j.1) (xs_A j.2.1) (ys_E j.2.2.1) (xs_A j.2.2.2) (xs_A ((xs_u d1.1 (p.1 - 1) way, d1.2) : ys_D).1) (xs_A ((xs_u d1.1 (p.1 - 1) way, d1.2) : ys_D).2.1) (xs_A ((xs_u d1.1 (p.1 - 1) way, d1.2) : ys_D).2.2.1) (xs_A ((xs_u d1.1 (p.1 - 1) way, d1.2) : ys_D).2.2.2) := by
    intro way hw
    obtain ⟨d', fi', D1, D2, D3⟩ := ys_down (p := p) (o := o) (s := s) (l := l) (j := j) his hz hT hN hon hl hm p.1 (Nat.le_refl _) (xs_u d1.1 (p.1 - 1) way, d1.2) (fun _ => false) ⟨fun t ht => by
        have z := Z t ht
        show xs_u d1.1 (p.1 - 1) way t ≤ 2 ∧ d1.2.1 t ≤ 1 ∧ d1.2.2.1 t ≤ 1
        refine ⟨?_, by omega, by omega⟩
        by_cases e : t = p.1 - 1
        · rw [e, xs_us]; exact hw
        · rw [xs_un e]; omega, fun t ht => by
        have P := rt_Nd_p hT ht
        refine ⟨fun h => ?_, fun h => ?_⟩
        · have a := P.1 h
          show xs_u d1.1 (p.1 - 1) way _ = 0 ∧ d1.2.1 _ = 0 ∧ d1.2.2.1 _ = 0
          rw [xs_un (by omega)]; exact Z _ (by omega)
        · have a := P.2 h
          show xs_u d1.1 (p.1 - 1) way _ = 0 ∧ d1.2.1 _ = 0 ∧ d1.2.2.1 _ = 0
          rw [xs_un (by omega)]; exact Z _ (by omega), fun t ht => by
        show false = ys_bn d1.2.1 t
        unfold ys_bn; rw [(Z t ht).2.1]; rfl, fun t h1 h2 => by omega⟩
    exact ⟨d', fi', D1, ⟨D2.1.trans (xs_us _ _ _), D2.2.1.trans (Z _ (by omega)).2.2, D2.2.2⟩, D3⟩
  obtain ⟨d', fi', D1, D2, D3⟩ := key (if o.2.2.1 = 0 then 1 else 2) (by split <;> omega)
  obtain ⟨dn, fz, kl, af⟩ := d'
  obtain ⟨I1, -, -, I4⟩ := D1
  obtain ⟨af', A1, A2⟩ := ys_f89_loop (p := p) (o := o) (s := s) (l := l) (j := j) (nm := nm) (lo := lo) (dn := dn) (fz := fz) (kl := kl) hz hT hon hm I1 (I1 0 (by omega)).1 p.1 0 (by omega) af (fun t ht => by omega)
  obtain ⟨f, F1, F2, F3⟩ := ys_f216_loop (p := p) (o := o) (s := s) (l := l) (j := j) (d := (dn, fz, kl, af')) hz (fun t ht => by
    show af' t ≤ 1
    rw [A1 t ht]; have := (toNat_b (td_an p.2.1 p.2.2.2.1 j.2.2.1 dn (ys_on o) (ys_bn fz) (ys_bn kl) t)).1; omega) p.1 0 (by omega) o.2.2.2.2.2.2.2.2.2.2 (fun t ht => by omega)
  refine ⟨(dn, fz, kl, af'), fi', f, fun t ht => I4 t (by omega) ht, ⟨D2.1, ?_, D2.2.2⟩, fun t ht => (F1 t ht).trans (A1 t ht), F2, fun post H => ?_⟩
  · have : kl (p.1 - 1) = 0 := D2.2.1
    show ys_bn kl (p.1 - 1) = false
    unfold ys_bn; rw [this]; rfl
  · have L := D3 post ⟨p.1 + 1, A2 post ⟨p.1 + 1, F3 post H⟩⟩
    refine ⟨1 + p.1, K1 post (br_t (nI_le (Nat.le_refl _) (by omega)) ?_)⟩
    by_cases e : o.2.2.1 = 0
    · rw [if_pos e] at L
      exact br_t (by show nI o.2.2.1 = 0; rw [e]; rfl) (And.intro r16 (nm_r (ys_pi er (by omega) rfl) (nm_r ex ⟨p.1 + 1, L⟩)))
    · rw [if_neg e] at L
      exact br_f (nI_ne0 (by omega) (by omega)) (And.intro r16 (nm_r (ys_pi er (by omega) rfl) (nm_r ex ⟨p.1 + 1, L⟩)))
end
end
section
/-! ===== outcome, statuses, keep, emitted ===== -/
def xs_oc (v : xs_f) : Nat → Nat → Nat
  | 0, x => x
  | e + 1, x => xs_oc v e (if v (4 + (6 - (e + 1))) = 2 then 2 else x)
theorem xs_oc_k {v : xs_f} : ∀ e x, e ≤ 6 → (∀ n, 6 - e ≤ n → n < 6 → v (4 + n) ≠ 2) → xs_oc v e x = x := by
  intro e
  induction e with
  | zero => intro x _ _; rfl
  | succ e ih =>
    intro x he h
    show xs_oc v e _ = x
    rw [if_neg (h _ (Nat.le_refl _) (by omega)), ih x (by omega) (fun n h1 h2 => h n (by omega) h2)]
theorem xs_oc_2 {v : xs_f} : ∀ e, xs_oc v e 2 = 2 := by
  intro e
  induction e with
  | zero => rfl
  | succ e ih => show xs_oc v e _ = 2; rw [ite_self, ih]
theorem xs_oc_u {v : xs_f} : ∀ e x, e ≤ 6 → (∃ n, 6 - e ≤ n ∧ n < 6 ∧ v (4 + n) = 2) → xs_oc v e x = 2 := by
  intro e
  induction e with
  | zero => intro x _ h; obtain ⟨n, h1, h2, -⟩ := h; omega
  | succ e ih =>
    intro x he h
    obtain ⟨n, h1, h2, h3⟩ := h
    show xs_oc v e _ = 2
    by_cases en : n = 6 - (e + 1)
    · rw [en] at h3; rw [if_pos h3, xs_oc_2]
    · exact ih _ (by omega) ⟨n, by omega, h2, h3⟩
section
variable {o : xs_O} {p : xs_P} {l : xs_L} {g : xs_G} {w : xs_W} {k : xs_K} {v : xs_f}
theorem xs_oc_loop {post : Int32 → Prop} (hv : ∀ n, n < 6 → v (4 + n) ≤ 2) : ∀ e x, e ≤ 6 → post (nI (xs_oc v e x)) → wX_outcome_30 post (nI p.1) (nI (xs_ov o v).1) (nI (xs_ov o v).2.1) (nI g.1) (nI k.1) (nI (xs_ov o v).2.2.1) (nI (xs_ov o v).2.2.2.1) (nI (xs_ov o v).2.2.2.2.1) (nI (xs_ov o v).2.2.2.2.2.1) (xs_A p.2.1) (xs_A p.2.2.1) (xs_A p.2.2.2.1) (xs_A p.2.2.2.2) (xs_A (xs_ov o v).2.2.2.2.2.2.1) (xs_A (xs_ov o v).2.2.2.2.2.2.2.1) (xs_A g.2.1) (xs_A g.2.2.1) (xs_A g.2.2.2.1) (xs_A g.2.2.2.2) (xs_A (xs_ov o v).2.2.2.2.2.2.2.2.1) (xs_A w.1) (xs_A w.2.1) (xs_A w.2.2.1) (xs_A w.2.2.2.1) (xs_A w.2.2.2.2.1) (xs_A l.1) (xs_A l.2) (xs_A w.2.2.2.2.2) (xs_A (xs_ov o v).2.2.2.2.2.2.2.2.2.1) (xs_A k.2.1) (xs_A k.2.2) (xs_A (xs_ov o v).2.2.2.2.2.2.2.2.2.2) (e + 1) (nI x) (nI (6 - e)) := by
  intro e
  induction e with
  | zero => intro x _ H; exact br_t (nI_le (a := 6) (by omega) (by omega)) H
  | succ e ih =>
    intro x he H
    have e4 : (4 : Int32) + nI (6 - (e + 1)) = nI (4 + (6 - (e + 1))) := nI_add 4 _
    have hin : vp_in ((4 : Int32) + nI (6 - (e + 1))) 800 := by rw [e4]; exact vp_in_nI (by omega) (by omega)
    have nx : nI (6 - (e + 1)) + 1 = nI (6 - e) := by rw [nI_1]; exact congrArg nI (by omega)
    have ev : xs_A v ((4 : Int32) + nI (6 - (e + 1))).toNatClampNeg = nI (v (4 + (6 - (e + 1)))) := by rw [e4]; exact xs_at (by omega)
    have H : post (nI (xs_oc v e (if v (4 + (6 - (e + 1))) = 2 then 2 else x))) := H
    refine br_f (nI_ge (b := 6) (by omega) (by omega)) (And.intro hin ?_)
    by_cases c : v (4 + (6 - (e + 1))) = 2
    · rw [if_pos c] at H
      exact br_t (by rw [show xs_A (xs_ov o v).2.2.2.2.2.2.2.2.1 _ = _ from ev, c]; rfl) (nm_r nx (ih 2 (by omega) H))
    · rw [if_neg c] at H
      have := hv (6 - (e + 1)) (by omega)
      exact br_f (by rw [show xs_A (xs_ov o v).2.2.2.2.2.2.2.2.1 _ = _ from ev]; exact xs_ne 2 rfl (by omega) (by omega) c) (nm_r nx (ih x (by omega) H))
theorem xs_outcome {post : Int32 → Prop} (hz1 : 1 ≤ p.1) (hz : p.1 ≤ 16) (hg : g.1 ≤ 800) (g10 : 10 ≤ g.1) (hv : ∀ t, t < g.1 → v t ≤ 2) (hc : w.2.2.2.2.1 (5 * (p.1 - 1) + 0) < g.1) (h : post (nI (xs_oc v 6 (if v (w.2.2.2.2.1 (5 * (p.1 - 1) + 0)) = 1 then 0 else 1)))) :
    wpX_outcome post (xs (xs_ov o v) p l g w k) := by
  have v6 : ∀ n, n < 6 → v (4 + n) ≤ 2 := fun n hn => hv _ (by omega)
  have hv' := hv _ hc
  unfold wpX_outcome
  refine xs_codeOf (o := xs_ov o v) (p := p) (l := l) (g := g) (w := w) (k := k) (x := nI p.1 - 1) (y := 0) (i := p.1 - 1) (c := 0) (pk_sub hz1) rfl (by omega) ?_
  refine And.intro (vp_in_nI (N := 800) (by omega) (by omega)) ?_
  by_cases c : v (w.2.2.2.2.1 (5 * (p.1 - 1) + 0)) = 1
  · rw [if_pos c] at h
    exact br_t (xs_at' (by omega) c) ⟨7, xs_oc_loop v6 6 0 (by omega) h⟩
  · rw [if_neg c] at h
    exact br_f (by rw [show xs_A (xs_ov o v).2.2.2.2.2.2.2.2.1 (nI (w.2.2.2.2.1 (5 * (p.1 - 1) + 0))).toNatClampNeg = nI (v (w.2.2.2.2.1 (5 * (p.1 - 1) + 0))) from xs_at (by omega)]; exact xs_ne 1 rfl (by omega) (by omega) c) ⟨7, xs_oc_loop v6 6 1 (by omega) h⟩
/-- the statuses are kept -/
def xs_os (o : xs_O) (v st : xs_f) : xs_O := (o.1, o.2.1, o.2.2.1, o.2.2.2.1, o.2.2.2.2.1, o.2.2.2.2.2.1, o.2.2.2.2.2.2.1, o.2.2.2.2.2.2.2.1, v, o.2.2.2.2.2.2.2.2.2.1, st)
theorem xs_t22_loop {x2 : Int32} (hv : ∀ n, n < 6 → v (4 + n) ≤ 2) : ∀ e i, i + e = 6 → ∀ st : xs_f, (∀ n, n < i → st n = v (4 + n)) → ∃ st' : xs_f, (∀ n, n < 6 → st' n = v (4 + n)) ∧
    ∀ post : Int32 → SX → Prop, wX_tick_22 post x2 (nI p.1) (nI (xs_os o v st').1) (nI (xs_os o v st').2.1) (nI g.1) (nI k.1) (nI (xs_os o v st').2.2.1) (nI (xs_os o v st').2.2.2.1) (nI (xs_os o v st').2.2.2.2.1) (nI (xs_os o v st').2.2.2.2.2.1) 1 (nI 6) (xs_A p.2.1) (xs_A p.2.2.1) (xs_A p.2.2.2.1) (xs_A p.2.2.2.2) (xs_A (xs_os o v st').2.2.2.2.2.2.1) (xs_A (xs_os o v st').2.2.2.2.2.2.2.1) (xs_A g.2.1) (xs_A g.2.2.1) (xs_A g.2.2.2.1) (xs_A g.2.2.2.2) (xs_A (xs_os o v st').2.2.2.2.2.2.2.2.1) (xs_A w.1) (xs_A w.2.1) (xs_A w.2.2.1) (xs_A w.2.2.2.1) (xs_A w.2.2.2.2.1) (xs_A l.1) (xs_A l.2) (xs_A w.2.2.2.2.2) (xs_A (xs_os o v st').2.2.2.2.2.2.2.2.2.1) (xs_A k.2.1) (xs_A k.2.2) (xs_A (xs_os o v st').2.2.2.2.2.2.2.2.2.2) → wX_tick_22 post x2 (nI p.1) (nI (xs_os o v st).1) (nI (xs_os o v st).2.1) (nI g.1) (nI k.1) (nI (xs_os o v st).2.2.1) (nI (xs_os o v st).2.2.2.1) (nI (xs_os o v st).2.2.2.2.1) (nI (xs_os o v st).2.2.2.2.2.1) (1 + e) (nI i) (xs_A p.2.1) (xs_A p.2.2.1) (xs_A p.2.2.2.1) (xs_A p.2.2.2.2) (xs_A (xs_os o v st).2.2.2.2.2.2.1) (xs_A (xs_os o v st).2.2.2.2.2.2.2.1) (xs_A g.2.1) (xs_A g.2.2.1) (xs_A g.2.2.2.1) (xs_A g.2.2.2.2) (xs_A (xs_os o v st).2.2.2.2.2.2.2.2.1) (xs_A w.1) (xs_A w.2.1) (xs_A w.2.2.1) (xs_A w.2.2.2.1) (xs_A w.2.2.2.2.1) (xs_A l.1) (xs_A l.2) (xs_A w.2.2.2.2.2) (xs_A (xs_os o v st).2.2.2.2.2.2.2.2.2.1) (xs_A k.2.1) (xs_A k.2.2) (xs_A (xs_os o v st).2.2.2.2.2.2.2.2.2.2) := by
  intro e
  induction e with
  | zero => intro i hi st h; have e : i = 6 := by omega
            subst e; exact ⟨st, h, fun post H => H⟩
  | succ e ih =>
    intro i hi st h
    have e4 : (4 : Int32) + nI i = nI (4 + i) := nI_add 4 i
    have hin : vp_in ((4 : Int32) + nI i) 800 := by rw [e4]; exact vp_in_nI (by omega) (by omega)
    have i6 : vp_in (nI i) 6 := vp_in_nI (by omega) (by omega)
    have := hv i (by omega)
    obtain ⟨st', H', K⟩ := ih (i + 1) (by omega) (xs_u st i (v (4 + i))) (fun n hn => by
      by_cases en : n = i
      · rw [en, xs_us]
      · rw [xs_un en]; exact h n (by omega))
    exact ⟨st', H', fun post H => br_f (nI_ge (b := 6) (by omega) (by omega)) (And.intro hin (And.intro i6 (nm_r (xs_pb' (x := v (4 + i)) rfl (by omega) (by rw [e4]; exact xs_at (by omega)) (by omega)) (nm_r (nI_1 i) (K post H)))))⟩
/-- behind an instant: registers, begun, over, count -/
def xs_oe (o : xs_O) (f : xs_f) (b ov ct : Nat) : xs_O := (o.1, o.2.1, b, ov, o.2.2.2.2.1, ct, o.2.2.2.2.2.2.1, o.2.2.2.2.2.2.2.1, o.2.2.2.2.2.2.2.2.1, f, o.2.2.2.2.2.2.2.2.2.2)
theorem xs_k2_loop {res : Nat} (hr : res ≤ 2) (hz : p.1 ≤ 16) (hg : g.1 ≤ 800) (hR : ∀ j, j < p.1 → xs_Rg p g l j) (hB : ∀ j, j < p.1 → p.2.1 j = 1 ∨ p.2.1 j = 4 → w.2.2.2.2.2 j < g.1) (hv : ∀ t, t < g.1 → o.2.2.2.2.2.2.2.2.1 t ≤ 2) : ∀ e i, i + e = p.1 → ∀ f : xs_f,
    (∀ t, t < i → p.2.1 t = 1 ∨ p.2.1 t = 4 → f t = if o.2.2.2.2.2.2.2.2.1 (w.2.2.2.2.2 t) = 1 then 1 else 0) → ∃ f' : xs_f, (∀ t, t < p.1 → p.2.1 t = 1 ∨ p.2.1 t = 4 → f' t = if o.2.2.2.2.2.2.2.2.1 (w.2.2.2.2.2 t) = 1 then 1 else 0) ∧ (∀ t, ¬ (i ≤ t ∧ t < p.1 ∧ (p.2.1 t = 1 ∨ p.2.1 t = 4)) → f' t = f t) ∧
    ∀ post : SX → Prop, post (xs (xs_oe o f' 1 (if res = 0 then 1 else 0) (o.2.2.2.2.2.1 + 1)) p l g w k) → wX_keep_2 post (nI res) (nI p.1) (nI (xs_oe o f o.2.2.1 o.2.2.2.1 o.2.2.2.2.2.1).1) (nI (xs_oe o f o.2.2.1 o.2.2.2.1 o.2.2.2.2.2.1).2.1) (nI g.1) (nI k.1) (nI (xs_oe o f o.2.2.1 o.2.2.2.1 o.2.2.2.2.2.1).2.2.1) (nI (xs_oe o f o.2.2.1 o.2.2.2.1 o.2.2.2.2.2.1).2.2.2.1) (nI (xs_oe o f o.2.2.1 o.2.2.2.1 o.2.2.2.2.2.1).2.2.2.2.1) (nI (xs_oe o f o.2.2.1 o.2.2.2.1 o.2.2.2.2.2.1).2.2.2.2.2.1) (e + 1) (nI i) (xs_A p.2.1) (xs_A p.2.2.1) (xs_A p.2.2.2.1) (xs_A p.2.2.2.2) (xs_A (xs_oe o f o.2.2.1 o.2.2.2.1 o.2.2.2.2.2.1).2.2.2.2.2.2.1) (xs_A (xs_oe o f o.2.2.1 o.2.2.2.1 o.2.2.2.2.2.1).2.2.2.2.2.2.2.1) (xs_A g.2.1) (xs_A g.2.2.1) (xs_A g.2.2.2.1) (xs_A g.2.2.2.2) (xs_A (xs_oe o f o.2.2.1 o.2.2.2.1 o.2.2.2.2.2.1).2.2.2.2.2.2.2.2.1) (xs_A w.1) (xs_A w.2.1) (xs_A w.2.2.1) (xs_A w.2.2.2.1) (xs_A w.2.2.2.2.1) (xs_A l.1) (xs_A l.2) (xs_A w.2.2.2.2.2) (xs_A (xs_oe o f o.2.2.1 o.2.2.2.1 o.2.2.2.2.2.1).2.2.2.2.2.2.2.2.2.1) (xs_A k.2.1) (xs_A k.2.2) (xs_A (xs_oe o f o.2.2.1 o.2.2.2.1 o.2.2.2.2.2.1).2.2.2.2.2.2.2.2.2.2) := by
  intro e
  induction e with
  | zero =>
    intro i hi f h
    refine ⟨f, fun t ht => h t (by omega), fun _ _ => rfl, fun post H => br_t (nI_le (by omega) (by omega)) ?_⟩
    by_cases c : res = 0
    · rw [if_pos c] at H
      exact br_t (by rw [c]; rfl) (And.intro rfl (And.intro rfl (nm_r (nI_1 _) H)))
    · rw [if_neg c] at H
      exact br_f (xs_ne 0 rfl (by omega) (by omega) c) (And.intro rfl (And.intro rfl (nm_r (nI_1 _) H)))
  | succ e ih =>
    intro i hi f h
    obtain ⟨r1, r2, r3, r4⟩ := hR i (by omega)
    have h16 : vp_in (nI i) 16 := vp_in_nI (by omega) (by omega)
    have i31 : i < 2 ^ 31 := by omega
    have le : ¬ nI p.1 ≤ nI i := nI_ge (by omega) (by omega)
    by_cases hk : p.2.1 i = 1 ∨ p.2.1 i = 4
    · obtain ⟨q1, q2, q3⟩ := r3 hk
      have er : xs_A l.2 (nI i).toNatClampNeg = nI (l.2 i) := xs_at i31
      have rne : ¬ xs_A l.2 (nI i).toNatClampNeg = 0 := by rw [er]; exact nI_ne0 (by omega) (by omega)
      have wb := hB i (by omega) hk
      have ew : xs_A w.2.2.2.2.2 (nI i).toNatClampNeg = nI (w.2.2.2.2.2 i) := xs_at i31
      have win : vp_in (xs_A w.2.2.2.2.2 (nI i).toNatClampNeg) 800 := by rw [ew]; exact vp_in_nI (by omega) (by omega)
      have vw := hv _ wb
      have evw : xs_A o.2.2.2.2.2.2.2.2.1 (xs_A w.2.2.2.2.2 (nI i).toNatClampNeg).toNatClampNeg = nI (o.2.2.2.2.2.2.2.2.1 (w.2.2.2.2.2 i)) := by rw [ew]; exact xs_at (by omega)
      obtain ⟨f', a1, a2, a3⟩ := ih (i + 1) (by omega) (xs_u f i (if o.2.2.2.2.2.2.2.2.1 (w.2.2.2.2.2 i) = 1 then 1 else 0)) (fun t ht hkt => by
        by_cases et : t = i
        · rw [et, xs_us]
        · rw [xs_un et]; exact h t (by omega) hkt)
      refine ⟨f', a1, fun t ht => (a2 t (by omega)).trans (xs_un (fun et => ht ⟨by omega, by omega, by rw [et]; exact hk⟩)), fun post H => br_f le (And.intro h16 (br_f rne (And.intro h16 (And.intro win ?_))))⟩
      have a3 := a3 post H
      by_cases c : o.2.2.2.2.2.2.2.2.1 (w.2.2.2.2.2 i) = 1
      · rw [if_pos c] at a3
        exact br_t (by rw [show xs_A (xs_oe o f o.2.2.1 o.2.2.2.1 o.2.2.2.2.2.1).2.2.2.2.2.2.2.2.1 _ = _ from evw, c]; rfl) (And.intro h16 (nm_r (xs_pz (x := 1) rfl i31 rfl (by omega)) (nm_r (nI_1 i) a3)))
      · rw [if_neg c] at a3
        exact br_f (by rw [show xs_A (xs_oe o f o.2.2.1 o.2.2.2.1 o.2.2.2.2.2.1).2.2.2.2.2.2.2.2.1 _ = _ from evw]; exact xs_ne 1 rfl (by omega) (by omega) c) (And.intro h16 (nm_r (xs_pz (x := 0) rfl i31 rfl (by omega)) (nm_r (nI_1 i) a3)))
    · obtain ⟨f', a1, a2, a3⟩ := ih (i + 1) (by omega) f (fun t ht hkt => h t (by
        by_cases et : t = i
        · rw [et] at hkt; exact absurd hkt hk
        · omega) hkt)
      exact ⟨f', a1, fun t ht => a2 t (by omega), fun post H => br_f le (And.intro h16 (br_t (xs_at' i31 (r4 (by omega) (by omega))) (nm_r (nI_1 i) (a3 post H))))⟩
/-- the signals of a set that X gathers: present, and no input -/
def xs_em (v : xs_f) (inb : Nat → Bool) : Nat → Nat → Nat
  | 0, acc => acc
  | e + 1, acc => xs_em v inb e (if v (4 + (6 - (e + 1))) = 1 ∧ inb (6 - (e + 1)) = false then acc ||| 1 <<< (6 - (e + 1)) else acc)
theorem xs_em_loop {post : Int32 → SX → Prop} {x1 : Int32} (hv : ∀ n, n < 6 → v (4 + n) ≤ 2) : ∀ e acc, e ≤ 6 → post (nI (xs_em v (bt x1) e acc)) (xs (xs_ov o v) p l g w k) → wX_emitted_19 post x1 (nI p.1) (nI (xs_ov o v).1) (nI (xs_ov o v).2.1) (nI g.1) (nI k.1) (nI (xs_ov o v).2.2.1) (nI (xs_ov o v).2.2.2.1) (nI (xs_ov o v).2.2.2.2.1) (nI (xs_ov o v).2.2.2.2.2.1) (xs_A p.2.1) (xs_A p.2.2.1) (xs_A p.2.2.2.1) (xs_A p.2.2.2.2) (xs_A (xs_ov o v).2.2.2.2.2.2.1) (xs_A (xs_ov o v).2.2.2.2.2.2.2.1) (xs_A g.2.1) (xs_A g.2.2.1) (xs_A g.2.2.2.1) (xs_A g.2.2.2.2) (xs_A (xs_ov o v).2.2.2.2.2.2.2.2.1) (xs_A w.1) (xs_A w.2.1) (xs_A w.2.2.1) (xs_A w.2.2.2.1) (xs_A w.2.2.2.2.1) (xs_A l.1) (xs_A l.2) (xs_A w.2.2.2.2.2) (xs_A (xs_ov o v).2.2.2.2.2.2.2.2.2.1) (xs_A k.2.1) (xs_A k.2.2) (xs_A (xs_ov o v).2.2.2.2.2.2.2.2.2.2) (e + 1) (nI acc) (nI (6 - e)) := by
  intro e
  induction e with
  | zero => intro acc _ H; exact br_t (nI_le (a := 6) (by omega) (by omega)) H
  | succ e ih =>
    intro acc he H
    have e4 : (4 : Int32) + nI (6 - (e + 1)) = nI (4 + (6 - (e + 1))) := nI_add 4 _
    have hin : vp_in ((4 : Int32) + nI (6 - (e + 1))) 800 := by rw [e4]; exact vp_in_nI (by omega) (by omega)
    have nx : nI (6 - (e + 1)) + 1 = nI (6 - e) := by rw [nI_1]; exact congrArg nI (by omega)
    have ev : xs_A v ((4 : Int32) + nI (6 - (e + 1))).toNatClampNeg = nI (v (4 + (6 - (e + 1)))) := by rw [e4]; exact xs_at (by omega)
    have := hv (6 - (e + 1)) (by omega)
    have H : post (nI (xs_em v (bt x1) e (if v (4 + (6 - (e + 1))) = 1 ∧ bt x1 (6 - (e + 1)) = false then acc ||| 1 <<< (6 - (e + 1)) else acc))) (xs (xs_ov o v) p l g w k) := H
    have b0 : ((x1 >>> (nI (6 - (e + 1)) &&& 31)) &&& 1) = 0 ↔ bt x1 (6 - (e + 1)) = false := by
      have t := bt_1 x1 (s := 6 - (e + 1)) (by omega)
      have z : ((x1 >>> (nI (6 - (e + 1)) &&& 31)) &&& 1) = 0 ∨ ((x1 >>> (nI (6 - (e + 1)) &&& 31)) &&& 1) = 1 := by
        rw [pk_and _ 1 (by decide)]
        have : (x1 >>> (nI (6 - (e + 1)) &&& 31)).toBitVec.toNat % 2 ^ 1 = 0 ∨ (x1 >>> (nI (6 - (e + 1)) &&& 31)).toBitVec.toNat % 2 ^ 1 = 1 := by omega
        rcases this with h | h
        · rw [h]; exact Or.inl rfl
        · rw [h]; exact Or.inr rfl
      constructor
      · intro h
        rw [Bool.eq_false_iff]
        intro h'
        rw [t.mpr h'] at h
        exact absurd h (by decide)
      · intro h
        rcases z with z | z
        · exact z
        · rw [t.mp z] at h; exact absurd h (by decide)
    refine br_f (nI_ge (b := 6) (by omega) (by omega)) (And.intro hin ?_)
    by_cases c : v (4 + (6 - (e + 1))) = 1
    · refine br_t (by rw [show xs_A (xs_ov o v).2.2.2.2.2.2.2.2.1 _ = _ from ev, c]; rfl) ?_
      by_cases c2 : bt x1 (6 - (e + 1)) = false
      · rw [if_pos ⟨c, c2⟩] at H
        refine br_t (b0.mpr c2) (br_f (by decide) (nm_r ?_ (nm_r nx (ih _ (by omega) H))))
        rw [yt_sh1 _ (by omega)]; exact nx_or _ _
      · rw [if_neg (fun q => c2 q.2)] at H
        exact br_f (fun q => c2 (b0.mp q)) (br_t rfl (nm_r nx (ih _ (by omega) H)))
    · rw [if_neg (fun q => c q.1)] at H
      exact br_f (by rw [show xs_A (xs_ov o v).2.2.2.2.2.2.2.2.1 _ = _ from ev]; exact xs_ne 1 rfl (by omega) (by omega) c) (br_t rfl (nm_r nx (ih _ (by omega) H)))
end
section
variable {p : ys_P} {o : ys_O} {s : Nat × Nat} {l : xs_f} {j : ys_J} {d : ys_D}
theorem ys_outcome {post : Int32 → Prop} {r : Nat} (hr : r < 32) (hm : j.2.2.1 r ≤ 5) (h1 : s.1 < 64) (h2 : s.2 < 64) (h : post (nI (if s.1 ||| s.2 = 63 then (if j.2.2.1 r = 0 then 0 else 1) else 2))) : wpY_outcome post (ys p o s l j d) (nI r) := by
  have eo : nI s.1 ||| nI s.2 = nI (s.1 ||| s.2) := nx_or _ _
  have lt := nx_orlt (n := 6) h1 h2
  by_cases c : s.1 ||| s.2 = 63
  · rw [if_pos c] at h
    refine br_t (by rw [show nI s.1 ||| nI s.2 = _ from eo, c]; rfl) (And.intro (vp_in_nI hr (by omega)) ?_)
    by_cases c0 : j.2.2.1 r = 0
    · rw [if_pos c0] at h
      exact br_t (by rw [show ys_E j.2.2.1 _ = _ from ys_atE (by omega)]; exact (yt_m0 _ (by omega)).mpr c0) h
    · rw [if_neg c0] at h
      exact br_f (by rw [show ys_E j.2.2.1 _ = _ from ys_atE (by omega)]; exact fun q => c0 ((yt_m0 _ (by omega)).mp q)) h
  · rw [if_neg c] at h
    exact br_f (by rw [show nI s.1 ||| nI s.2 = _ from eo]; exact xs_ne 63 rfl (by omega) (by omega) c) h
end
end
section
/-! ===== the relation ===== -/
def zz_Pr (p : xs_P) (nb : Nat → Int32) (l : xs_L) (g : xs_G) (w : xs_W) : Prop := 1 ≤ p.1 ∧ p.1 ≤ 16 ∧ ∃ lo ar : xs_f, (∀ i, i < p.1 → rt_Nd p.2.1 p.2.2.1 p.2.2.2.1 p.2.2.2.2 lo i) ∧ lo (p.1 - 1) = 0 ∧
  (∀ i, i < p.1 → td_Ar p.2.1 p.2.2.1 p.2.2.2.1 p.2.2.2.2 ar i) ∧ ar (p.1 - 1) = 0 ∧ xs_Circ p lo l g w ∧ (∀ i, i < p.1 → ys_N (p.1, p.2.1, nb, p.2.2.2.1, p.2.2.2.2) p.2.2.1 i)
/-- registers f, begun b, over v -/
def zz_On (p : xs_P) (f : xs_f) (b v : Nat) : Prop := (∀ t, t < 16 → f t ≤ 1) ∧ b ≤ 1 ∧ v ≤ 1 ∧ (v = 0 → ∀ al, (∀ i, i < p.1 → rt_Al p.2.1 p.2.2.2.1 p.2.2.2.2 (fun x => decide (f x = 1)) al i) →
  (∀ i, i < p.1 → rt_Wf p.2.1 p.2.2.2.1 p.2.2.2.2 (fun x => decide (f x = 1)) al i) ∧ al (p.1 - 1) = decide (b = 1))
/-- statements that are being made: m of them, the stack's height h -/
def zz_Mk (p : xs_P) (nb : Nat → Int32) (m h : Nat) (st : xs_f) : Prop := m ≤ 16 ∧ h ≤ m ∧ (0 < m → 0 < h) ∧ ∃ lo : xs_f,
  (∀ i, i < m → rt_Nd (fun i => p.2.1 (16 + i)) (fun i => p.2.2.1 (16 + i)) (fun i => p.2.2.2.1 (16 + i)) (fun i => p.2.2.2.2 (16 + i)) lo i) ∧
  (∀ i, i < m → p.2.1 (16 + i) = 2 ∨ p.2.1 (16 + i) = 3 ∨ p.2.1 (16 + i) = 6 ∨ p.2.1 (16 + i) = 9 → nb (16 + i) = nI (p.2.2.1 (16 + i))) ∧
  (∀ a, a < h → st a < m) ∧ (0 < h → st (h - 1) = m - 1 ∧ lo (st 0) = 0) ∧ (∀ a, a + 1 < h → st a + 1 = lo (st (a + 1)))
/-- the last statuses: x, p, a -/
def zz_St (t : Nat) (x : xs_f) (s : Nat × Nat) : Prop := t ≤ 1 ∧ (t = 1 → s.1 < 64 ∧ s.2 < 64 ∧ ∀ n, n < 6 → x n ≤ 2 ∧ rv_of (x n) = ys_S s n)
def zz_Eq (o : xs_O) (oy : ys_O) : Prop := oy.1 = o.1 ∧ oy.2.1 = o.2.1 ∧ oy.2.2.1 = o.2.2.1 ∧ oy.2.2.2.1 = o.2.2.2.1 ∧ oy.2.2.2.2.1 = o.2.2.2.2.2.1 ∧ oy.2.2.2.2.2.1 = o.2.2.2.2.1 ∧ oy.2.2.2.2.2.2.2.2.1 = o.2.2.2.2.2.2.1 ∧ oy.2.2.2.2.2.2.2.2.2.2 = o.2.2.2.2.2.2.2.2.2.1
def i_Rel (_ : Nat) (u : SX) (v : SY) : Prop := ∃ (o : xs_O) (p : xs_P) (l : xs_L) (g : xs_G) (w : xs_W) (k : xs_K) (oy : ys_O) (nb : Nat → Int32) (s : Nat × Nat) (l0 : xs_f) (j : ys_J) (d : ys_D),
  u = xs o p l g w k ∧ v = ys (p.1, p.2.1, nb, p.2.2.2.1, p.2.2.2.2) oy s l0 j d ∧ zz_Pr p nb l g w ∧ zz_On p o.2.2.2.2.2.2.2.2.2.1 o.2.2.1 o.2.2.2.1 ∧ zz_Mk p nb o.1 o.2.1 o.2.2.2.2.2.2.1 ∧
  zz_St o.2.2.2.2.1 o.2.2.2.2.2.2.2.2.2.2 (oy.2.2.2.2.2.2.1, oy.2.2.2.2.2.2.2.1) ∧ zz_Eq o oy ∧ (∀ t, t < 16 → l0 t ≤ 1)
/-! ===== an instant, for both ===== -/
theorem rv_of_eq1 (v : Nat) : (rv_of v).1 = decide (v = 1) := rfl
theorem zz_63 {s : Nat × Nat} (h1 : s.1 < 64) (h2 : s.2 < 64) : s.1 ||| s.2 = 63 ↔ ∀ n, n < 6 → ¬ (s.1.testBit n = false ∧ s.2.testBit n = false) := by
  have lt := nx_orlt (n := 6) h1 h2
  constructor
  · intro h n hn e
    have a : (s.1 ||| s.2).testBit n = true := by rw [h]; exact (yt_63 n hn).1
    rw [Nat.testBit_or, e.1, e.2] at a
    exact absurd a (by decide)
  · intro h
    refine Nat.eq_of_testBit_eq fun n => ?_
    by_cases hn : n < 6
    · rw [(yt_63 n hn).1, Nat.testBit_or]
      have := h n hn
      cases e1 : s.1.testBit n
      · cases e2 : s.2.testBit n
        · exact absurd ⟨e1, e2⟩ this
        · rfl
      · rfl
    · have a : (2 : Nat) ^ 6 ≤ 2 ^ n := Nat.pow_le_pow_right (by omega) (by omega)
      rw [Nat.testBit_lt_two_pow (by omega : s.1 ||| s.2 < 2 ^ n), Nat.testBit_lt_two_pow (by omega : 63 < 2 ^ n)]
section
variable {p : xs_P} {lo ar : xs_f} {l : xs_L} {g : xs_G} {w : xs_W} {v : xs_f} {s : Nat × Nat} {oy : ys_O} {bg : Bool} {l1 : xs_f} {j : ys_J} {nb : Nat → Int32}
/-- the outcome is the same -/
theorem zz_outc (hz1 : 1 ≤ p.1) (hT : ∀ i, i < p.1 → rt_Nd p.2.1 p.2.2.1 p.2.2.2.1 p.2.2.2.2 lo i) (X : xs_Circ p lo l g w) (hv : ∀ t, t < g.1 → v t ≤ 2) (F : gq_full g (xs_src g bg (ys_on oy) (ys_S s)) (fun t => rv_of (v t))) (hs : ∀ n, n < 6 → rv_of (v (4 + n)) = ys_S s n) (h1 : s.1 < 64) (h2 : s.2 < 64)
    (hal : ∀ t, t < p.1 → rt_Al p.2.1 p.2.2.2.1 p.2.2.2.2 (ys_on oy) (ys_al l1) t) (hwf : ∀ i, i < p.1 → rt_Wf p.2.1 p.2.2.2.1 p.2.2.2.2 (ys_on oy) (ys_al l1) i) (hb : ys_al l1 (p.1 - 1) = bg)
    (I : ys_I (p.1, p.2.1, nb, p.2.2.2.1, p.2.2.2.2) p.2.2.1 (ys_on oy) (ys_al l1) (ys_S s) j p.1) {r : Nat} (hr : r = if bg = false then p.1 - 1 else 16 + (p.1 - 1)) :
    xs_oc v 6 (if v (w.2.2.2.2.1 (5 * (p.1 - 1) + 0)) = 1 then 0 else 1) = if s.1 ||| s.2 = 63 then (if j.2.2.1 r = 0 then 0 else 1) else 2 := by
  have g10 := X.1.1
  have u2 : ∀ n, n < 6 → (v (4 + n) = 2 ↔ (s.1.testBit n = false ∧ s.2.testBit n = false)) := fun n hn => by
    have a := hs n hn
    have b := hv (4 + n) (by omega)
    constructor
    · intro e
      rw [e] at a
      exact ⟨(congrArg Prod.fst a).symm, (congrArg Prod.snd a).symm⟩
    · intro e
      exact rv_of_le_2 b _ (by unfold ys_S; rw [e.1, e.2]) a
  have c0 := (sp_rt hz1 hT X F hal hwf (fun i hi => (I i hi).2.2) hb hr).1 0 (by omega)
  have c0' := congrArg Prod.fst c0
  have c1 : decide (v (w.2.2.2.2.1 (5 * (p.1 - 1) + 0)) = 1) = decide (j.2.2.1 r = 0) := c0'
  rw [decide_eq_decide] at c1
  by_cases c : s.1 ||| s.2 = 63
  · rw [if_pos c, xs_oc_k 6 _ (by omega) (fun n _ hn e => (zz_63 h1 h2).mp c n hn ((u2 n hn).mp e))]
    by_cases e : j.2.2.1 r = 0
    · rw [if_pos e, if_pos (c1.mpr e)]
    · rw [if_neg e, if_neg (fun q => e (c1.mp q))]
  · rw [if_neg c]
    refine xs_oc_u 6 _ (by omega) ?_
    refine Classical.byContradiction fun hn => c ((zz_63 h1 h2).mpr fun n hn' e => hn ⟨n, by omega, hn', (u2 n hn').mpr e⟩)
/-- the registers behind it are the same, and in order -/
theorem zz_regs (hz1 : 1 ≤ p.1) (hz : p.1 ≤ 16) (hT : ∀ i, i < p.1 → rt_Nd p.2.1 p.2.2.1 p.2.2.2.1 p.2.2.2.2 lo i) (hlo : lo (p.1 - 1) = 0) (hA : ∀ i, i < p.1 → td_Ar p.2.1 p.2.2.1 p.2.2.2.1 p.2.2.2.2 ar i) (hA0 : ar (p.1 - 1) = 0) (X : xs_Circ p lo l g w) (hv : ∀ t, t < g.1 → v t ≤ 2)
    (F : gq_full g (xs_src g bg (ys_on oy) (ys_S s)) (fun t => rv_of (v t))) (h1 : s.1 < 64) (h2 : s.2 < 64) (hcon : ∀ n, n < 6 → rv_con (ys_S s n))
    (hal : ∀ t, t < p.1 → rt_Al p.2.1 p.2.2.2.1 p.2.2.2.2 (ys_on oy) (ys_al l1) t) (hwf : ∀ i, i < p.1 → rt_Wf p.2.1 p.2.2.2.1 p.2.2.2.2 (ys_on oy) (ys_al l1) i) (hb : ys_al l1 (p.1 - 1) = bg)
    (I : ys_I (p.1, p.2.1, nb, p.2.2.2.1, p.2.2.2.2) p.2.2.1 (ys_on oy) (ys_al l1) (ys_S s) j p.1) {r : Nat} (hr : r = if bg = false then p.1 - 1 else 16 + (p.1 - 1)) (h63 : s.1 ||| s.2 = 63)
    {d : ys_D} {fi : Nat → Bool} {f : xs_f} (D : ∀ t, t < p.1 → td_E p.2.1 p.2.2.2.1 p.2.2.2.2 j.2.2.1 (ys_on oy) (ys_al l1) (fun i => s.1.testBit (p.2.2.1 i)) d.1 (ys_bn d.2.1) fi (ys_bn d.2.2.1) t)
    (D0 : d.1 (p.1 - 1) = (if bg = false then 1 else 2) ∧ ys_bn d.2.2.1 (p.1 - 1) = false ∧ fi (p.1 - 1) = false) (hf : ∀ t, t < p.1 → f t = (td_an p.2.1 p.2.2.2.1 j.2.2.1 d.1 (ys_on oy) (ys_bn d.2.1) (ys_bn d.2.2.1) t).toNat) :
    (∀ t, t < p.1 → p.2.1 t = 1 ∨ p.2.1 t = 4 → f t = if v (w.2.2.2.2.2 t) = 1 then 1 else 0) ∧ (∀ t, t < p.1 → ¬ (p.2.1 t = 1 ∨ p.2.1 t = 4) → f t = 0 ∧ ys_on oy t = false) ∧
    (∀ al', (∀ i, i < p.1 → rt_Al p.2.1 p.2.2.2.1 p.2.2.2.2 (fun x => decide (f x = 1)) al' i) → (∀ i, i < p.1 → rt_Wf p.2.1 p.2.2.2.1 p.2.2.2.2 (fun x => decide (f x = 1)) al' i) ∧ (j.2.2.1 r ≠ 0 → al' (p.1 - 1) = true)) := by
  have kn : ∀ n, n < 6 → ys_S s n = rv_b (s.1.testBit n) := fun n hn => by
    have a := (zz_63 h1 h2).mp h63 n hn
    have c : ((s.1.testBit n) && (s.2.testBit n)) = false := hcon n hn
    unfold ys_S
    cases e1 : s.1.testBit n <;> cases e2 : s.2.testBit n
    · exact absurd ⟨e1, e2⟩ a
    · rfl
    · rfl
    · rw [e1, e2] at c; exact absurd c (by decide)
  have R := fun (i : Nat) (hi : i < p.1) => (I i hi).2.2
  have tot := td_tot hT kn hA R
  have M : ∀ x a b, td_1 (yc j) b x a → j.2.2.1 x = a := fun x a b h => by
    have e := h.2.2 a h.1
    have e1 := congrArg Prod.fst e
    have e2 : decide (j.2.2.1 x = a) = decide (a = a) := e1
    rw [decide_eq_true rfl] at e2
    exact of_decide_eq_true e2
  have M1 : ∀ i, i < p.1 → j.2.2.1 i < 5 ∧ ∀ k, k < 5 → yc j i k = fa_st (j.2.2.1 i) k := fun i hi => by
    obtain ⟨⟨a, ha⟩, -⟩ := tot i hi
    rw [M _ _ _ ha]; exact ⟨ha.1, ha.2.2⟩
  have M2 : ∀ i, i < p.1 → j.2.2.1 (16 + i) < 5 ∧ ∀ k, k < 5 → yc j (16 + i) k = fa_st (j.2.2.1 (16 + i)) k := fun i hi => by
    obtain ⟨-, ⟨a, ha⟩⟩ := tot i hi
    rw [M _ _ _ ha]; exact ⟨ha.1, ha.2.2⟩
  have hE := fun (i : Nat) (hi : i < p.1) => sp_NE hT X F hi
  have hK := fun (i : Nat) (hi : i < p.1) => sp_KE X F hi
  have hl := sp_sel hT X F hal hwf
  have hg := fun (i : Nat) (hi : i < p.1) (h : p.2.1 i = 1 ∨ p.2.1 i = 4) => sp_reg X F hi h
  have hS : ∀ i, i < p.1 → p.2.1 i = 6 ∨ p.2.1 i = 9 → ys_S s (p.2.2.1 i) = rv_b (s.1.testBit (p.2.2.1 i)) := fun i hi _ => kn _ (hT i hi).2.1
  obtain ⟨r1, r2, r3, r4⟩ := sp_root X F
  have P0 : td_P (ys_al l1) (fun x => rv_of (v (w.1 x))) (fun x => rv_of (v (w.2.1 x))) (fun x => rv_of (v (w.2.2.1 x))) (fun x => rv_of (v (w.2.2.2.1 x))) d.1 fi (ys_bn d.2.2.1) (p.1 - 1) := by
    unfold td_P
    dsimp only at r1 r2 r3 r4 ⊢
    rw [r1, r2, r3, r4, D0.1, D0.2.1, D0.2.2, hb]
    cases bg
    · exact ⟨rfl, fun h => absurd h (by decide), rfl, by decide, fun _ => rfl, by decide, fun h => absurd h (by decide)⟩
    · exact ⟨rfl, fun _ => ⟨rfl, rfl⟩, rfl, by decide, by decide, fun _ => rfl, fun h => absurd h (by decide)⟩
  have A := td_all hz1 hT hlo hal hwf hE hK hg hS (sp_St hT X F hal hwf R) M1 M2 D P0
  have an : ∀ x, x < p.1 → decide (f x = 1) = td_an p.2.1 p.2.2.2.1 j.2.2.1 d.1 (ys_on oy) (ys_bn d.2.1) (ys_bn d.2.2.1) x := fun x hx => by rw [hf x hx]; exact (toNat_b _).2
  refine ⟨fun t ht hk => ?_, fun t ht hk => ?_, fun al' hal' => ?_⟩
  · have a := td_next (hE t ht) (D t ht) (A t ht).1 (hal t ht) (hg t ht) (fun h4 => (A _ (by have := (rt_Nd_p hT ht).1 (by omega); omega)).2.1) hk
    have b : decide (v (w.2.2.2.2.2 t) = 1) = _ := a
    rw [hf t ht, ← b]
    by_cases e : v (w.2.2.2.2.2 t) = 1
    · rw [if_pos e, decide_eq_true e]; rfl
    · rw [if_neg e, decide_eq_false e]; rfl
  · have o0 := rt_on_f (hwf t ht) (fun h => hk (Or.inl h)) (fun h => hk (Or.inr h))
    refine ⟨?_, o0⟩
    rw [hf t ht]
    unfold td_an
    rw [o0, decide_eq_false (fun h => hk (Or.inl h)), decide_eq_false (fun h => hk (Or.inr h))]; simp
  · have hal2 : ∀ i, i < p.1 → rt_Al p.2.1 p.2.2.2.1 p.2.2.2.2 (td_an p.2.1 p.2.2.2.1 j.2.2.1 d.1 (ys_on oy) (ys_bn d.2.1) (ys_bn d.2.2.1)) al' i := fun i hi => by
      have a := hal' i hi
      unfold rt_Al at a ⊢
      rw [← an i hi]; exact a
    have N := td_N_all hT hal hwf hE hl hS R M1 M2 D A hal2
    have W := td_Wf hT hwf D (fun i hi => (A i hi).1) N
    refine ⟨fun i hi => ?_, fun hne => ?_⟩
    · have a := W i hi
      unfold rt_Wf at a ⊢
      dsimp only
      rw [an i hi]; exact a
    · have n := N (p.1 - 1) (by omega)
      unfold td_N at n
      rw [n, D0.2.1, D0.2.2, if_neg Bool.false_ne_true]
      have cr : td_c j.2.2.1 d.1 (p.1 - 1) = j.2.2.1 r := by
        unfold td_c
        rw [D0.1, hr]
        cases bg <;> rfl
      have le : j.2.2.1 r ≤ 1 := by
        obtain ⟨⟨a, ha⟩, ⟨b, hb'⟩⟩ := tot (p.1 - 1) (by omega)
        rw [hA0] at ha hb'
        have ea := M _ _ _ ha
        have eb := M _ _ _ hb'
        have := ha.2.1
        have := hb'.2.1
        rw [hr]
        cases bg
        · rw [if_pos rfl]; omega
        · rw [if_neg (by decide)]; omega
      rw [cr, decide_eq_true (by omega)]; rfl
end
end
section
/-! ===== tick, look, emitted ===== -/
def zz_oy (oy : ys_O) (s : Nat × Nat) : ys_O := (oy.1, oy.2.1, oy.2.2.1, oy.2.2.2.1, oy.2.2.2.2.1, 1, s.1, s.2, oy.2.2.2.2.2.2.2.2)
theorem zz_le1 {c : Prop} [Decidable c] : (if c then 1 else 0) ≤ 1 := by
  by_cases h : c
  · rw [if_pos h]; omega
  · rw [if_neg h]; omega
theorem zz_le2 {c d : Prop} [Decidable c] [Decidable d] : (if c then (if d then 0 else 1) else 2) ≤ 2 := by
  by_cases h : c
  · rw [if_pos h]
    by_cases h' : d
    · rw [if_pos h']; omega
    · rw [if_neg h']; omega
  · rw [if_neg h]; omega
/-- all that an instant gives, out of the relation -/
theorem zz_inst {o : xs_O} {p : xs_P} {l : xs_L} {g : xs_G} {w : xs_W} {k : xs_K} {oy : ys_O} {nb : Nat → Int32} {s0 : Nat × Nat} {l0 : xs_f} {j0 : ys_J} {d0 : ys_D} {x1 : Int32}
    (Pr : zz_Pr p nb l g w) (On : zz_On p o.2.2.2.2.2.2.2.2.2.1 o.2.2.1 o.2.2.2.1) (ho : o.2.2.2.1 = 0) (Eq : zz_Eq o oy) (hl0 : ∀ t, t < 16 → l0 t ≤ 1) :
    ∃ (v l1 : xs_f) (s : Nat × Nat) (j : ys_J) (r res : Nat), (∀ t, t < g.1 → v t ≤ 2) ∧ (∀ n, n < 6 → rv_of (v (4 + n)) = ys_S s n) ∧ s.1 < 64 ∧ s.2 < 64 ∧ (∀ n, n < 6 → bt x1 n = true → s.1.testBit n = true) ∧ (∀ t, t < 16 → l1 t ≤ 1) ∧ r < 32 ∧ (∀ t, t < p.1 → j.2.2.1 t ≤ 5 ∧ j.2.2.1 (16 + t) ≤ 5) ∧ j.2.2.1 r ≤ 5 ∧ res ≤ 2 ∧
      res = xs_oc v 6 (if v (w.2.2.2.2.1 (5 * (p.1 - 1) + 0)) = 1 then 0 else 1) ∧ res = (if s.1 ||| s.2 = 63 then (if j.2.2.1 r = 0 then 0 else 1) else 2) ∧
      (res ≠ 2 → ∃ (d : ys_D) (f : xs_f), (∀ t, t < p.1 → p.2.1 t = 1 ∨ p.2.1 t = 4 → f t = if v (w.2.2.2.2.2 t) = 1 then 1 else 0) ∧ (∀ t, ¬ (0 ≤ t ∧ t < p.1 ∧ (p.2.1 t = 1 ∨ p.2.1 t = 4)) → f t = o.2.2.2.2.2.2.2.2.2.1 t) ∧ zz_On p f 1 (if res = 0 then 1 else 0) ∧
        ∀ (post : SY → Prop), post (ys (p.1, p.2.1, nb, p.2.2.2.1, p.2.2.2.2) (ys_ob (ys_of (zz_oy oy s) f)) s l1 j d) → wpY_finish post (ys (p.1, p.2.1, nb, p.2.2.2.1, p.2.2.2.2) (zz_oy oy s) s l1 j d0)) ∧
      (∀ post : SX → Prop, post (xs (xs_ov o v) p l g w k) → wpX_spread post (xs o p l g w k) x1) ∧
      (∀ post : Int32 → SY → Prop, post (nI r) (ys (p.1, p.2.1, nb, p.2.2.2.1, p.2.2.2.2) oy s l1 j d0) → wpY_find post (ys (p.1, p.2.1, nb, p.2.2.2.1, p.2.2.2.2) oy s0 l0 j0 d0) x1) := by
  obtain ⟨hz1, hz, lo, ar, hT, hlo, hA, hA0, X, hN⟩ := Pr
  obtain ⟨O1, O2, O3, O4⟩ := On
  obtain ⟨q1, q2, q3, q4, q5, q6, q7, q8⟩ := Eq
  have O4 := O4 ho
  have eon : ys_on oy = (fun x => decide (o.2.2.2.2.2.2.2.2.2.1 x = 1)) := by funext t; unfold ys_on; rw [q8]
  have hwf : ∀ al, (∀ i, i < p.1 → rt_Al p.2.1 p.2.2.2.1 p.2.2.2.2 (ys_on oy) al i) → (∀ i, i < p.1 → rt_Wf p.2.1 p.2.2.2.1 p.2.2.2.2 (ys_on oy) al i) ∧ al (p.1 - 1) = decide (o.2.2.1 = 1) := by rw [eon]; exact O4
  obtain ⟨v, l1, s, j, V1, V2, V3, V4, V5, V6, V7, V8, V9, V10, KX, KY⟩ := sp_inst (k := k) (s0 := s0) (j0 := j0) (d := d0) (x1 := x1) hz1 hz hT hN X O1 q8 O2 q3 hl0 hwf
  obtain ⟨W1, W2⟩ := hwf _ V9
  have hr : (if o.2.2.1 = 0 then p.1 - 1 else 16 + (p.1 - 1)) = if decide (o.2.2.1 = 1) = false then p.1 - 1 else 16 + (p.1 - 1) := by
    by_cases e : o.2.2.1 = 0
    · rw [if_pos e, e]; rfl
    · rw [if_neg e, show o.2.2.1 = 1 by omega]; rfl
  have hm : ∀ t, t < p.1 → j.2.2.1 t ≤ 5 ∧ j.2.2.1 (16 + t) ≤ 5 := fun t ht => ⟨(V10 t ht).1.2.2.1, (V10 t ht).2.1.2.2.1⟩
  have out := zz_outc (nb := nb) hz1 hT X V1 V2 V3 V4 V5 V9 W1 W2 V10 hr
  refine ⟨v, l1, s, j, _, _, V1, V3, V4, V5, V7, V8, ?_, hm, ?_, ?_, rfl, out, fun hne => ?_, KX, KY⟩
  · split <;> omega
  · split
    · exact (hm _ (by omega)).1
    · exact (hm _ (by omega)).2
  · rw [out]; exact zz_le2
  · rw [out] at hne ⊢
    have h63 : s.1 ||| s.2 = 63 := Classical.byContradiction fun c => hne (by rw [if_neg c])
    obtain ⟨d, fi, f, D1, D2, D3, D4, D5⟩ := ys_finish (p := (p.1, p.2.1, nb, p.2.2.2.1, p.2.2.2.2)) (o := zz_oy oy s) (s := s) (l := l1) (j := j) (nm := p.2.2.1) (lo := lo) (is := fun i => s.1.testBit (p.2.2.1 i)) (fun _ => rfl) hz1 hz hT hN (fun t ht => by show oy.2.2.2.2.2.2.2.2.2.2 t ≤ 1; rw [q8]; exact O1 t ht) V8 hm (by show oy.2.2.1 ≤ 1; rw [q3]; exact O2) d0
    have D2' : d.1 (p.1 - 1) = (if decide (o.2.2.1 = 1) = false then 1 else 2) ∧ ys_bn d.2.2.1 (p.1 - 1) = false ∧ fi (p.1 - 1) = false := by
      refine ⟨?_, D2.2⟩
      have a : d.1 (p.1 - 1) = if oy.2.2.1 = 0 then 1 else 2 := D2.1
      rw [a, q3]
      by_cases e : o.2.2.1 = 0
      · rw [if_pos e, e]; rfl
      · rw [if_neg e, show o.2.2.1 = 1 by omega]; rfl
    obtain ⟨R1, R2, R3⟩ := zz_regs (nb := nb) (oy := oy) hz1 hz hT hlo hA hA0 X V1 V2 V4 V5 V6 V9 W1 W2 V10 hr h63 D1 D2' D3
    have fz : ∀ t, ¬ (0 ≤ t ∧ t < p.1 ∧ (p.2.1 t = 1 ∨ p.2.1 t = 4)) → f t = o.2.2.2.2.2.2.2.2.2.1 t := fun t ht => by
      by_cases e : t < p.1
      · have a := R2 t e (fun h => ht ⟨by omega, e, h⟩)
        have b : decide (oy.2.2.2.2.2.2.2.2.2.2 t = 1) = false := a.2
        rw [q8] at b
        have c := of_decide_eq_false b
        have := O1 t (by omega)
        omega
      · have a : f t = oy.2.2.2.2.2.2.2.2.2.2 t := D4 t (by show p.1 ≤ t; omega)
        rw [a, q8]
    refine ⟨d, f, R1, fz, ⟨fun t ht => ?_, by omega, zz_le1, fun hov al hal => ?_⟩, D5⟩
    · by_cases e : t < p.1 ∧ (p.2.1 t = 1 ∨ p.2.1 t = 4)
      · rw [R1 t e.1 e.2]; split <;> omega
      · rw [fz t (fun h => e ⟨h.2.1, h.2.2⟩)]; exact O1 t ht
    · obtain ⟨S1, S2⟩ := R3 al hal
      refine ⟨S1, ?_⟩
      rw [S2 ?_]; rfl
      intro e
      rw [if_pos h63, if_pos e] at hov
      simp at hov
theorem i_vc_tick {k : Nat} {u : SX} {v : SY} (I : i_Rel k u v) (hk : k + 3 ≤ 1536) (v1 : Int32) : wpX_tick (fun r u' => wpY_tick (fun r' v' => r' = r ∧ i_Rel (k + 3) u' v') v v1) u v1 := by
  obtain ⟨o, p, l, g, w, kk, oy, nb, s0, l0, j0, d0, rfl, rfl, Pr, On, Mk, St, Eq, hl0⟩ := I
  have q := Eq
  obtain ⟨q1, q2, q3, q4, q5, q6, q7, q8⟩ := q
  by_cases ho : o.2.2.2.1 = 0
  · obtain ⟨v, l1, s, j, r, res, V1, V3, V4, V5, V7, V8, r32, hm, hmr, r2, res1, res2, Fin, KX, KY⟩ := zz_inst (k := kk) (s0 := s0) (j0 := j0) (d0 := d0) (x1 := v1) Pr On ho Eq hl0
    have X := Pr
    obtain ⟨hz1, hz, lo, ar, hT, hlo, hA, hA0, X, hN⟩ := X
    have g10 := X.1.1
    have g8 := X.1.2.1
    have v6 : ∀ n, n < 6 → v (4 + n) ≤ 2 := fun n hn => V1 _ (by omega)
    obtain ⟨st, S1, KT⟩ := xs_t22_loop (o := o) (p := p) (l := l) (g := g) (w := w) (k := kk) (v := v) (x2 := nI res) v6 6 0 rfl o.2.2.2.2.2.2.2.2.2.2 (fun n hn => by omega)
    have ov0 : nI o.2.2.2.1 = 0 := by rw [ho]; rfl
    have ovy : nI oy.2.2.2.1 = 0 := by rw [q4, ho]; rfl
    refine br_t ov0 (KX _ (xs_outcome (o := o) hz1 hz g8 g10 V1 ((X.2.2.2.1 _ (by omega)).1.2.1 0 (by omega)) ?_))
    rw [← res1]
    refine ⟨7, KT _ (br_t (nI_le (a := 6) (by omega) (by omega)) ?_)⟩
    have YO : ∀ post : Int32 → SY → Prop, ((nI res = 2 → post (nI res) (ys (p.1, p.2.1, nb, p.2.2.2.1, p.2.2.2.2) (zz_oy oy s) s l1 j d0)) ∧ (¬ nI res = 2 → wpY_finish (fun u => match u with | (f_made, f_depth, f_size, f_begun, f_over, f_ticks, f_present, f_absent, f_any, f_lastPresent, f_lastAbsent, a_sorts, a_numbers, a_firsts, a_seconds, a_stack, a_around, a_on, a_alive, a_mustEmit, a_canEmit, a_mustEnd, a_canEnd, a_done, a_frozen, a_killed, a_after) => ((nI res = 0 → post (nI res) (f_made, f_depth, f_size, f_begun, 1, f_ticks, f_present, f_absent, f_any, f_lastPresent, f_lastAbsent, a_sorts, a_numbers, a_firsts, a_seconds, a_stack, a_around, a_on, a_alive, a_mustEmit, a_canEmit, a_mustEnd, a_canEnd, a_done, a_frozen, a_killed, a_after)) ∧ (¬ nI res = 0 → post (nI res) (f_made, f_depth, f_size, f_begun, 0, f_ticks, f_present, f_absent, f_any, f_lastPresent, f_lastAbsent, a_sorts, a_numbers, a_firsts, a_seconds, a_stack, a_around, a_on, a_alive, a_mustEmit, a_canEmit, a_mustEnd, a_canEnd, a_done, a_frozen, a_killed, a_after)))) (ys (p.1, p.2.1, nb, p.2.2.2.1, p.2.2.2.2) (zz_oy oy s) s l1 j d0))) → wpY_tick post (ys (p.1, p.2.1, nb, p.2.2.2.1, p.2.2.2.2) oy s0 l0 j0 d0) v1 := fun post H =>
      br_t ovy (KY _ (ys_outcome (p := (p.1, p.2.1, nb, p.2.2.2.1, p.2.2.2.2)) (o := zz_oy oy s) (s := s) (l := l1) (j := j) (d := d0) r32 hmr V4 V5 (by rw [← res2]; exact H)))
    have St' : zz_St 1 st (s.1, s.2) := ⟨by omega, fun _ => ⟨V4, V5, fun n hn => by rw [S1 n hn]; exact ⟨v6 n hn, V3 n hn⟩⟩⟩
    by_cases c2 : res = 2
    · have c2' : nI res = 2 := by rw [c2]; rfl
      refine br_t c2' (YO _ (br_t c2' ⟨rfl, ?_⟩))
      exact ⟨(o.1, o.2.1, o.2.2.1, o.2.2.2.1, 1, o.2.2.2.2.2.1, o.2.2.2.2.2.2.1, o.2.2.2.2.2.2.2.1, v, o.2.2.2.2.2.2.2.2.2.1, st), p, l, g, w, kk, zz_oy oy s, nb, s, l1, j, d0, rfl, rfl, Pr, On, Mk, St', ⟨q1, q2, q3, q4, q5, rfl, q7, q8⟩, V8⟩
    · have c2' : ¬ nI res = 2 := xs_ne 2 rfl (by omega) (by omega) c2
      obtain ⟨d, f, F1, F2, F3, F4⟩ := Fin c2
      obtain ⟨f', G1, G2, KK⟩ := xs_k2_loop (o := (o.1, o.2.1, o.2.2.1, o.2.2.2.1, 1, o.2.2.2.2.2.1, o.2.2.2.2.2.2.1, o.2.2.2.2.2.2.2.1, v, o.2.2.2.2.2.2.2.2.2.1, st)) (p := p) (l := l) (g := g) (w := w) (k := kk) (res := res) r2 hz g8 X.2.1 (fun t ht h => (X.2.2.2.1 t ht).1.2.2 h) V1 p.1 0 (by omega) o.2.2.2.2.2.2.2.2.2.1 (fun t ht => by omega)
      have ff : f' = f := by
        funext t
        by_cases e : 0 ≤ t ∧ t < p.1 ∧ (p.2.1 t = 1 ∨ p.2.1 t = 4)
        · exact (G1 t e.2.1 e.2.2).trans (F1 t e.2.1 e.2.2).symm
        · exact (G2 t e).trans (F2 t e).symm
      subst ff
      refine br_f c2' ⟨p.1 + 1, KK _ (YO _ (br_f c2' (F4 _ ?_)))⟩
      by_cases c0 : res = 0
      · rw [if_pos c0] at F3 ⊢
        refine br_t (by rw [c0]; rfl) ⟨rfl, ?_⟩
        exact ⟨_, p, l, g, w, kk, (oy.1, oy.2.1, 1, 1, oy.2.2.2.2.1 + 1, 1, s.1, s.2, oy.2.2.2.2.2.2.2.2.1, oy.2.2.2.2.2.2.2.2.2.1, f'), nb, s, l1, j, d, rfl, rfl, Pr, F3, Mk, St', ⟨q1, q2, rfl, rfl, congrArg (· + 1) q5, rfl, q7, rfl⟩, V8⟩
      · rw [if_neg c0] at F3 ⊢
        refine br_f (xs_ne 0 rfl (by omega) (by omega) c0) ⟨rfl, ?_⟩
        exact ⟨_, p, l, g, w, kk, (oy.1, oy.2.1, 1, 0, oy.2.2.2.2.1 + 1, 1, s.1, s.2, oy.2.2.2.2.2.2.2.2.1, oy.2.2.2.2.2.2.2.2.2.1, f'), nb, s, l1, j, d, rfl, rfl, Pr, F3, Mk, St', ⟨q1, q2, rfl, rfl, congrArg (· + 1) q5, rfl, q7, rfl⟩, V8⟩
  · have v1' := On.2.2.1
    have ov : ¬ nI o.2.2.2.1 = 0 := nI_ne0 (by omega) (by omega)
    have ovy : ¬ nI oy.2.2.2.1 = 0 := by rw [q4]; exact ov
    exact br_f ov (br_f ovy ⟨rfl, o, p, l, g, w, kk, oy, nb, s0, l0, j0, d0, rfl, rfl, Pr, On, Mk, St, Eq, hl0⟩)
end
section
/-! ===== look, emitted, status, active, ended, instants, depth, discard, restart ===== -/
theorem i_up {k : Nat} {u : SX} {v : SY} (h : i_Rel k u v) : i_Rel (k + 3) u v := h
theorem i_vc_look {k : Nat} {u : SX} {v : SY} (I : i_Rel k u v) (hk : k + 3 ≤ 1536) (v1 : Int32) : wpX_look (fun r u' => wpY_look (fun r' v' => r' = r ∧ i_Rel (k + 3) u' v') v v1) u v1 := by
  obtain ⟨o, p, l, g, w, kk, oy, nb, s0, l0, j0, d0, rfl, rfl, Pr, On, Mk, St, Eq, hl0⟩ := I
  have q := Eq
  obtain ⟨q1, q2, q3, q4, q5, q6, q7, q8⟩ := q
  by_cases ho : o.2.2.2.1 = 0
  · obtain ⟨v, l1, s, j, r, res, V1, V3, V4, V5, V7, V8, r32, hm, hmr, r2, res1, res2, Fin, KX, KY⟩ := zz_inst (k := kk) (s0 := s0) (j0 := j0) (d0 := d0) (x1 := v1) Pr On ho Eq hl0
    have X := Pr
    obtain ⟨hz1, hz, lo, ar, hT, hlo, hA, hA0, X, hN⟩ := X
    have ov0 : nI o.2.2.2.1 = 0 := by rw [ho]; rfl
    have ovy : nI oy.2.2.2.1 = 0 := by rw [q4, ho]; rfl
    refine br_t ov0 (KX _ (xs_outcome (o := o) hz1 hz X.1.2.1 X.1.1 V1 ((X.2.2.2.1 _ (by omega)).1.2.1 0 (by omega)) ?_))
    rw [← res1]
    refine br_t ovy (KY _ (ys_outcome (p := (p.1, p.2.1, nb, p.2.2.2.1, p.2.2.2.2)) (o := oy) (s := s) (l := l1) (j := j) (d := d0) r32 hmr V4 V5 ?_))
    rw [← res2]
    exact ⟨rfl, xs_ov o v, p, l, g, w, kk, oy, nb, s, l1, j, d0, rfl, rfl, Pr, On, Mk, St, Eq, V8⟩
  · have v1' := On.2.2.1
    have ov : ¬ nI o.2.2.2.1 = 0 := nI_ne0 (by omega) (by omega)
    have ovy : ¬ nI oy.2.2.2.1 = 0 := by rw [q4]; exact ov
    exact br_f ov (br_f ovy ⟨rfl, o, p, l, g, w, kk, oy, nb, s0, l0, j0, d0, rfl, rfl, Pr, On, Mk, St, Eq, hl0⟩)
theorem xs_em_b {v : xs_f} {inb : Nat → Bool} : ∀ e acc, e ≤ 6 → ∀ i, (xs_em v inb e acc).testBit i = (acc.testBit i || (decide (6 - e ≤ i) && (decide (i < 6) && (decide (v (4 + i) = 1) && !inb i)))) := by
  intro e
  induction e with
  | zero =>
    intro acc _ i
    show acc.testBit i = _
    by_cases h : i < 6
    · rw [decide_eq_false (by omega : ¬ 6 - 0 ≤ i)]; simp
    · rw [decide_eq_false h]; simp
  | succ e ih =>
    intro acc he i
    show (xs_em v inb e _).testBit i = _
    rw [ih _ (by omega) i]
    by_cases ei : i = 6 - (e + 1)
    · subst ei
      rw [decide_eq_false (by omega : ¬ 6 - e ≤ 6 - (e + 1)), decide_eq_true (Nat.le_refl _), decide_eq_true (by omega : 6 - (e + 1) < 6), Bool.false_and, Bool.or_false, Bool.true_and, Bool.true_and]
      by_cases c1 : v (4 + (6 - (e + 1))) = 1
      · cases c2 : inb (6 - (e + 1)) with
        | true => rw [if_neg (by simp)]; simp
        | false =>
          rw [if_pos ⟨c1, rfl⟩, Nat.testBit_or, Nat.one_shiftLeft, Nat.testBit_two_pow, decide_eq_true rfl, decide_eq_true c1]; rfl
      · rw [if_neg (fun q => c1 q.1), decide_eq_false c1]; simp
    · have e1 : (if v (4 + (6 - (e + 1))) = 1 ∧ inb (6 - (e + 1)) = false then acc ||| 1 <<< (6 - (e + 1)) else acc).testBit i = acc.testBit i := by
        split
        · rw [Nat.testBit_or, Nat.one_shiftLeft, Nat.testBit_two_pow, decide_eq_false (fun h => ei h.symm), Bool.or_false]
        · rfl
      rw [e1]
      by_cases c : 6 - e ≤ i
      · rw [decide_eq_true c, decide_eq_true (by omega : 6 - (e + 1) ≤ i)]
      · rw [decide_eq_false c, decide_eq_false (by omega : ¬ 6 - (e + 1) ≤ i)]
theorem i_vc_emitted {k : Nat} {u : SX} {v : SY} (I : i_Rel k u v) (hk : k + 3 ≤ 1536) (v1 : Int32) : wpX_emitted (fun r u' => wpY_emitted (fun r' v' => r' = r ∧ i_Rel (k + 3) u' v') v v1) u v1 := by
  obtain ⟨o, p, l, g, w, kk, oy, nb, s0, l0, j0, d0, rfl, rfl, Pr, On, Mk, St, Eq, hl0⟩ := I
  have q := Eq
  obtain ⟨q1, q2, q3, q4, q5, q6, q7, q8⟩ := q
  by_cases ho : o.2.2.2.1 = 0
  · obtain ⟨v, l1, s, j, r, res, V1, V3, V4, V5, V7, V8, r32, hm, hmr, r2, res1, res2, Fin, KX, KY⟩ := zz_inst (k := kk) (s0 := s0) (j0 := j0) (d0 := d0) (x1 := v1) Pr On ho Eq hl0
    have X := Pr
    obtain ⟨hz1, hz, lo, ar, hT, hlo, hA, hA0, X, hN⟩ := X
    have g10 := X.1.1
    have ov0 : nI o.2.2.2.1 = 0 := by rw [ho]; rfl
    have ovy : nI oy.2.2.2.1 = 0 := by rw [q4, ho]; rfl
    have v6 : ∀ n, n < 6 → v (4 + n) ≤ 2 := fun n hn => V1 _ (by omega)
    have eE : nI s.1 &&& (v1 ^^^ (-1)) = nI (xs_em v (bt v1) 6 0) := by
      refine b_ext (fun i hi => ?_)
      rw [b_and, b_xor, b_m1 i hi, nx_bt _ hi, nx_bt _ hi, xs_em_b 6 0 (by omega) i, Nat.zero_testBit, Bool.false_or, decide_eq_true (by omega : 6 - 6 ≤ i), Bool.true_and]
      by_cases h6 : i < 6
      · have a := congrArg Prod.fst (V3 i h6)
        have a : decide (v (4 + i) = 1) = s.1.testBit i := a
        rw [decide_eq_true h6, a]; cases bt v1 i <;> simp
      · have b : (2 : Nat) ^ 6 ≤ 2 ^ i := Nat.pow_le_pow_right (by omega) (by omega)
        rw [decide_eq_false h6, Nat.testBit_lt_two_pow (by omega : s.1 < 2 ^ i)]; simp
    refine br_t ov0 (KX _ ⟨7, xs_em_loop v6 6 0 (by omega) (br_t ovy (KY _ ⟨eE, xs_ov o v, p, l, g, w, kk, oy, nb, s, l1, j, d0, rfl, rfl, Pr, On, Mk, St, Eq, V8⟩))⟩)
  · have v1' := On.2.2.1
    have ov : ¬ nI o.2.2.2.1 = 0 := nI_ne0 (by omega) (by omega)
    have ovy : ¬ nI oy.2.2.2.1 = 0 := by rw [q4]; exact ov
    exact br_f ov (br_f ovy ⟨rfl, o, p, l, g, w, kk, oy, nb, s0, l0, j0, d0, rfl, rfl, Pr, On, Mk, St, Eq, hl0⟩)
/-- a signal's number, as both sides look at it -/
theorem zz_sig (x : Int32) : (x < 0 ∨ ¬ x < 6) ∨ ∃ n : Nat, n < 6 ∧ x = nI n := by
  rcases pk_ix x (n := 6) (by omega) with h | h | h
  · exact Or.inl (Or.inl h)
  · exact Or.inl (Or.inr (Int32.not_lt.mpr h))
  · exact Or.inr h
theorem zz_l5 (x : Int32) : x < 6 ↔ x ≤ 5 := by
  rw [Int32.lt_iff_toInt_lt, Int32.le_iff_toInt_le]
  have a : (6 : Int32).toInt = 6 := by decide
  have b : (5 : Int32).toInt = 5 := by decide
  rw [a, b]; omega
theorem i_vc_status {k : Nat} {u : SX} {v : SY} (I : i_Rel k u v) (hk : k + 3 ≤ 1536) (v1 : Int32) : wpX_status (fun r => wpY_status (fun r' => r' = r ∧ i_Rel (k + 3) u v) v v1) u v1 := by
  have I' := I
  obtain ⟨o, p, l, g, w, kk, oy, nb, s0, l0, j0, d0, rfl, rfl, Pr, On, Mk, St, Eq, hl0⟩ := I
  obtain ⟨q1, q2, q3, q4, q5, q6, q7, q8⟩ := Eq
  unfold wpX_status
  have bad : ∀ b : Int32, ¬ b = 0 → b = 1 → (¬ v1 < 0 → ¬ v1 ≤ 5) → ((b = 0 → ((nI o.2.2.2.2.1 = 0 → wpY_status (fun r' => r' = -4 ∧ i_Rel (k + 3) (xs o p l g w kk) (ys (p.1, p.2.1, nb, p.2.2.2.1, p.2.2.2.2) oy s0 l0 j0 d0)) (ys (p.1, p.2.1, nb, p.2.2.2.1, p.2.2.2.2) oy s0 l0 j0 d0) v1) ∧ (¬ nI o.2.2.2.2.1 = 0 → vp_in v1 6 ∧ wpY_status (fun r' => r' = xs_A o.2.2.2.2.2.2.2.2.2.2 v1.toNatClampNeg ∧ i_Rel (k + 3) (xs o p l g w kk) (ys (p.1, p.2.1, nb, p.2.2.2.1, p.2.2.2.2) oy s0 l0 j0 d0)) (ys (p.1, p.2.1, nb, p.2.2.2.1, p.2.2.2.2) oy s0 l0 j0 d0) v1))) ∧
      (¬ b = 0 → wpY_status (fun r' => r' = -4 ∧ i_Rel (k + 3) (xs o p l g w kk) (ys (p.1, p.2.1, nb, p.2.2.2.1, p.2.2.2.2) oy s0 l0 j0 d0)) (ys (p.1, p.2.1, nb, p.2.2.2.1, p.2.2.2.2) oy s0 l0 j0 d0) v1)) := by
    intro b hb hb1 hv
    refine br_f hb ?_
    refine br_c (fun _ => ⟨rfl, I'⟩) (fun _ => ?_)
    by_cases h0 : v1 < 0
    · exact br_t h0 (br_f (by decide) ⟨rfl, I'⟩)
    · exact br_f h0 (br_f (hv h0) (br_f (by decide) ⟨rfl, I'⟩))
  by_cases h0 : v1 < 0
  · exact br_t h0 (bad 1 (by decide) rfl (fun h => absurd h0 h))
  by_cases h6 : v1 < 6
  · refine br_f h0 (br_t h6 ?_)
    obtain ⟨n, hn, rfl⟩ : ∃ n : Nat, n < 6 ∧ v1 = nI n := by
      rcases zz_sig v1 with (h | h) | h
      · exact absurd h h0
      · exact absurd h6 h
      · exact h
    have n5 : nI n ≤ 5 := (zz_l5 _).mp h6
    refine br_t rfl ?_
    obtain ⟨t1, t2⟩ := St
    by_cases ht : o.2.2.2.2.1 = 0
    · exact br_t (by show nI o.2.2.2.2.1 = 0; rw [ht]; rfl) (br_t (by show nI oy.2.2.2.2.2.1 = 0; rw [q6, ht]; rfl) ⟨rfl, I'⟩)
    · have ht1 : o.2.2.2.2.1 = 1 := by omega
      obtain ⟨b1, b2, b3⟩ := t2 ht1
      obtain ⟨c1, c2⟩ := b3 n hn
      have nz : ¬ nI o.2.2.2.2.1 = 0 := nI_ne0 (by omega) (by omega)
      have nzy : ¬ nI oy.2.2.2.2.2.1 = 0 := by rw [q6]; exact nz
      have es : xs_A o.2.2.2.2.2.2.2.2.2.2 (nI n).toNatClampNeg = nI (o.2.2.2.2.2.2.2.2.2.2 n) := xs_at (by omega)
      refine br_f nz (And.intro (vp_in_nI hn (by omega)) (br_f nzy (br_f h0 (br_t n5 (br_t rfl ?_)))))
      by_cases e1 : oy.2.2.2.2.2.2.1.testBit n = true
      · have : o.2.2.2.2.2.2.2.2.2.2 n = 1 := by
          have a := congrArg Prod.fst c2
          have a : decide (o.2.2.2.2.2.2.2.2.2.2 n = 1) = oy.2.2.2.2.2.2.1.testBit n := a
          rw [e1] at a; exact of_decide_eq_true a
        exact br_t ((nx_b1 _ (by omega)).mpr e1) ⟨by rw [show xs_A o.2.2.2.2.2.2.2.2.2.2 (nI n).toNatClampNeg = _ from es, this]; rfl, I'⟩
      · have a1 := Bool.eq_false_iff.mpr e1
        by_cases e2 : oy.2.2.2.2.2.2.2.1.testBit n = true
        · have : o.2.2.2.2.2.2.2.2.2.2 n = 0 := by
            have a := congrArg Prod.snd c2
            have a : decide (o.2.2.2.2.2.2.2.2.2.2 n = 0) = oy.2.2.2.2.2.2.2.1.testBit n := a
            rw [e2] at a; exact of_decide_eq_true a
          exact br_f (fun h => e1 ((nx_b1 _ (by omega)).mp h)) (br_t ((nx_b1 _ (by omega)).mpr e2) ⟨by rw [show xs_A o.2.2.2.2.2.2.2.2.2.2 (nI n).toNatClampNeg = _ from es, this]; rfl, I'⟩)
        · have a2 := Bool.eq_false_iff.mpr e2
          have : o.2.2.2.2.2.2.2.2.2.2 n = 2 := rv_of_le_2 c1 _ (by unfold ys_S; dsimp only; rw [a1, a2]) c2
          exact br_f (fun h => e1 ((nx_b1 _ (by omega)).mp h)) (br_f (fun h => e2 ((nx_b1 _ (by omega)).mp h)) ⟨by rw [show xs_A o.2.2.2.2.2.2.2.2.2.2 (nI n).toNatClampNeg = _ from es, this]; rfl, I'⟩)
  · exact br_f h0 (br_f h6 (bad 1 (by decide) rfl (fun _ h => h6 ((zz_l5 v1).mpr h))))
theorem i_vc_active {k : Nat} {u : SX} {v : SY} (I : i_Rel k u v) (hk : k + 3 ≤ 1536) (v1 : Int32) : wpX_active (fun r => wpY_active (fun r' => r' = r ∧ i_Rel (k + 3) u v) v v1) u v1 := by
  have I' := I
  obtain ⟨o, p, l, g, w, kk, oy, nb, s0, l0, j0, d0, rfl, rfl, Pr, On, Mk, St, Eq, hl0⟩ := I
  obtain ⟨q1, q2, q3, q4, q5, q6, q7, q8⟩ := Eq
  by_cases h0 : v1 < 0
  · exact br_t h0 (br_t h0 ⟨rfl, I'⟩)
  by_cases hz : v1 < nI p.1
  · have z16 := Pr.2.1
    obtain ⟨n, hn, rfl⟩ : ∃ n : Nat, n < p.1 ∧ v1 = nI n := by
      rcases pk_ix v1 (n := p.1) (by omega) with h | h | h
      · exact absurd h h0
      · exact absurd hz (Int32.not_lt.mpr h)
      · exact h
    have hin : vp_in (nI n) 16 := vp_in_nI (by omega) (by omega)
    have eo : xs_A oy.2.2.2.2.2.2.2.2.2.2 = xs_A o.2.2.2.2.2.2.2.2.2.1 := by rw [q8]
    refine br_f h0 (br_t hz (And.intro hin ?_))
    by_cases c : xs_A o.2.2.2.2.2.2.2.2.2.1 (nI n).toNatClampNeg = 0
    · exact br_t c (br_f h0 (br_t hz (And.intro hin (br_t (by rw [show (xs_A oy.2.2.2.2.2.2.2.2.2.2) = _ from eo]; exact c) ⟨rfl, I'⟩))))
    · exact br_f c (br_f h0 (br_t hz (And.intro hin (br_f (by rw [show (xs_A oy.2.2.2.2.2.2.2.2.2.2) = _ from eo]; exact c) ⟨rfl, I'⟩))))
  · exact br_f h0 (br_f hz (br_f h0 (br_f hz ⟨rfl, I'⟩)))
theorem i_vc_ended {k : Nat} {u : SX} {v : SY} (I : i_Rel k u v) (hk : k + 3 ≤ 1536) : wpX_ended (fun r => wpY_ended (fun r' => r' = r ∧ i_Rel (k + 3) u v) v) u := by
  have I' := I
  obtain ⟨o, p, l, g, w, kk, oy, nb, s0, l0, j0, d0, rfl, rfl, Pr, On, Mk, St, Eq, hl0⟩ := I
  obtain ⟨q1, q2, q3, q4, q5, q6, q7, q8⟩ := Eq
  by_cases c : nI o.2.2.2.1 = 0
  · exact br_t c (br_t (by show nI oy.2.2.2.1 = 0; rw [q4]; exact c) ⟨rfl, I'⟩)
  · exact br_f c (br_f (by show ¬ nI oy.2.2.2.1 = 0; rw [q4]; exact c) ⟨rfl, I'⟩)
theorem i_vc_instants {k : Nat} {u : SX} {v : SY} (I : i_Rel k u v) (hk : k + 3 ≤ 1536) : wpX_instants (fun r => wpY_instants (fun r' => r' = r ∧ i_Rel (k + 3) u v) v) u := by
  have I' := I
  obtain ⟨o, p, l, g, w, kk, oy, nb, s0, l0, j0, d0, rfl, rfl, Pr, On, Mk, St, Eq, hl0⟩ := I
  exact ⟨congrArg nI Eq.2.2.2.2.1, I'⟩
theorem i_vc_depth {k : Nat} {u : SX} {v : SY} (I : i_Rel k u v) (hk : k + 3 ≤ 1536) : wpX_depth (fun r => wpY_depth (fun r' => r' = r ∧ i_Rel (k + 3) u v) v) u := by
  have I' := I
  obtain ⟨o, p, l, g, w, kk, oy, nb, s0, l0, j0, d0, rfl, rfl, Pr, On, Mk, St, Eq, hl0⟩ := I
  exact ⟨congrArg nI Eq.2.1, I'⟩
theorem zz_Mk0 (p : xs_P) (nb : Nat → Int32) (st : xs_f) : zz_Mk p nb 0 0 st := ⟨by omega, by omega, fun h => by omega, fun _ => 0, fun i h => by omega, fun i h => by omega, fun a h => by omega, fun h => by omega, fun a h => by omega⟩
theorem i_vc_discard {k : Nat} {u : SX} {v : SY} (I : i_Rel k u v) (hk : k + 3 ≤ 1536) : wpX_discard (fun r u' => wpY_discard (fun r' v' => r' = r ∧ i_Rel (k + 3) u' v') v) u := by
  obtain ⟨o, p, l, g, w, kk, oy, nb, s0, l0, j0, d0, rfl, rfl, Pr, On, Mk, St, Eq, hl0⟩ := I
  obtain ⟨q1, q2, q3, q4, q5, q6, q7, q8⟩ := Eq
  exact ⟨congrArg nI q2, (0, 0, o.2.2), p, l, g, w, kk, (0, 0, oy.2.2), nb, s0, l0, j0, d0, rfl, rfl, Pr, On, zz_Mk0 _ _ _, St, ⟨rfl, rfl, q3, q4, q5, q6, q7, q8⟩, hl0⟩
/-- f with 0 at 0, .., 15 -/
def zz_z (f : xs_f) : xs_f := fun t => if t < 16 then 0 else f t
theorem zz_zc {f : xs_f} {i : Nat} (hi : i < 16) : zz_z (xs_u f i 0) = zz_z f := by
  funext t; unfold zz_z
  by_cases h : t < 16
  · rw [if_pos h, if_pos h]
  · rw [if_neg h, if_neg h, xs_un (by omega)]
theorem zz_zf {f : xs_f} (h : ∀ t, t < 16 → f t = 0) : f = zz_z f := by
  funext t; unfold zz_z
  by_cases ht : t < 16
  · rw [if_pos ht, h t ht]
  · rw [if_neg ht]
theorem xs_rs_loop {o : xs_O} {p : xs_P} {l : xs_L} {g : xs_G} {w : xs_W} {k : xs_K} {post : SX → Prop} : ∀ e i, i + e = 16 → ∀ f : xs_f, (∀ t, t < i → f t = 0) → post (xs (xs_oe o (zz_z f) 0 0 0) p l g w k) →
    wX_restart_2 post (nI p.1) (nI (xs_oe o f o.2.2.1 o.2.2.2.1 o.2.2.2.2.2.1).1) (nI (xs_oe o f o.2.2.1 o.2.2.2.1 o.2.2.2.2.2.1).2.1) (nI g.1) (nI k.1) (nI (xs_oe o f o.2.2.1 o.2.2.2.1 o.2.2.2.2.2.1).2.2.1) (nI (xs_oe o f o.2.2.1 o.2.2.2.1 o.2.2.2.2.2.1).2.2.2.1) (nI (xs_oe o f o.2.2.1 o.2.2.2.1 o.2.2.2.2.2.1).2.2.2.2.1) (nI (xs_oe o f o.2.2.1 o.2.2.2.1 o.2.2.2.2.2.1).2.2.2.2.2.1) (e + 1) (nI i) (xs_A p.2.1) (xs_A p.2.2.1) (xs_A p.2.2.2.1) (xs_A p.2.2.2.2) (xs_A (xs_oe o f o.2.2.1 o.2.2.2.1 o.2.2.2.2.2.1).2.2.2.2.2.2.1) (xs_A (xs_oe o f o.2.2.1 o.2.2.2.1 o.2.2.2.2.2.1).2.2.2.2.2.2.2.1) (xs_A g.2.1) (xs_A g.2.2.1) (xs_A g.2.2.2.1) (xs_A g.2.2.2.2) (xs_A (xs_oe o f o.2.2.1 o.2.2.2.1 o.2.2.2.2.2.1).2.2.2.2.2.2.2.2.1) (xs_A w.1) (xs_A w.2.1) (xs_A w.2.2.1) (xs_A w.2.2.2.1) (xs_A w.2.2.2.2.1) (xs_A l.1) (xs_A l.2) (xs_A w.2.2.2.2.2) (xs_A (xs_oe o f o.2.2.1 o.2.2.2.1 o.2.2.2.2.2.1).2.2.2.2.2.2.2.2.2.1) (xs_A k.2.1) (xs_A k.2.2) (xs_A (xs_oe o f o.2.2.1 o.2.2.2.1 o.2.2.2.2.2.1).2.2.2.2.2.2.2.2.2.2) := by
  intro e
  induction e with
  | zero => intro i hi f h H; rw [← zz_zf (fun t ht => h t (by omega))] at H; exact br_t (nI_le (a := 16) (by omega) (by omega)) H
  | succ e ih =>
    intro i hi f h H
    have h16 : vp_in (nI i) 16 := vp_in_nI (by omega) (by omega)
    exact br_f (nI_ge (b := 16) (by omega) (by omega)) (And.intro h16 (nm_r (xs_pz (x := 0) rfl (by omega) rfl (by omega)) (nm_r (nI_1 i) (ih (i + 1) (by omega) (xs_u f i 0) (fun t ht => by
      by_cases et : t = i
      · rw [et, xs_us]
      · rw [xs_un et]; exact h t (by omega)) (by rw [zz_zc (by omega)]; exact H)))))
theorem xs_restart {o : xs_O} {p : xs_P} {l : xs_L} {g : xs_G} {w : xs_W} {k : xs_K} {post : SX → Prop} (H : post (xs (xs_oe o (zz_z o.2.2.2.2.2.2.2.2.2.1) 0 0 0) p l g w k)) : wpX_restart post (xs o p l g w k) :=
  ⟨17, xs_rs_loop 16 0 rfl o.2.2.2.2.2.2.2.2.2.1 (fun t ht => by omega) H⟩
theorem ys_rs_loop {p : ys_P} {o : ys_O} {s : Nat × Nat} {l : xs_f} {j : ys_J} {d : ys_D} {post : SY → Prop} : ∀ e i, i + e = 16 → ∀ f : xs_f, (∀ t, t < i → f t = 0) → post (ys p (ys_of o (zz_z f)) s l j d) →
    wY_restart_17 post (nI (ys_of o f).1) (nI (ys_of o f).2.1) (nI p.1) (nI (ys_of o f).2.2.1) (nI (ys_of o f).2.2.2.1) (nI (ys_of o f).2.2.2.2.1) (nI s.1) (nI s.2) (nI (ys_of o f).2.2.2.2.2.1) (nI (ys_of o f).2.2.2.2.2.2.1) (nI (ys_of o f).2.2.2.2.2.2.2.1) (e + 1) (nI i) (xs_A p.2.1) p.2.2.1 (xs_A p.2.2.2.1) (xs_A p.2.2.2.2) (xs_A (ys_of o f).2.2.2.2.2.2.2.2.1) (xs_A (ys_of o f).2.2.2.2.2.2.2.2.2.1) (xs_A (ys_of o f).2.2.2.2.2.2.2.2.2.2) (xs_A l) (xs_A j.1) (xs_A j.2.1) (ys_E j.2.2.1) (xs_A j.2.2.2) (xs_A d.1) (xs_A d.2.1) (xs_A d.2.2.1) (xs_A d.2.2.2) := by
  intro e
  induction e with
  | zero => intro i hi f h H; rw [← zz_zf (fun t ht => h t (by omega))] at H; exact br_t (nI_le (a := 16) (by omega) (by omega)) H
  | succ e ih =>
    intro i hi f h H
    have h16 : vp_in (nI i) 16 := vp_in_nI (by omega) (by omega)
    exact br_f (nI_ge (b := 16) (by omega) (by omega)) (And.intro h16 (nm_r (xs_pz (x := 0) rfl (by omega) rfl (by omega)) (nm_r (nI_1 i) (ih (i + 1) (by omega) (xs_u f i 0) (fun t ht => by
      by_cases et : t = i
      · rw [et, xs_us]
      · rw [xs_un et]; exact h t (by omega)) (by rw [zz_zc (by omega)]; exact H)))))
def ys_or (o : ys_O) : ys_O := (o.1, o.2.1, 0, 0, 0, o.2.2.2.2.2.1, o.2.2.2.2.2.2.1, o.2.2.2.2.2.2.2.1, o.2.2.2.2.2.2.2.2.1, o.2.2.2.2.2.2.2.2.2.1, zz_z o.2.2.2.2.2.2.2.2.2.2)
theorem ys_restart {p : ys_P} {o : ys_O} {s : Nat × Nat} {l : xs_f} {j : ys_J} {d : ys_D} {post : SY → Prop} (H : post (ys p (ys_or o) s l j d)) : wpY_restart post (ys p o s l j d) :=
  ⟨17, ys_rs_loop (o := (o.1, o.2.1, 0, 0, 0, o.2.2.2.2.2)) 16 0 rfl o.2.2.2.2.2.2.2.2.2.2 (fun t ht => by omega) H⟩
/-- nothing is on -/
theorem zz_On0 {p : xs_P} {f : xs_f} {lo : xs_f} (hz1 : 1 ≤ p.1) (hz : p.1 ≤ 16) (hT : ∀ i, i < p.1 → rt_Nd p.2.1 p.2.2.1 p.2.2.2.1 p.2.2.2.2 lo i) : zz_On p (zz_z f) 0 0 := by
  have z : ∀ t, t < 16 → zz_z f t = 0 := fun t ht => if_pos ht
  refine ⟨fun t ht => by rw [z t ht]; omega, by omega, by omega, fun _ al hal => ?_⟩
  have al0 : ∀ i, i < p.1 → al i = false := by
    intro i
    induction i using Nat.strongRecOn with
    | ind i ih =>
      intro hi
      have P := rt_Nd_p hT hi
      have a : al i = _ := hal i hi
      rw [a]
      dsimp only
      rw [z i (by omega), decide_eq_false (by omega : ¬ 0 = 1), Bool.false_or]
      by_cases h4 : 4 ≤ p.2.1 i
      · rw [ih (p.2.2.2.1 i) (by have := P.1 h4; omega) (by have := P.1 h4; omega), Bool.and_false, Bool.false_or]
        by_cases h7 : 7 ≤ p.2.1 i
        · rw [ih (p.2.2.2.2 i) (by have := P.2 h7; omega) (by have := P.2 h7; omega), Bool.and_false]
        · rw [decide_eq_false h7, Bool.false_and]
      · rw [decide_eq_false h4, decide_eq_false (by omega : ¬ 7 ≤ p.2.1 i)]; rfl
  refine ⟨fun i hi => ⟨fun h => ?_, fun _ h => ?_, fun h h' => ?_⟩, by rw [al0 _ (by omega)]; rfl⟩
  · dsimp only at h
    rw [z i (by omega)] at h; exact absurd h (by decide)
  · dsimp only at h
    rw [z i (by omega)] at h; exact absurd h (by decide)
  · have P := rt_Nd_p hT hi
    exact al0 _ (by have := P.2 (by omega); omega)
theorem i_vc_restart {k : Nat} {u : SX} {v : SY} (I : i_Rel k u v) (hk : k + 3 ≤ 1536) : wpX_restart (fun u' => wpY_restart (fun v' => i_Rel (k + 3) u' v') v) u := by
  obtain ⟨o, p, l, g, w, kk, oy, nb, s0, l0, j0, d0, rfl, rfl, Pr, On, Mk, St, Eq, hl0⟩ := I
  obtain ⟨q1, q2, q3, q4, q5, q6, q7, q8⟩ := Eq
  have Pr' := Pr
  obtain ⟨hz1, hz, lo, ar, hT, hlo, hA, hA0, X, hN⟩ := Pr'
  exact xs_restart (ys_restart ⟨_, p, l, g, w, kk, ys_or oy, nb, s0, l0, j0, d0, rfl, rfl, Pr, zz_On0 hz1 hz hT, Mk, St, ⟨q1, q2, rfl, rfl, rfl, q6, q7, congrArg zz_z q8⟩, hl0⟩)
end
section
/-! ===== making statements ===== -/
section
variable {p p' : xs_P} {lo : xs_f} {l : xs_L} {g : xs_G} {w : xs_W}
/-- the two programs are the same -/
def zz_ag (p p' : xs_P) : Prop := p'.1 = p.1 ∧ ∀ i, i < p.1 → p'.2.1 i = p.2.1 i ∧ p'.2.2.1 i = p.2.2.1 i ∧ p'.2.2.2.1 i = p.2.2.2.1 i ∧ p'.2.2.2.2 i = p.2.2.2.2 i
theorem zz_Nd_cg {kd nm pp pq kd' nm' pp' pq' : Nat → Nat} {i : Nat} (h : kd' i = kd i ∧ nm' i = nm i ∧ pp' i = pp i ∧ pq' i = pq i) (H : rt_Nd kd nm pp pq lo i) : rt_Nd kd' nm' pp' pq' lo i := by
  unfold rt_Nd at H ⊢
  rw [h.1, h.2.1, h.2.2.1, h.2.2.2]; exact H
theorem xs_Circ_cg (hlo : ∀ z, p.1 = z → lo (z - 1) ≤ z - 1) (hz1 : 1 ≤ p.1) (h : zz_ag p p') (X : xs_Circ p lo l g w) : xs_Circ p' lo l g w := by
  obtain ⟨h0, h⟩ := h
  obtain ⟨X1, X2, X3, X4, X5, X6⟩ := X
  unfold xs_Circ
  rw [h0]
  refine ⟨X1, fun j hj => ?_, fun t h1 h2 h3 => ?_, fun j hj => ⟨?_, ?_⟩, X5, fun R m => ⟨fun j hj => ?_, fun s hs => ?_, fun j hj => ?_⟩⟩
  · have a := X2 j hj
    unfold xs_Rg at a ⊢
    rw [(h j hj).1]; exact a
  · obtain ⟨j, j1, j2, j3⟩ := X3 t h1 h2 h3
    exact ⟨j, j1, by rw [(h j j1).1]; exact j2, j3⟩
  · have a := (X4 j hj).1
    unfold xs_Bd at a ⊢
    rw [(h j hj).1]; exact a
  · have a := (X4 j hj).2
    unfold xs_KF at a ⊢
    rw [(h j hj).1, (h j hj).2.2.1]; exact a
  · have a := (X6 R m).1 j hj
    unfold xs_NE rt_NE at a ⊢
    rw [(h j hj).1, (h j hj).2.1, (h j hj).2.2.1, (h j hj).2.2.2]; exact a
  · rw [(X6 R m).2.1 s hs]
    refine rv_bo_cg (fun t h1 h2 => ?_)
    have := hlo _ rfl
    unfold rt_lf
    rw [(h t (by omega)).1, (h t (by omega)).2.1]
  · rw [(X6 R m).2.2 j hj]
    unfold xs_se
    rw [(h j hj).1, (h j hj).2.2.1, (h j hj).2.2.2]
theorem zz_Pr_cg {nb nb' : Nat → Int32} (h : zz_ag p p') (hn : ∀ i, i < 16 → nb' i = nb i) (Pr : zz_Pr p nb l g w) : zz_Pr p' nb' l g w := by
  obtain ⟨hz1, hz, lo, ar, hT, hlo, hA, hA0, X, hN⟩ := Pr
  have X' := xs_Circ_cg (p' := p') (fun z e => by subst e; rw [hlo]; omega) hz1 h X
  obtain ⟨h0, h⟩ := h
  unfold zz_Pr
  rw [h0]
  refine ⟨hz1, hz, lo, ar, fun i hi => zz_Nd_cg (h i hi) (hT i hi), hlo, fun i hi => ?_, hA0, X', fun i hi => ?_⟩
  · have a := hA i hi
    unfold td_Ar at a ⊢
    rw [(h i hi).1, (h i hi).2.1, (h i hi).2.2.1, (h i hi).2.2.2]; exact a
  · have a := hN i hi
    unfold ys_N at a ⊢
    dsimp only at a ⊢
    rw [(h i hi).1, (h i hi).2.1, hn i (by omega)]; exact a
theorem zz_On_cg {f : xs_f} {b v : Nat} (h : zz_ag p p') (On : zz_On p f b v) : zz_On p' f b v := by
  obtain ⟨h0, h⟩ := h
  obtain ⟨a1, a2, a3, a4⟩ := On
  unfold zz_On
  rw [h0]
  refine ⟨a1, a2, a3, fun hv al hal => ?_⟩
  obtain ⟨b1, b2⟩ := a4 hv al (fun i hi => by
    have a := hal i hi
    unfold rt_Al at a ⊢
    rw [(h i hi).1, (h i hi).2.2.1, (h i hi).2.2.2] at a; exact a)
  refine ⟨fun i hi => ?_, b2⟩
  have a := b1 i hi
  unfold rt_Wf at a ⊢
  rw [(h i hi).1, (h i hi).2.2.1, (h i hi).2.2.2]; exact a
end
/-- one more statement: kind c, number n, parts a, b, in X's arrays -/
def zz_pm (p : xs_P) (m c n a b : Nat) : xs_P := (p.1, xs_u p.2.1 (16 + m) c, xs_u p.2.2.1 (16 + m) n, xs_u p.2.2.2.1 (16 + m) a, xs_u p.2.2.2.2 (16 + m) b)
theorem xs_make {o : xs_O} {p : xs_P} {l : xs_L} {g : xs_G} {w : xs_W} {k : xs_K} {c n t : Nat} (hm : o.1 < 16) (ht : t ≤ 2) (hth : t ≤ o.2.1) (hh : o.2.1 ≤ 16) (hr : t = 0 → o.2.1 < 16) (hc : c < 128) (hn : n < 128) (hst : ∀ a, a < o.2.1 → o.2.2.2.2.2.2.1 a < 128)
    {post : Int32 → SX → Prop} {x y z : Int32} (hx : x = nI c) (hy : y = nI n) (hz : z = nI t)
    (H : post (nI o.1) (xs (o.1 + 1, o.2.1 - t + 1, o.2.2.1, o.2.2.2.1, o.2.2.2.2.1, o.2.2.2.2.2.1, xs_u o.2.2.2.2.2.2.1 (o.2.1 - t) o.1, o.2.2.2.2.2.2.2) (zz_pm p o.1 c n (if t = 0 then 0 else o.2.2.2.2.2.2.1 (o.2.1 - t)) (if t ≤ 1 then 0 else o.2.2.2.2.2.2.1 (o.2.1 - t + 1))) l g w k)) :
    wpX_make post (xs o p l g w k) x y z := by
  subst hx hy hz
  have e16 : (16 : Int32) + nI o.1 = nI (16 + o.1) := nI_add 16 _
  have eh : nI o.2.1 - nI t = nI (o.2.1 - t) := pk_sub hth
  have h32 : vp_in (nI (16 + o.1)) 32 := vp_in_nI (by omega) (by omega)
  have hh16 : vp_in (nI (o.2.1 - t)) 16 := vp_in_nI (by omega) (by omega)
  have i31 : 16 + o.1 < 2 ^ 31 := by omega
  refine nm_r e16 (nm_r eh (And.intro h32 (nm_r (xs_pb rfl i31 rfl hc) (And.intro h32 (nm_r (xs_pb rfl i31 rfl hn) ?_)))))
  -- the last part of it
  have L87 : ∀ (z0 : Int32) (b : Nat), z0 = nI b → b < 128 → b = (if t ≤ 1 then 0 else o.2.2.2.2.2.2.1 (o.2.1 - t + 1)) → wX_make_87 post z0 (nI (16 + o.1)) (nI ((p.1, xs_u p.2.1 (16 + o.1) c, xs_u p.2.2.1 (16 + o.1) n, xs_u p.2.2.2.1 (16 + o.1) (if t = 0 then 0 else o.2.2.2.2.2.2.1 (o.2.1 - t)), p.2.2.2.2) : xs_P).1) (nI ((o.1, o.2.1 - t, o.2.2) : xs_O).1) (nI ((o.1, o.2.1 - t, o.2.2) : xs_O).2.1) (nI g.1) (nI k.1) (nI ((o.1, o.2.1 - t, o.2.2) : xs_O).2.2.1) (nI ((o.1, o.2.1 - t, o.2.2) : xs_O).2.2.2.1) (nI ((o.1, o.2.1 - t, o.2.2) : xs_O).2.2.2.2.1) (nI ((o.1, o.2.1 - t, o.2.2) : xs_O).2.2.2.2.2.1) (xs_A ((p.1, xs_u p.2.1 (16 + o.1) c, xs_u p.2.2.1 (16 + o.1) n, xs_u p.2.2.2.1 (16 + o.1) (if t = 0 then 0 else o.2.2.2.2.2.2.1 (o.2.1 - t)), p.2.2.2.2) : xs_P).2.1) (xs_A ((p.1, xs_u p.2.1 (16 + o.1) c, xs_u p.2.2.1 (16 + o.1) n, xs_u p.2.2.2.1 (16 + o.1) (if t = 0 then 0 else o.2.2.2.2.2.2.1 (o.2.1 - t)), p.2.2.2.2) : xs_P).2.2.1) (xs_A ((p.1, xs_u p.2.1 (16 + o.1) c, xs_u p.2.2.1 (16 + o.1) n, xs_u p.2.2.2.1 (16 + o.1) (if t = 0 then 0 else o.2.2.2.2.2.2.1 (o.2.1 - t)), p.2.2.2.2) : xs_P).2.2.2.1) (xs_A ((p.1, xs_u p.2.1 (16 + o.1) c, xs_u p.2.2.1 (16 + o.1) n, xs_u p.2.2.2.1 (16 + o.1) (if t = 0 then 0 else o.2.2.2.2.2.2.1 (o.2.1 - t)), p.2.2.2.2) : xs_P).2.2.2.2) (xs_A ((o.1, o.2.1 - t, o.2.2) : xs_O).2.2.2.2.2.2.1) (xs_A ((o.1, o.2.1 - t, o.2.2) : xs_O).2.2.2.2.2.2.2.1) (xs_A g.2.1) (xs_A g.2.2.1) (xs_A g.2.2.2.1) (xs_A g.2.2.2.2) (xs_A ((o.1, o.2.1 - t, o.2.2) : xs_O).2.2.2.2.2.2.2.2.1) (xs_A w.1) (xs_A w.2.1) (xs_A w.2.2.1) (xs_A w.2.2.2.1) (xs_A w.2.2.2.2.1) (xs_A l.1) (xs_A l.2) (xs_A w.2.2.2.2.2) (xs_A ((o.1, o.2.1 - t, o.2.2) : xs_O).2.2.2.2.2.2.2.2.2.1) (xs_A k.2.1) (xs_A k.2.2) (xs_A ((o.1, o.2.1 - t, o.2.2) : xs_O).2.2.2.2.2.2.2.2.2.2) := by
    intro z0 b hz0 hb hb'
    subst hb'
    refine And.intro h32 (nm_r (xs_pb' rfl i31 hz0 hb) (And.intro hh16 (nm_r (xs_pb (k := o.2.1 - t) (x := o.1) rfl (by omega) rfl (by omega)) (nm_r (nI_1 _) (nm_r (nI_1 _) ?_)))))
    rw [show nI (o.1 + 1) - 1 = nI o.1 from nI_pred _]
    exact H
  have L60 : ∀ (z0 : Int32) (a : Nat), z0 = nI a → a < 128 → a = (if t = 0 then 0 else o.2.2.2.2.2.2.1 (o.2.1 - t)) → wX_make_60 post (nI t) (nI (16 + o.1)) z0 (nI (16 + o.1)) (nI ((p.1, xs_u p.2.1 (16 + o.1) c, xs_u p.2.2.1 (16 + o.1) n, p.2.2.2) : xs_P).1) (nI ((o.1, o.2.1 - t, o.2.2) : xs_O).1) (nI ((o.1, o.2.1 - t, o.2.2) : xs_O).2.1) (nI g.1) (nI k.1) (nI ((o.1, o.2.1 - t, o.2.2) : xs_O).2.2.1) (nI ((o.1, o.2.1 - t, o.2.2) : xs_O).2.2.2.1) (nI ((o.1, o.2.1 - t, o.2.2) : xs_O).2.2.2.2.1) (nI ((o.1, o.2.1 - t, o.2.2) : xs_O).2.2.2.2.2.1) (xs_A ((p.1, xs_u p.2.1 (16 + o.1) c, xs_u p.2.2.1 (16 + o.1) n, p.2.2.2) : xs_P).2.1) (xs_A ((p.1, xs_u p.2.1 (16 + o.1) c, xs_u p.2.2.1 (16 + o.1) n, p.2.2.2) : xs_P).2.2.1) (xs_A ((p.1, xs_u p.2.1 (16 + o.1) c, xs_u p.2.2.1 (16 + o.1) n, p.2.2.2) : xs_P).2.2.2.1) (xs_A ((p.1, xs_u p.2.1 (16 + o.1) c, xs_u p.2.2.1 (16 + o.1) n, p.2.2.2) : xs_P).2.2.2.2) (xs_A ((o.1, o.2.1 - t, o.2.2) : xs_O).2.2.2.2.2.2.1) (xs_A ((o.1, o.2.1 - t, o.2.2) : xs_O).2.2.2.2.2.2.2.1) (xs_A g.2.1) (xs_A g.2.2.1) (xs_A g.2.2.2.1) (xs_A g.2.2.2.2) (xs_A ((o.1, o.2.1 - t, o.2.2) : xs_O).2.2.2.2.2.2.2.2.1) (xs_A w.1) (xs_A w.2.1) (xs_A w.2.2.1) (xs_A w.2.2.2.1) (xs_A w.2.2.2.2.1) (xs_A l.1) (xs_A l.2) (xs_A w.2.2.2.2.2) (xs_A ((o.1, o.2.1 - t, o.2.2) : xs_O).2.2.2.2.2.2.2.2.2.1) (xs_A k.2.1) (xs_A k.2.2) (xs_A ((o.1, o.2.1 - t, o.2.2) : xs_O).2.2.2.2.2.2.2.2.2.2) := by
    intro z0 a hz0 ha ha'
    subst ha'
    refine And.intro h32 (nm_r (xs_pb' rfl i31 hz0 ha) ?_)
    by_cases c1 : t ≤ 1
    · exact br_t (nI_le (b := 1) c1 (by omega)) (L87 0 0 rfl (by omega) (by rw [if_pos c1]))
    · have e1 : nI (o.2.1 - t) + 1 = nI (o.2.1 - t + 1) := nI_1 _
      refine br_f (nI_ge (a := 1) (by omega) (by omega)) (And.intro (by rw [show nI (o.2.1 - t) + 1 = _ from e1]; exact vp_in_nI (by omega) (by omega)) (L87 _ _ (by rw [show nI (o.2.1 - t) + 1 = _ from e1]; exact xs_at (by omega)) (hst _ (by omega)) (by rw [if_neg c1])))
  by_cases c0 : t = 0
  · exact br_t (by rw [c0]; decide) (L60 0 0 rfl (by omega) (by rw [if_pos c0]))
  · exact br_f (nI_nle (by omega) (by omega)) (And.intro hh16 (L60 _ _ (xs_at (by omega)) (hst _ (by omega)) (by rw [if_neg c0])))
theorem ys_make {p : ys_P} {o : ys_O} {s : Nat × Nat} {l : xs_f} {j : ys_J} {d : ys_D} {c a b : Nat} {rn : Int32} (hm : o.1 < 16) (hh : o.2.1 < 16) {post : Int32 → SY → Prop} {x y z : Int32} (hx : x = nI c) (hy : y = nI a) (hz : z = nI b)
    (H : post (nI o.1) (ys (p.1, xs_u p.2.1 (16 + o.1) c, upd p.2.2.1 (16 + o.1) rn, xs_u p.2.2.2.1 (16 + o.1) a, xs_u p.2.2.2.2 (16 + o.1) b) (o.1 + 1, o.2.1 + 1, o.2.2.1, o.2.2.2.1, o.2.2.2.2.1, o.2.2.2.2.2.1, o.2.2.2.2.2.2.1, o.2.2.2.2.2.2.2.1, xs_u o.2.2.2.2.2.2.2.2.1 o.2.1 o.1, o.2.2.2.2.2.2.2.2.2) s l j d)) :
    wpY_make post (ys p o s l j d) x rn y z := by
  have e16 : (16 : Int32) + nI o.1 = nI (16 + o.1) := nI_add 16 _
  have h32 : vp_in ((16 : Int32) + nI o.1) 32 := by rw [e16]; exact vp_in_nI (by omega) (by omega)
  have hh16 : vp_in (nI o.2.1) 16 := vp_in_nI hh (by omega)
  have i31 : 16 + o.1 < 2 ^ 31 := by omega
  exact And.intro h32 (nm_r (ys_pi e16 i31 hx) (And.intro h32 (nm_r (e' := upd p.2.2.1 (16 + o.1) rn) (by rw [e16, nI_clamp i31]) (And.intro h32 (nm_r (ys_pi e16 i31 hy) (And.intro h32 (nm_r (ys_pi e16 i31 hz) (And.intro hh16 (nm_r (ys_pi rfl (by omega) rfl) (nm_r (nI_1 _) (nm_r (nI_1 _) H)))))))))))
/-- both make the same statement -/
theorem zz_Mk_s {p : xs_P} {nb : Nat → Int32} {m h c n t : Nat} {st : xs_f} {rn : Int32} (Mk : zz_Mk p nb m h st) (hm : m < 16) (ht : t ≤ 2) (hth : t ≤ h) (hc : (t = 0 ∧ c < 4) ∨ (t = 1 ∧ 4 ≤ c ∧ c < 7) ∨ (t = 2 ∧ 7 ≤ c ∧ c ≤ 9)) (hn : n < 6) (hn3 : c = 3 → n < 3)
    (hrn : c = 2 ∨ c = 3 ∨ c = 6 ∨ c = 9 → rn = nI n) : zz_Mk (zz_pm p m c n (if t = 0 then 0 else st (h - t)) (if t ≤ 1 then 0 else st (h - t + 1))) (upd nb (16 + m) rn) (m + 1) (h - t + 1) (xs_u st (h - t) m) := by
  obtain ⟨M1, M2, M3, lo, M4, M5, M6, M7, M8⟩ := Mk
  have new1 : xs_u p.2.1 (16 + m) c (16 + m) = c := xs_us _ _ _
  have new2 : xs_u p.2.2.1 (16 + m) n (16 + m) = n := xs_us _ _ _
  have top : 0 < h → st (h - 1) = m - 1 := fun h0 => (M7 h0).1
  have hm0 : 0 < h → 0 < m := fun h0 => by have := M6 0 h0; omega
  have lolt : ∀ i, i < m → lo i ≤ i := fun i hi => (M4 i hi).2.2.2.1
  -- the first of the new subtree
  refine ⟨by omega, by omega, fun _ => by omega, xs_u lo m (if t = 0 then m else lo (st (h - t))), fun i hi => ?_, fun i hi => ?_, fun a ha => ?_, fun _ => ⟨?_, ?_⟩, fun a ha => ?_⟩
  · by_cases e : i = m
    · subst e
      unfold rt_Nd
      dsimp only
      show xs_u p.2.1 (16 + i) c (16 + i) ≤ 9 ∧ xs_u p.2.2.1 (16 + i) n (16 + i) < 6 ∧ (xs_u p.2.1 (16 + i) c (16 + i) = 3 → xs_u p.2.2.1 (16 + i) n (16 + i) < 3) ∧ xs_u lo i (if t = 0 then i else lo (st (h - t))) i ≤ i ∧ xs_u p.2.2.2.1 (16 + i) (if t = 0 then 0 else st (h - t)) (16 + i) < 16 ∧ xs_u p.2.2.2.2 (16 + i) (if t ≤ 1 then 0 else st (h - t + 1)) (16 + i) < 16 ∧
        (xs_u p.2.1 (16 + i) c (16 + i) < 4 → xs_u lo i (if t = 0 then i else lo (st (h - t))) i = i) ∧
        (4 ≤ xs_u p.2.1 (16 + i) c (16 + i) → xs_u p.2.1 (16 + i) c (16 + i) < 7 → xs_u p.2.2.2.1 (16 + i) (if t = 0 then 0 else st (h - t)) (16 + i) + 1 = i ∧ xs_u lo i (if t = 0 then i else lo (st (h - t))) i = xs_u lo i (if t = 0 then i else lo (st (h - t))) (xs_u p.2.2.2.1 (16 + i) (if t = 0 then 0 else st (h - t)) (16 + i))) ∧
        (7 ≤ xs_u p.2.1 (16 + i) c (16 + i) → xs_u p.2.2.2.2 (16 + i) (if t ≤ 1 then 0 else st (h - t + 1)) (16 + i) + 1 = i ∧ xs_u p.2.2.2.1 (16 + i) (if t = 0 then 0 else st (h - t)) (16 + i) + 1 = xs_u lo i (if t = 0 then i else lo (st (h - t))) (xs_u p.2.2.2.2 (16 + i) (if t ≤ 1 then 0 else st (h - t + 1)) (16 + i)) ∧ xs_u lo i (if t = 0 then i else lo (st (h - t))) i = xs_u lo i (if t = 0 then i else lo (st (h - t))) (xs_u p.2.2.2.1 (16 + i) (if t = 0 then 0 else st (h - t)) (16 + i)))
      rw [new1, new2, xs_us, xs_us, xs_us]
      rcases hc with ⟨e, c1⟩ | ⟨e, c1, c2⟩ | ⟨e, c1, c2⟩
      · subst e
        exact ⟨by omega, hn, hn3, by rw [if_pos rfl]; omega, by rw [if_pos rfl]; omega, by rw [if_pos (by omega)]; omega, fun _ => by rw [if_pos rfl], fun q => by omega, fun q => by omega⟩
      · subst e
        have tp := top (by omega)
        have m0 := hm0 (by omega)
        have s1 : st (h - 1) < i := by omega
        have l1 := lolt _ s1
        rw [if_neg (by omega), if_neg (by omega), if_pos (by omega)]
        refine ⟨by omega, hn, hn3, by omega, by omega, by omega, fun q => by omega, fun _ _ => ⟨by omega, ?_⟩, fun q => by omega⟩
        rw [xs_un (by omega)]
      · subst e
        have tp := top (by omega)
        have m0 := hm0 (by omega)
        have s1 : st (h - 1) < i := by omega
        have s2 : st (h - 2) < i := M6 _ (by omega)
        have ch := M8 (h - 2) (by omega)
        have e21 : h - 2 + 1 = h - 1 := by omega
        rw [e21] at ch
        have l1 := lolt _ s1
        have l2 := lolt _ s2
        rw [if_neg (by omega), if_neg (by omega), if_neg (by omega), e21]
        refine ⟨by omega, hn, hn3, by omega, by omega, by omega, fun q => by omega, fun q q' => by omega, fun _ => ⟨by omega, ?_, ?_⟩⟩
        · rw [xs_un (by omega)]; exact ch
        · rw [xs_un (by omega)]
    · have a := M4 i (by omega)
      have P := rt_Nd_p M4 (i := i) (by omega)
      have u1 : xs_u p.2.1 (16 + m) c (16 + i) = p.2.1 (16 + i) := xs_un (by omega)
      have u2 : xs_u p.2.2.1 (16 + m) n (16 + i) = p.2.2.1 (16 + i) := xs_un (by omega)
      have u3 : xs_u p.2.2.2.1 (16 + m) (if t = 0 then 0 else st (h - t)) (16 + i) = p.2.2.2.1 (16 + i) := xs_un (by omega)
      have u4 : xs_u p.2.2.2.2 (16 + m) (if t ≤ 1 then 0 else st (h - t + 1)) (16 + i) = p.2.2.2.2 (16 + i) := xs_un (by omega)
      have ul : xs_u lo m (if t = 0 then m else lo (st (h - t))) i = lo i := xs_un (by omega)
      refine zz_Nd_cg (kd := fun i => p.2.1 (16 + i)) (nm := fun i => p.2.2.1 (16 + i)) (pp := fun i => p.2.2.2.1 (16 + i)) (pq := fun i => p.2.2.2.2 (16 + i)) ⟨u1, u2, u3, u4⟩ ?_
      obtain ⟨a1, a2, a3, a4, a5, a6, a7, a8, a9⟩ := a
      dsimp only at a1 a2 a3 a4 a5 a6 a7 a8 a9 P
      refine ⟨a1, a2, a3, by rw [ul]; exact a4, a5, a6, fun q => by rw [ul]; exact a7 q, fun q q' => ?_, fun q => ?_⟩
      · have q : 4 ≤ p.2.1 (16 + i) := q
        have b := a8 q q'
        have e1 : xs_u lo m (if t = 0 then m else lo (st (h - t))) (p.2.2.2.1 (16 + i)) = lo (p.2.2.2.1 (16 + i)) := xs_un (by omega)
        dsimp only
        rw [ul, e1]; exact b
      · have q : 7 ≤ p.2.1 (16 + i) := q
        have b := a9 q
        have c := P.2 q
        have e1 : xs_u lo m (if t = 0 then m else lo (st (h - t))) (p.2.2.2.1 (16 + i)) = lo (p.2.2.2.1 (16 + i)) := xs_un (by omega)
        have e2 : xs_u lo m (if t = 0 then m else lo (st (h - t))) (p.2.2.2.2 (16 + i)) = lo (p.2.2.2.2 (16 + i)) := xs_un (by omega)
        dsimp only
        rw [ul, e1, e2]; exact b
  · by_cases e : i = m
    · subst e
      show xs_u p.2.1 (16 + i) c (16 + i) = 2 ∨ xs_u p.2.1 (16 + i) c (16 + i) = 3 ∨ xs_u p.2.1 (16 + i) c (16 + i) = 6 ∨ xs_u p.2.1 (16 + i) c (16 + i) = 9 → upd nb (16 + i) rn (16 + i) = nI (xs_u p.2.2.1 (16 + i) n (16 + i))
      rw [new1, new2, pk_us]; exact hrn
    · show xs_u p.2.1 (16 + m) c (16 + i) = 2 ∨ xs_u p.2.1 (16 + m) c (16 + i) = 3 ∨ xs_u p.2.1 (16 + m) c (16 + i) = 6 ∨ xs_u p.2.1 (16 + m) c (16 + i) = 9 → upd nb (16 + m) rn (16 + i) = nI (xs_u p.2.2.1 (16 + m) n (16 + i))
      rw [xs_un (by omega), xs_un (by omega), pk_un (by omega)]; exact M5 i (by omega)
  · by_cases e : a = h - t
    · rw [e, xs_us]; omega
    · rw [xs_un e]; have := M6 a (by omega); omega
  · rw [Nat.add_sub_cancel, xs_us]; omega
  · by_cases e : h - t = 0
    · rw [e, xs_us, xs_us]
      rcases hc with ⟨e', -⟩ | ⟨e', -⟩ | ⟨e', -⟩
      · subst e'
        rw [if_pos rfl]
        have : h = 0 := by omega
        omega
      · rw [if_neg (by omega)]; exact (M7 (by omega)).2
      · rw [if_neg (by omega)]; exact (M7 (by omega)).2
    · have s0 := M6 0 (by omega)
      have e1 : xs_u st (h - t) m 0 = st 0 := xs_un (by omega)
      rw [e1, xs_un (by omega)]; exact (M7 (by omega)).2
  · have sa := M6 a (by omega)
    rw [xs_un (by omega)]
    by_cases e : a + 1 = h - t
    · rw [e, xs_us, xs_us]
      rcases hc with ⟨e', -⟩ | ⟨e', -⟩ | ⟨e', -⟩
      · subst e'
        rw [if_pos rfl]
        have tp := top (by omega)
        have : a = h - 1 := by omega
        rw [this]; omega
      · subst e'
        rw [if_neg (by omega)]
        have := M8 a (by omega)
        rw [e] at this; exact this
      · subst e'
        rw [if_neg (by omega)]
        have := M8 a (by omega)
        rw [e] at this; exact this
    · have sa1 := M6 (a + 1) (by omega)
      rw [xs_un e, xs_un (by omega)]; exact M8 a (by omega)
theorem zz_make {k c n t : Nat} {o : xs_O} {p : xs_P} {l : xs_L} {g : xs_G} {w : xs_W} {kk : xs_K} {oy : ys_O} {nb : Nat → Int32} {s0 : Nat × Nat} {l0 : xs_f} {j0 : ys_J} {d0 : ys_D} {rn x y z a b c' : Int32}
    (Pr : zz_Pr p nb l g w) (On : zz_On p o.2.2.2.2.2.2.2.2.2.1 o.2.2.1 o.2.2.2.1) (Mk : zz_Mk p nb o.1 o.2.1 o.2.2.2.2.2.2.1) (St : zz_St o.2.2.2.2.1 o.2.2.2.2.2.2.2.2.2.2 (oy.2.2.2.2.2.2.1, oy.2.2.2.2.2.2.2.1)) (Eq : zz_Eq o oy) (hl0 : ∀ t, t < 16 → l0 t ≤ 1)
    (hm : o.1 < 16) (hth : t ≤ o.2.1) (hc : (t = 0 ∧ c < 4) ∨ (t = 1 ∧ 4 ≤ c ∧ c < 7) ∨ (t = 2 ∧ 7 ≤ c ∧ c ≤ 9)) (hn : n < 6) (hn3 : c = 3 → n < 3) (hrn : c = 2 ∨ c = 3 ∨ c = 6 ∨ c = 9 → rn = nI n)
    (hx : x = nI c) (hy : y = nI n) (hz : z = nI t) (hc' : c' = nI c) (ha : a = nI (if t = 0 then 0 else o.2.2.2.2.2.2.1 (o.2.1 - t))) (hb : b = nI (if t ≤ 1 then 0 else o.2.2.2.2.2.2.1 (o.2.1 - t + 1))) (Y : (Int32 → SY → Prop) → Prop)
    (hY : ∀ post : Int32 → SY → Prop, wpY_make post (ys (p.1, p.2.1, nb, p.2.2.2.1, p.2.2.2.2) (oy.1, oy.2.1 - t, oy.2.2) s0 l0 j0 d0) c' rn a b → Y post) :
    wpX_make (fun r u' => Y (fun r' v' => r' = r ∧ i_Rel k u' v')) (xs o p l g w kk) x y z := by
  obtain ⟨q1, q2, q3, q4, q5, q6, q7, q8⟩ := Eq
  have Mk' := zz_Mk_s (rn := rn) Mk hm (by omega) hth hc hn hn3 hrn
  obtain ⟨M1, M2, M3, -, -, -, M6, -, -⟩ := Mk
  have ag : zz_ag p (zz_pm p o.1 c n (if t = 0 then 0 else o.2.2.2.2.2.2.1 (o.2.1 - t)) (if t ≤ 1 then 0 else o.2.2.2.2.2.2.1 (o.2.1 - t + 1))) := by
    have z16 := Pr.2.1
    exact ⟨rfl, fun i hi => ⟨xs_un (by omega), xs_un (by omega), xs_un (by omega), xs_un (by omega)⟩⟩
  refine xs_make hm (by omega) hth (by omega) (fun h => by omega) (by omega) (by omega) (fun a ha => by have := M6 a ha; omega) hx hy hz (hY _ (ys_make (by show oy.1 < 16; omega) (by show oy.2.1 - t < 16; omega) hc' ha hb ⟨by rw [q1], ?_⟩))
  refine ⟨_, _, l, g, w, kk, (oy.1 + 1, oy.2.1 - t + 1, oy.2.2.1, oy.2.2.2.1, oy.2.2.2.2.1, oy.2.2.2.2.2.1, oy.2.2.2.2.2.2.1, oy.2.2.2.2.2.2.2.1, xs_u oy.2.2.2.2.2.2.2.2.1 (oy.2.1 - t) oy.1, oy.2.2.2.2.2.2.2.2.2), upd nb (16 + oy.1) rn, s0, l0, j0, d0, rfl, ?_, zz_Pr_cg ag (fun i hi => pk_un (by omega)) Pr, zz_On_cg ag On, ?_, St, ⟨congrArg (· + 1) q1, ?_, q3, q4, q5, q6, ?_, q8⟩, hl0⟩
  · rw [← q1]; rfl
  · rw [q1]; exact Mk'
  · show oy.2.1 - t + 1 = o.2.1 - t + 1; rw [q2]
  · show xs_u oy.2.2.2.2.2.2.2.2.1 (oy.2.1 - t) oy.1 = xs_u o.2.2.2.2.2.2.1 (o.2.1 - t) o.1
    rw [q7, q2, q1]
end
section
/-! ===== simple, one, two ===== -/
theorem zz_gt {x : Int32} {n : Nat} (hn : n < 2 ^ 30) (h0 : ¬ x < 0) (h : ¬ nI n < x) : ∃ c : Nat, c < n + 1 ∧ x = nI c := by
  rcases pk_ix x (n := n + 1) (by omega) with a | a | a
  · exact absurd a h0
  · refine absurd ?_ h
    rw [Int32.lt_iff_toInt_lt, nI_toInt (by omega)]
    rw [Int32.le_iff_toInt_le, nI_toInt (by omega)] at a
    omega
  · exact a
theorem i_vc_simple {k : Nat} {u : SX} {v : SY} (I : i_Rel k u v) (hk : k + 3 ≤ 1536) (v1 : Int32) (v2 : Int32) : wpX_simple (fun r u' => wpY_simple (fun r' v' => r' = r ∧ i_Rel (k + 3) u' v') v v1 v2) u v1 v2 := by
  have I' := I
  obtain ⟨o, p, l, g, w, kk, oy, nb, s0, l0, j0, d0, rfl, rfl, Pr, On, Mk, St, Eq, hl0⟩ := I
  have m16 := Mk.1
  have mh := Mk.2.1
  have fin : ∀ (c n : Nat), v1 = nI c → c < 4 → n < 6 → (c = 3 → n < 3) → (c = 2 ∨ c = 3 → v2 = nI n) → (c < 2 → n = 0) →
      (∀ post : Int32 → SX → Prop, wX_simple_38 post v1 v2 (nI p.1) (nI o.1) (nI o.2.1) (nI g.1) (nI kk.1) (nI o.2.2.1) (nI o.2.2.2.1) (nI o.2.2.2.2.1) (nI o.2.2.2.2.2.1) (xs_A p.2.1) (xs_A p.2.2.1) (xs_A p.2.2.2.1) (xs_A p.2.2.2.2) (xs_A o.2.2.2.2.2.2.1) (xs_A o.2.2.2.2.2.2.2.1) (xs_A g.2.1) (xs_A g.2.2.1) (xs_A g.2.2.2.1) (xs_A g.2.2.2.2) (xs_A o.2.2.2.2.2.2.2.2.1) (xs_A w.1) (xs_A w.2.1) (xs_A w.2.2.1) (xs_A w.2.2.2.1) (xs_A w.2.2.2.2.1) (xs_A l.1) (xs_A l.2) (xs_A w.2.2.2.2.2) (xs_A o.2.2.2.2.2.2.2.2.2.1) (xs_A kk.2.1) (xs_A kk.2.2) (xs_A o.2.2.2.2.2.2.2.2.2.2) → wpX_simple post (xs o p l g w kk) v1 v2) →
      (∀ post : Int32 → SY → Prop, wY_simple_38 post v1 v2 (nI oy.1) (nI oy.2.1) (nI ((p.1, p.2.1, nb, p.2.2.2.1, p.2.2.2.2) : ys_P).1) (nI oy.2.2.1) (nI oy.2.2.2.1) (nI oy.2.2.2.2.1) (nI s0.1) (nI s0.2) (nI oy.2.2.2.2.2.1) (nI oy.2.2.2.2.2.2.1) (nI oy.2.2.2.2.2.2.2.1) (xs_A ((p.1, p.2.1, nb, p.2.2.2.1, p.2.2.2.2) : ys_P).2.1) ((p.1, p.2.1, nb, p.2.2.2.1, p.2.2.2.2) : ys_P).2.2.1 (xs_A ((p.1, p.2.1, nb, p.2.2.2.1, p.2.2.2.2) : ys_P).2.2.2.1) (xs_A ((p.1, p.2.1, nb, p.2.2.2.1, p.2.2.2.2) : ys_P).2.2.2.2) (xs_A oy.2.2.2.2.2.2.2.2.1) (xs_A oy.2.2.2.2.2.2.2.2.2.1) (xs_A oy.2.2.2.2.2.2.2.2.2.2) (xs_A l0) (xs_A j0.1) (xs_A j0.2.1) (ys_E j0.2.2.1) (xs_A j0.2.2.2) (xs_A d0.1) (xs_A d0.2.1) (xs_A d0.2.2.1) (xs_A d0.2.2.2) → wpY_simple post (ys (p.1, p.2.1, nb, p.2.2.2.1, p.2.2.2.2) oy s0 l0 j0 d0) v1 v2) →
      wpX_simple (fun r u' => wpY_simple (fun r' v' => r' = r ∧ i_Rel (k + 3) u' v') (ys (p.1, p.2.1, nb, p.2.2.2.1, p.2.2.2.2) oy s0 l0 j0 d0) v1 v2) (xs o p l g w kk) v1 v2 := by
    intro c n e1 c4 n6 n3 e2 en XS YS
    refine XS _ ?_
    by_cases hm : o.1 = 16
    · exact br_t (by show nI o.1 = 16; rw [hm]; rfl) (YS _ (br_t (by show nI oy.1 = 16; rw [Eq.1, hm]; rfl) ⟨rfl, I'⟩))
    · have hmx : ¬ nI o.1 = 16 := xs_ne 16 rfl (by omega) (by omega) hm
      have hmy : ¬ nI oy.1 = 16 := by rw [Eq.1]; exact hmx
      have go : ∀ y : Int32, y = nI n → wX_simple_62 (fun r u' => wpY_simple (fun r' v' => r' = r ∧ i_Rel (k + 3) u' v') (ys (p.1, p.2.1, nb, p.2.2.2.1, p.2.2.2.2) oy s0 l0 j0 d0) v1 v2) y v1 (nI p.1) (nI o.1) (nI o.2.1) (nI g.1) (nI kk.1) (nI o.2.2.1) (nI o.2.2.2.1) (nI o.2.2.2.2.1) (nI o.2.2.2.2.2.1) (xs_A p.2.1) (xs_A p.2.2.1) (xs_A p.2.2.2.1) (xs_A p.2.2.2.2) (xs_A o.2.2.2.2.2.2.1) (xs_A o.2.2.2.2.2.2.2.1) (xs_A g.2.1) (xs_A g.2.2.1) (xs_A g.2.2.2.1) (xs_A g.2.2.2.2) (xs_A o.2.2.2.2.2.2.2.2.1) (xs_A w.1) (xs_A w.2.1) (xs_A w.2.2.1) (xs_A w.2.2.2.1) (xs_A w.2.2.2.2.1) (xs_A l.1) (xs_A l.2) (xs_A w.2.2.2.2.2) (xs_A o.2.2.2.2.2.2.2.2.2.1) (xs_A kk.2.1) (xs_A kk.2.2) (xs_A o.2.2.2.2.2.2.2.2.2.2) := fun y hy =>
        zz_make (k := k + 3) (c := c) (n := n) (t := 0) (rn := v2) (z := 0) (a := 0) (b := 0) (c' := v1) Pr On Mk St Eq hl0 (by omega) (by omega) (Or.inl ⟨rfl, c4⟩) n6 n3 (fun h => e2 (by omega)) e1 hy rfl e1 rfl rfl (fun post => wpY_simple post (ys (p.1, p.2.1, nb, p.2.2.2.1, p.2.2.2.2) oy s0 l0 j0 d0) v1 v2) (fun post H => YS post (br_f hmy H))
      refine br_f hmx ?_
      by_cases c2 : c < 2
      · exact br_t (by rw [e1]; exact nI_lt (b := 2) c2 (by omega)) (go 0 (by rw [en c2]; rfl))
      · exact br_f (by rw [e1]; exact nI_nlt (b := 2) (by omega) (by omega)) (go v2 (e2 (by omega)))
  by_cases h0 : v1 < 0
  · exact br_t h0 (br_t h0 ⟨rfl, I'⟩)
  by_cases h3 : (3 : Int32) < v1
  · exact br_f h0 (br_t h3 (br_f h0 (br_t h3 ⟨rfl, I'⟩)))
  obtain ⟨c, c4, e1⟩ := zz_gt (n := 3) (by omega) h0 h3
  by_cases c2 : c = 2
  · have e2 : v1 = 2 := by rw [e1, c2]; rfl
    have n3 : ¬ v1 = 3 := by rw [e1]; exact xs_ne 3 rfl (by omega) (by omega) (by omega)
    by_cases s0' : v2 < 0
    · exact br_f h0 (br_f h3 (br_t e2 (br_t s0' (br_f (by decide) (br_f h0 (br_f h3 (br_t e2 (br_t s0' (br_f (by decide) ⟨rfl, I'⟩)))))))))
    by_cases s6 : v2 < 6
    · obtain ⟨n, hn, e⟩ : ∃ n : Nat, n < 6 ∧ v2 = nI n := by
        rcases zz_sig v2 with (h | h) | h
        · exact absurd h s0'
        · exact absurd s6 h
        · exact h
      exact fin c n e1 (by omega) hn (fun h => by omega) (fun _ => e) (fun h => by omega) (fun post H => br_f h0 (br_f h3 (br_t e2 (br_f s0' (br_t s6 (br_t rfl (br_f n3 H))))))) (fun post H => br_f h0 (br_f h3 (br_t e2 (br_f s0' (br_t ((zz_l5 v2).mp s6) (br_t rfl (br_f n3 H)))))))
    · exact br_f h0 (br_f h3 (br_t e2 (br_f s0' (br_f s6 (br_f (by decide) (br_f h0 (br_f h3 (br_t e2 (br_f s0' (br_f (fun h => s6 ((zz_l5 v2).mpr h)) (br_f (by decide) ⟨rfl, I'⟩)))))))))))
  have n2 : ¬ v1 = 2 := by rw [e1]; exact xs_ne 2 rfl (by omega) (by omega) c2
  by_cases c3 : c = 3
  · have e3 : v1 = 3 := by rw [e1, c3]; rfl
    by_cases s0' : v2 < 0
    · exact br_f h0 (br_f h3 (br_f n2 (br_t e3 (br_t s0' (br_f h0 (br_f h3 (br_f n2 (br_t e3 (br_t s0' ⟨rfl, I'⟩)))))))))
    by_cases s2 : v2 ≤ 2
    · obtain ⟨n, hn, e⟩ : ∃ n : Nat, n < 3 ∧ v2 = nI n := by
        rcases pk_ix v2 (n := 3) (by omega) with h | h | h
        · exact absurd h s0'
        · rw [Int32.le_iff_toInt_le, nI_toInt (by omega)] at h
          rw [Int32.le_iff_toInt_le] at s2
          have : (2 : Int32).toInt = 2 := by decide
          omega
        · exact h
      exact fin c n e1 (by omega) (by omega) (fun _ => hn) (fun _ => e) (fun h => by omega) (fun post H => br_f h0 (br_f h3 (br_f n2 (br_t e3 (br_f s0' (br_t s2 H)))))) (fun post H => br_f h0 (br_f h3 (br_f n2 (br_t e3 (br_f s0' (br_t s2 H))))))
    · exact br_f h0 (br_f h3 (br_f n2 (br_t e3 (br_f s0' (br_f s2 (br_f h0 (br_f h3 (br_f n2 (br_t e3 (br_f s0' (br_f s2 ⟨rfl, I'⟩)))))))))))
  · have n3 : ¬ v1 = 3 := by rw [e1]; exact xs_ne 3 rfl (by omega) (by omega) c3
    exact fin c 0 e1 (by omega) (by omega) (fun h => by omega) (fun h => by omega) (fun _ => rfl) (fun post H => br_f h0 (br_f h3 (br_f n2 (br_f n3 H)))) (fun post H => br_f h0 (br_f h3 (br_f n2 (br_f n3 H))))
theorem i_vc_one {k : Nat} {u : SX} {v : SY} (I : i_Rel k u v) (hk : k + 3 ≤ 1536) (v1 : Int32) (v2 : Int32) : wpX_one (fun r u' => wpY_one (fun r' v' => r' = r ∧ i_Rel (k + 3) u' v') v v1 v2) u v1 v2 := by
  have I' := I
  obtain ⟨o, p, l, g, w, kk, oy, nb, s0, l0, j0, d0, rfl, rfl, Pr, On, Mk, St, Eq, hl0⟩ := I
  have m16 := Mk.1
  have mh := Mk.2.1
  have q2 := Eq.2.1
  have q7 := Eq.2.2.2.2.2.2.1
  have fin : ∀ (c n : Nat), v1 = nI c → c < 3 → n < 6 → (c = 2 → v2 = nI n) → (c < 2 → n = 0) →
      (∀ post : Int32 → SX → Prop, wX_one_24 post v1 v2 (nI p.1) (nI o.1) (nI o.2.1) (nI g.1) (nI kk.1) (nI o.2.2.1) (nI o.2.2.2.1) (nI o.2.2.2.2.1) (nI o.2.2.2.2.2.1) (xs_A p.2.1) (xs_A p.2.2.1) (xs_A p.2.2.2.1) (xs_A p.2.2.2.2) (xs_A o.2.2.2.2.2.2.1) (xs_A o.2.2.2.2.2.2.2.1) (xs_A g.2.1) (xs_A g.2.2.1) (xs_A g.2.2.2.1) (xs_A g.2.2.2.2) (xs_A o.2.2.2.2.2.2.2.2.1) (xs_A w.1) (xs_A w.2.1) (xs_A w.2.2.1) (xs_A w.2.2.2.1) (xs_A w.2.2.2.2.1) (xs_A l.1) (xs_A l.2) (xs_A w.2.2.2.2.2) (xs_A o.2.2.2.2.2.2.2.2.2.1) (xs_A kk.2.1) (xs_A kk.2.2) (xs_A o.2.2.2.2.2.2.2.2.2.2) → wpX_one post (xs o p l g w kk) v1 v2) →
      (∀ post : Int32 → SY → Prop, wY_one_24 post v1 v2 (nI oy.1) (nI oy.2.1) (nI ((p.1, p.2.1, nb, p.2.2.2.1, p.2.2.2.2) : ys_P).1) (nI oy.2.2.1) (nI oy.2.2.2.1) (nI oy.2.2.2.2.1) (nI s0.1) (nI s0.2) (nI oy.2.2.2.2.2.1) (nI oy.2.2.2.2.2.2.1) (nI oy.2.2.2.2.2.2.2.1) (xs_A ((p.1, p.2.1, nb, p.2.2.2.1, p.2.2.2.2) : ys_P).2.1) ((p.1, p.2.1, nb, p.2.2.2.1, p.2.2.2.2) : ys_P).2.2.1 (xs_A ((p.1, p.2.1, nb, p.2.2.2.1, p.2.2.2.2) : ys_P).2.2.2.1) (xs_A ((p.1, p.2.1, nb, p.2.2.2.1, p.2.2.2.2) : ys_P).2.2.2.2) (xs_A oy.2.2.2.2.2.2.2.2.1) (xs_A oy.2.2.2.2.2.2.2.2.2.1) (xs_A oy.2.2.2.2.2.2.2.2.2.2) (xs_A l0) (xs_A j0.1) (xs_A j0.2.1) (ys_E j0.2.2.1) (xs_A j0.2.2.2) (xs_A d0.1) (xs_A d0.2.1) (xs_A d0.2.2.1) (xs_A d0.2.2.2) → wpY_one post (ys (p.1, p.2.1, nb, p.2.2.2.1, p.2.2.2.2) oy s0 l0 j0 d0) v1 v2) →
      wpX_one (fun r u' => wpY_one (fun r' v' => r' = r ∧ i_Rel (k + 3) u' v') (ys (p.1, p.2.1, nb, p.2.2.2.1, p.2.2.2.2) oy s0 l0 j0 d0) v1 v2) (xs o p l g w kk) v1 v2 := by
    intro c n e1 c3 n6 e2 en XS YS
    refine XS _ ?_
    by_cases hm : o.1 = 16
    · exact br_t (by show nI o.1 = 16; rw [hm]; rfl) (YS _ (br_t (by show nI oy.1 = 16; rw [Eq.1, hm]; rfl) ⟨rfl, I'⟩))
    · have hmx : ¬ nI o.1 = 16 := xs_ne 16 rfl (by omega) (by omega) hm
      have hmy : ¬ nI oy.1 = 16 := by rw [Eq.1]; exact hmx
      refine br_f hmx ?_
      by_cases hh : 1 ≤ o.2.1
      · have hx1 : (1 : Int32) ≤ nI o.2.1 := nI_le (a := 1) hh (by omega)
        have hy1 : (1 : Int32) ≤ nI oy.2.1 := by rw [q2]; exact hx1
        have ek : (4 : Int32) + v1 = nI (4 + c) := by rw [e1]; exact nI_add 4 c
        have ed : nI oy.2.1 - 1 = nI (oy.2.1 - 1) := pk_sub (a := oy.2.1) (b := 1) (by omega)
        have go : ∀ y : Int32, y = nI n → wX_one_63 (fun r u' => wpY_one (fun r' v' => r' = r ∧ i_Rel (k + 3) u' v') (ys (p.1, p.2.1, nb, p.2.2.2.1, p.2.2.2.2) oy s0 l0 j0 d0) v1 v2) y (4 + v1) (nI p.1) (nI o.1) (nI o.2.1) (nI g.1) (nI kk.1) (nI o.2.2.1) (nI o.2.2.2.1) (nI o.2.2.2.2.1) (nI o.2.2.2.2.2.1) (xs_A p.2.1) (xs_A p.2.2.1) (xs_A p.2.2.2.1) (xs_A p.2.2.2.2) (xs_A o.2.2.2.2.2.2.1) (xs_A o.2.2.2.2.2.2.2.1) (xs_A g.2.1) (xs_A g.2.2.1) (xs_A g.2.2.2.1) (xs_A g.2.2.2.2) (xs_A o.2.2.2.2.2.2.2.2.1) (xs_A w.1) (xs_A w.2.1) (xs_A w.2.2.1) (xs_A w.2.2.2.1) (xs_A w.2.2.2.2.1) (xs_A l.1) (xs_A l.2) (xs_A w.2.2.2.2.2) (xs_A o.2.2.2.2.2.2.2.2.2.1) (xs_A kk.2.1) (xs_A kk.2.2) (xs_A o.2.2.2.2.2.2.2.2.2.2) := fun y hy =>
          zz_make (k := k + 3) (c := 4 + c) (n := n) (t := 1) (rn := v2) (z := 1) (a := xs_A oy.2.2.2.2.2.2.2.2.1 (nI (oy.2.1 - 1)).toNatClampNeg) (b := 0) (c' := 4 + v1) Pr On Mk St Eq hl0 (by omega) hh (Or.inr (Or.inl ⟨rfl, by omega, by omega⟩)) n6 (fun h => by omega) (fun h => e2 (by omega)) ek hy rfl ek (by rw [if_neg (by omega), q7, q2]; exact xs_at (by omega)) rfl
            (fun post => wpY_one post (ys (p.1, p.2.1, nb, p.2.2.2.1, p.2.2.2.2) oy s0 l0 j0 d0) v1 v2) (fun post H => YS post (br_f hmy (br_t hy1 (nm_r ed (And.intro (vp_in_nI (by omega) (by omega)) H)))))
        refine br_t hx1 ?_
        by_cases c2 : c = 2
        · exact br_t (by rw [e1, c2]; rfl) (go v2 (e2 c2))
        · exact br_f (by rw [e1]; exact xs_ne 2 rfl (by omega) (by omega) c2) (go 0 (by rw [en (by omega)]; rfl))
      · have hx1 : ¬ (1 : Int32) ≤ nI o.2.1 := nI_ge (b := 1) (by omega) (by omega)
        have hy1 : ¬ (1 : Int32) ≤ nI oy.2.1 := by rw [q2]; exact hx1
        exact br_f hx1 (YS _ (br_f hmy (br_f hy1 ⟨rfl, I'⟩)))
  by_cases h0 : v1 < 0
  · exact br_t h0 (br_t h0 ⟨rfl, I'⟩)
  by_cases h3 : (2 : Int32) < v1
  · exact br_f h0 (br_t h3 (br_f h0 (br_t h3 ⟨rfl, I'⟩)))
  obtain ⟨c, c4, e1⟩ := zz_gt (n := 2) (by omega) h0 h3
  by_cases c2 : c = 2
  · have e2 : v1 = 2 := by rw [e1, c2]; rfl
    by_cases s0' : v2 < 0
    · exact br_f h0 (br_f h3 (br_t e2 (br_t s0' (br_f (by decide) (br_f h0 (br_f h3 (br_t e2 (br_t s0' (br_f (by decide) ⟨rfl, I'⟩)))))))))
    by_cases s6 : v2 < 6
    · obtain ⟨n, hn, e⟩ : ∃ n : Nat, n < 6 ∧ v2 = nI n := by
        rcases zz_sig v2 with (h | h) | h
        · exact absurd h s0'
        · exact absurd s6 h
        · exact h
      exact fin c n e1 (by omega) hn (fun _ => e) (fun h => by omega) (fun post H => br_f h0 (br_f h3 (br_t e2 (br_f s0' (br_t s6 (br_t rfl H)))))) (fun post H => br_f h0 (br_f h3 (br_t e2 (br_f s0' (br_t ((zz_l5 v2).mp s6) (br_t rfl H))))))
    · exact br_f h0 (br_f h3 (br_t e2 (br_f s0' (br_f s6 (br_f (by decide) (br_f h0 (br_f h3 (br_t e2 (br_f s0' (br_f (fun h => s6 ((zz_l5 v2).mpr h)) (br_f (by decide) ⟨rfl, I'⟩)))))))))))
  · have n2 : ¬ v1 = 2 := by rw [e1]; exact xs_ne 2 rfl (by omega) (by omega) c2
    exact fin c 0 e1 (by omega) (by omega) (fun h => by omega) (fun _ => rfl) (fun post H => br_f h0 (br_f h3 (br_f n2 H))) (fun post H => br_f h0 (br_f h3 (br_f n2 H)))
theorem i_vc_two {k : Nat} {u : SX} {v : SY} (I : i_Rel k u v) (hk : k + 3 ≤ 1536) (v1 : Int32) (v2 : Int32) : wpX_two (fun r u' => wpY_two (fun r' v' => r' = r ∧ i_Rel (k + 3) u' v') v v1 v2) u v1 v2 := by
  have I' := I
  obtain ⟨o, p, l, g, w, kk, oy, nb, s0, l0, j0, d0, rfl, rfl, Pr, On, Mk, St, Eq, hl0⟩ := I
  have m16 := Mk.1
  have mh := Mk.2.1
  have q2 := Eq.2.1
  have q7 := Eq.2.2.2.2.2.2.1
  have fin : ∀ (c n : Nat), v1 = nI c → c < 3 → n < 6 → (c = 2 → v2 = nI n) → (c < 2 → n = 0) →
      (∀ post : Int32 → SX → Prop, wX_two_24 post v1 v2 (nI p.1) (nI o.1) (nI o.2.1) (nI g.1) (nI kk.1) (nI o.2.2.1) (nI o.2.2.2.1) (nI o.2.2.2.2.1) (nI o.2.2.2.2.2.1) (xs_A p.2.1) (xs_A p.2.2.1) (xs_A p.2.2.2.1) (xs_A p.2.2.2.2) (xs_A o.2.2.2.2.2.2.1) (xs_A o.2.2.2.2.2.2.2.1) (xs_A g.2.1) (xs_A g.2.2.1) (xs_A g.2.2.2.1) (xs_A g.2.2.2.2) (xs_A o.2.2.2.2.2.2.2.2.1) (xs_A w.1) (xs_A w.2.1) (xs_A w.2.2.1) (xs_A w.2.2.2.1) (xs_A w.2.2.2.2.1) (xs_A l.1) (xs_A l.2) (xs_A w.2.2.2.2.2) (xs_A o.2.2.2.2.2.2.2.2.2.1) (xs_A kk.2.1) (xs_A kk.2.2) (xs_A o.2.2.2.2.2.2.2.2.2.2) → wpX_two post (xs o p l g w kk) v1 v2) →
      (∀ post : Int32 → SY → Prop, wY_two_24 post v1 v2 (nI oy.1) (nI oy.2.1) (nI ((p.1, p.2.1, nb, p.2.2.2.1, p.2.2.2.2) : ys_P).1) (nI oy.2.2.1) (nI oy.2.2.2.1) (nI oy.2.2.2.2.1) (nI s0.1) (nI s0.2) (nI oy.2.2.2.2.2.1) (nI oy.2.2.2.2.2.2.1) (nI oy.2.2.2.2.2.2.2.1) (xs_A ((p.1, p.2.1, nb, p.2.2.2.1, p.2.2.2.2) : ys_P).2.1) ((p.1, p.2.1, nb, p.2.2.2.1, p.2.2.2.2) : ys_P).2.2.1 (xs_A ((p.1, p.2.1, nb, p.2.2.2.1, p.2.2.2.2) : ys_P).2.2.2.1) (xs_A ((p.1, p.2.1, nb, p.2.2.2.1, p.2.2.2.2) : ys_P).2.2.2.2) (xs_A oy.2.2.2.2.2.2.2.2.1) (xs_A oy.2.2.2.2.2.2.2.2.2.1) (xs_A oy.2.2.2.2.2.2.2.2.2.2) (xs_A l0) (xs_A j0.1) (xs_A j0.2.1) (ys_E j0.2.2.1) (xs_A j0.2.2.2) (xs_A d0.1) (xs_A d0.2.1) (xs_A d0.2.2.1) (xs_A d0.2.2.2) → wpY_two post (ys (p.1, p.2.1, nb, p.2.2.2.1, p.2.2.2.2) oy s0 l0 j0 d0) v1 v2) →
      wpX_two (fun r u' => wpY_two (fun r' v' => r' = r ∧ i_Rel (k + 3) u' v') (ys (p.1, p.2.1, nb, p.2.2.2.1, p.2.2.2.2) oy s0 l0 j0 d0) v1 v2) (xs o p l g w kk) v1 v2 := by
    intro c n e1 c3 n6 e2 en XS YS
    refine XS _ ?_
    by_cases hm : o.1 = 16
    · exact br_t (by show nI o.1 = 16; rw [hm]; rfl) (YS _ (br_t (by show nI oy.1 = 16; rw [Eq.1, hm]; rfl) ⟨rfl, I'⟩))
    · have hmx : ¬ nI o.1 = 16 := xs_ne 16 rfl (by omega) (by omega) hm
      have hmy : ¬ nI oy.1 = 16 := by rw [Eq.1]; exact hmx
      refine br_f hmx ?_
      by_cases hh : 2 ≤ o.2.1
      · have hx1 : (2 : Int32) ≤ nI o.2.1 := nI_le (a := 2) hh (by omega)
        have hy1 : (2 : Int32) ≤ nI oy.2.1 := by rw [q2]; exact hx1
        have ek : (7 : Int32) + v1 = nI (7 + c) := by rw [e1]; exact nI_add 7 c
        have ed : nI oy.2.1 - 2 = nI (oy.2.1 - 2) := pk_sub (a := oy.2.1) (b := 2) (by omega)
        have ed1 : nI (oy.2.1 - 2) + 1 = nI (oy.2.1 - 2 + 1) := nI_1 _
        have go : ∀ y : Int32, y = nI n → wX_two_64 (fun r u' => wpY_two (fun r' v' => r' = r ∧ i_Rel (k + 3) u' v') (ys (p.1, p.2.1, nb, p.2.2.2.1, p.2.2.2.2) oy s0 l0 j0 d0) v1 v2) y (7 + v1) (nI p.1) (nI o.1) (nI o.2.1) (nI g.1) (nI kk.1) (nI o.2.2.1) (nI o.2.2.2.1) (nI o.2.2.2.2.1) (nI o.2.2.2.2.2.1) (xs_A p.2.1) (xs_A p.2.2.1) (xs_A p.2.2.2.1) (xs_A p.2.2.2.2) (xs_A o.2.2.2.2.2.2.1) (xs_A o.2.2.2.2.2.2.2.1) (xs_A g.2.1) (xs_A g.2.2.1) (xs_A g.2.2.2.1) (xs_A g.2.2.2.2) (xs_A o.2.2.2.2.2.2.2.2.1) (xs_A w.1) (xs_A w.2.1) (xs_A w.2.2.1) (xs_A w.2.2.2.1) (xs_A w.2.2.2.2.1) (xs_A l.1) (xs_A l.2) (xs_A w.2.2.2.2.2) (xs_A o.2.2.2.2.2.2.2.2.2.1) (xs_A kk.2.1) (xs_A kk.2.2) (xs_A o.2.2.2.2.2.2.2.2.2.2) := fun y hy =>
          zz_make (k := k + 3) (c := 7 + c) (n := n) (t := 2) (rn := v2) (z := 2) (a := xs_A oy.2.2.2.2.2.2.2.2.1 (nI (oy.2.1 - 2)).toNatClampNeg) (b := xs_A oy.2.2.2.2.2.2.2.2.1 (nI (oy.2.1 - 2) + 1).toNatClampNeg) (c' := 7 + v1) Pr On Mk St Eq hl0 (by omega) hh (Or.inr (Or.inr ⟨rfl, by omega, by omega⟩)) n6 (fun h => by omega) (fun h => e2 (by omega)) ek hy rfl ek (by rw [if_neg (by omega), q7, q2]; exact xs_at (by omega)) (by rw [if_neg (by omega), ed1, q7, q2]; exact xs_at (by omega))
            (fun post => wpY_two post (ys (p.1, p.2.1, nb, p.2.2.2.1, p.2.2.2.2) oy s0 l0 j0 d0) v1 v2) (fun post H => YS post (br_f hmy (br_t hy1 (nm_r ed (And.intro (vp_in_nI (by omega) (by omega)) (And.intro (by rw [ed1]; exact vp_in_nI (by omega) (by omega)) H))))))
        refine br_t hx1 ?_
        by_cases c2 : c = 2
        · exact br_t (by rw [e1, c2]; rfl) (go v2 (e2 c2))
        · exact br_f (by rw [e1]; exact xs_ne 2 rfl (by omega) (by omega) c2) (go 0 (by rw [en (by omega)]; rfl))
      · have hx1 : ¬ (2 : Int32) ≤ nI o.2.1 := nI_ge (b := 2) (by omega) (by omega)
        have hy1 : ¬ (2 : Int32) ≤ nI oy.2.1 := by rw [q2]; exact hx1
        exact br_f hx1 (YS _ (br_f hmy (br_f hy1 ⟨rfl, I'⟩)))
  by_cases h0 : v1 < 0
  · exact br_t h0 (br_t h0 ⟨rfl, I'⟩)
  by_cases h3 : (2 : Int32) < v1
  · exact br_f h0 (br_t h3 (br_f h0 (br_t h3 ⟨rfl, I'⟩)))
  obtain ⟨c, c4, e1⟩ := zz_gt (n := 2) (by omega) h0 h3
  by_cases c2 : c = 2
  · have e2 : v1 = 2 := by rw [e1, c2]; rfl
    by_cases s0' : v2 < 0
    · exact br_f h0 (br_f h3 (br_t e2 (br_t s0' (br_f (by decide) (br_f h0 (br_f h3 (br_t e2 (br_t s0' (br_f (by decide) ⟨rfl, I'⟩)))))))))
    by_cases s6 : v2 < 6
    · obtain ⟨n, hn, e⟩ : ∃ n : Nat, n < 6 ∧ v2 = nI n := by
        rcases zz_sig v2 with (h | h) | h
        · exact absurd h s0'
        · exact absurd s6 h
        · exact h
      exact fin c n e1 (by omega) hn (fun _ => e) (fun h => by omega) (fun post H => br_f h0 (br_f h3 (br_t e2 (br_f s0' (br_t s6 (br_t rfl H)))))) (fun post H => br_f h0 (br_f h3 (br_t e2 (br_f s0' (br_t ((zz_l5 v2).mp s6) (br_t rfl H))))))
    · exact br_f h0 (br_f h3 (br_t e2 (br_f s0' (br_f s6 (br_f (by decide) (br_f h0 (br_f h3 (br_t e2 (br_f s0' (br_f (fun h => s6 ((zz_l5 v2).mpr h)) (br_f (by decide) ⟨rfl, I'⟩)))))))))))
  · have n2 : ¬ v1 = 2 := by rw [e1]; exact xs_ne 2 rfl (by omega) (by omega) c2
    exact fin c 0 e1 (by omega) (by omega) (fun h => by omega) (fun _ => rfl) (fun post H => br_f h0 (br_f h3 (br_f n2 H))) (fun post H => br_f h0 (br_f h3 (br_f n2 H)))
end
section
/-! ===== the traps around each statement; looseExit and exitsFit ===== -/
def td_Tr (kd pp pq ar : Nat → Nat) (i : Nat) : Prop := (4 ≤ kd i → ar (pp i) = if kd i = 5 then ar i + 1 else ar i) ∧ (7 ≤ kd i → ar (pq i) = ar i)
section
variable {z : Nat} {kd nm pp pq lo ar : Nat → Nat}
theorem td_Tr_ex (hz1 : 1 ≤ z) (hT : ∀ i, i < z → rt_Nd kd nm pp pq lo i) : ∃ ar : Nat → Nat, ar (z - 1) = 0 ∧ ∀ i, i < z → td_Tr kd pp pq ar i := by
  have key : ∀ d e, e + d = z → ∃ ar : Nat → Nat, ar (z - 1) = 0 ∧ ∀ i, e ≤ i → i < z → td_Tr kd pp pq ar i := by
    intro d
    induction d with
    | zero => intro e he; exact ⟨fun _ => 0, rfl, fun i h1 h2 => by omega⟩
    | succ d ih =>
      intro e he
      obtain ⟨ar, a0, a1⟩ := ih (e + 1) (by omega)
      have P := rt_Nd_p hT (i := e) (by omega)
      let ar' : Nat → Nat := fun x => if 4 ≤ kd e ∧ x = pp e then (if kd e = 5 then ar e + 1 else ar e) else if 7 ≤ kd e ∧ x = pq e then ar e else ar x
      have same : ∀ x, ¬ (4 ≤ kd e ∧ x = pp e) → ¬ (7 ≤ kd e ∧ x = pq e) → ar' x = ar x := fun x h1 h2 => by
        show (if 4 ≤ kd e ∧ x = pp e then _ else if 7 ≤ kd e ∧ x = pq e then ar e else ar x) = ar x
        rw [if_neg h1, if_neg h2]
      have big : ∀ x, e ≤ x → ar' x = ar x := fun x hx => same x (fun h => by have := P.1 h.1; omega) (fun h => by have := P.2 h.1; omega)
      refine ⟨ar', by rw [big _ (by omega)]; exact a0, fun i h1 h2 => ?_⟩
      by_cases ei : i = e
      · subst ei
        refine ⟨fun h => ?_, fun h => ?_⟩
        · rw [big i (Nat.le_refl _)]
          show (if 4 ≤ kd i ∧ pp i = pp i then _ else _) = _
          rw [if_pos ⟨h, rfl⟩]
        · rw [big i (Nat.le_refl _)]
          have := P.2 h
          show (if 4 ≤ kd i ∧ pq i = pp i then _ else if 7 ≤ kd i ∧ pq i = pq i then ar i else _) = ar i
          rw [if_neg (fun q => by omega), if_pos ⟨h, rfl⟩]
      · have PP := rt_parts hT (t := e) (i := i) h2 (by omega)
        have A := a1 i (by omega) h2
        refine ⟨fun h => ?_, fun h => ?_⟩
        · rw [big i (by omega), same (pp i) (fun q => PP.1 q.1 h q.2.symm) (fun q => PP.2.2.1 q.1 h q.2.symm)]; exact A.1 h
        · rw [big i (by omega), same (pq i) (fun q => PP.2.1 q.1 h q.2.symm) (fun q => PP.2.2.2 q.1 h q.2.symm)]; exact A.2 h
  obtain ⟨ar, a0, a1⟩ := key z 0 (by omega)
  exact ⟨ar, a0, fun i hi => a1 i (by omega) hi⟩
theorem td_Tr_le (hz1 : 1 ≤ z) (hT : ∀ i, i < z → rt_Nd kd nm pp pq lo i) (hlo : lo (z - 1) = 0) (h0 : ar (z - 1) = 0) (h : ∀ i, i < z → td_Tr kd pp pq ar i) : ∀ i, i < z → ar i + i ≤ z - 1 := by
  have all : ∀ d i, i + d + 1 = z → ar i + i ≤ z - 1 := by
    intro d
    induction d using Nat.strongRecOn with
    | ind d ih =>
      intro i hi
      by_cases e : d = 0
      · have : i = z - 1 := by omega
        rw [this, h0]; omega
      obtain ⟨t, t1, t2, t3⟩ := rt_par hT (z - 1) (by omega) i (by omega) (by omega)
      have b := ih (z - 1 - t) (by omega) t (by omega)
      have A := h t (by omega)
      rcases t3 with ⟨h4, e⟩ | ⟨h7, e⟩
      · have a := A.1 h4
        rw [e] at a
        split at a <;> omega
      · have a := A.2 h7
        rw [e] at a
        omega
  intro i hi
  exact all (z - 1 - i) i (by omega)
/-- the array tr holds what belongs there, for the whole and the parts of the statements from e on -/
def td_W (kd pp pq ar : Nat → Nat) (z : Nat) (tr : xs_f) (e : Nat) : Prop := tr (z - 1) = ar (z - 1) ∧ ∀ t, e ≤ t → t < z → (4 ≤ kd t → tr (pp t) = ar (pp t)) ∧ (7 ≤ kd t → tr (pq t) = ar (pq t))
theorem td_W_at (hT : ∀ i, i < z → rt_Nd kd nm pp pq lo i) (hlo : lo (z - 1) = 0) {tr : xs_f} {i : Nat} (hi : i < z) (W : td_W kd pp pq ar z tr (i + 1)) : tr i = ar i := by
  by_cases e : i = z - 1
  · rw [e]; exact W.1
  · obtain ⟨t, t1, t2, t3⟩ := rt_par hT (z - 1) (by omega) i (by omega) (by omega)
    have a := W.2 t (by omega) (by omega)
    rcases t3 with ⟨h4, e⟩ | ⟨h7, e⟩
    · have := a.1 h4; rw [e] at this; exact this
    · have := a.2 h7; rw [e] at this; exact this
/-- a write of what belongs there -/
theorem td_W_u {tr : xs_f} {e x v : Nat} (W : td_W kd pp pq ar z tr e) (h : v = ar x) : td_W kd pp pq ar z (xs_u tr x v) e := by
  have a : ∀ y, tr y = ar y → xs_u tr x v y = ar y := fun y hy => by
    by_cases c : y = x
    · rw [c, xs_us, h]
    · rw [xs_un c]; exact hy
  exact ⟨a _ W.1, fun t h1 h2 => ⟨fun h => a _ ((W.2 t h1 h2).1 h), fun h => a _ ((W.2 t h1 h2).2 h)⟩⟩
def td_Lo (kd nm ar : Nat → Nat) (z e : Nat) : Prop := ∃ t, e ≤ t ∧ t < z ∧ kd t = 3 ∧ ar t ≤ nm t
theorem td_Lo_s {e : Nat} (he : e < z) : td_Lo kd nm ar z e ↔ (kd e = 3 ∧ ar e ≤ nm e) ∨ td_Lo kd nm ar z (e + 1) := by
  constructor
  · intro ⟨t, t1, t2, t3⟩
    by_cases c : t = e
    · rw [c] at t3; exact Or.inl t3
    · exact Or.inr ⟨t, by omega, t2, t3⟩
  · intro h
    rcases h with h | ⟨t, t1, t2, t3⟩
    · exact ⟨e, Nat.le_refl _, he, h⟩
    · exact ⟨t, by omega, t2, t3⟩
end
def xs_ot (o : xs_O) (tr : xs_f) : xs_O := (o.1, o.2.1, o.2.2.1, o.2.2.2.1, o.2.2.2.2.1, o.2.2.2.2.2.1, o.2.2.2.2.2.2.1, tr, o.2.2.2.2.2.2.2.2)
theorem xs_xi {i : Nat} : nI i + (-1) = ys_xi i := by
  cases i with
  | zero => decide
  | succ e => unfold ys_xi; rw [if_neg (by omega)]; exact pk_m1 e
section
variable {o : xs_O} {p : xs_P} {l : xs_L} {g : xs_G} {w : xs_W} {k : xs_K} {m : Nat} {lo ar : xs_f}
theorem xs_le_loop (hm : m ≤ 16) (hT : ∀ i, i < m → rt_Nd (fun i => p.2.1 (16 + i)) (fun i => p.2.2.1 (16 + i)) (fun i => p.2.2.2.1 (16 + i)) (fun i => p.2.2.2.2 (16 + i)) lo i) (hlo : lo (m - 1) = 0) (hTr : ∀ i, i < m → td_Tr (fun i => p.2.1 (16 + i)) (fun i => p.2.2.2.1 (16 + i)) (fun i => p.2.2.2.2 (16 + i)) ar i) (hle : ∀ i, i < m → ar i ≤ 15) :
    ∀ e, e ≤ m → ∀ (tr : xs_f) (b : Nat), td_W (fun i => p.2.1 (16 + i)) (fun i => p.2.2.2.1 (16 + i)) (fun i => p.2.2.2.2 (16 + i)) ar m tr e → b ≤ 1 → (b = 1 ↔ td_Lo (fun i => p.2.1 (16 + i)) (fun i => p.2.2.1 (16 + i)) ar m e) →
      ∃ (tr' : xs_f) (b' : Nat), b' ≤ 1 ∧ (b' = 1 ↔ td_Lo (fun i => p.2.1 (16 + i)) (fun i => p.2.2.1 (16 + i)) ar m 0) ∧ ∀ post : Int32 → SX → Prop, post (nI b') (xs (xs_ot o tr') p l g w k) → wX_looseExit_21 post (nI p.1) (nI (xs_ot o tr).1) (nI (xs_ot o tr).2.1) (nI g.1) (nI k.1) (nI (xs_ot o tr).2.2.1) (nI (xs_ot o tr).2.2.2.1) (nI (xs_ot o tr).2.2.2.2.1) (nI (xs_ot o tr).2.2.2.2.2.1) (e + 1) (nI b) (ys_xi e) (xs_A p.2.1) (xs_A p.2.2.1) (xs_A p.2.2.2.1) (xs_A p.2.2.2.2) (xs_A (xs_ot o tr).2.2.2.2.2.2.1) (xs_A (xs_ot o tr).2.2.2.2.2.2.2.1) (xs_A g.2.1) (xs_A g.2.2.1) (xs_A g.2.2.2.1) (xs_A g.2.2.2.2) (xs_A (xs_ot o tr).2.2.2.2.2.2.2.2.1) (xs_A w.1) (xs_A w.2.1) (xs_A w.2.2.1) (xs_A w.2.2.2.1) (xs_A w.2.2.2.2.1) (xs_A l.1) (xs_A l.2) (xs_A w.2.2.2.2.2) (xs_A (xs_ot o tr).2.2.2.2.2.2.2.2.2.1) (xs_A k.2.1) (xs_A k.2.2) (xs_A (xs_ot o tr).2.2.2.2.2.2.2.2.2.2) := by
  intro e
  induction e with
  | zero =>
    intro _ tr b W hb hbl
    refine ⟨tr, b, hb, hbl, fun post H => br_t (show ys_xi 0 < 0 by decide) (And.intro ?_ H)⟩
    have : b = 0 ∨ b = 1 := by omega
    rcases this with h | h <;> subst h <;> rfl
  | succ i ih =>
    intro hi tr b W hb hbl
    have ai := td_W_at hT hlo (by omega) W
    have T := hT i (by omega)
    have k9 : p.2.1 (16 + i) ≤ 9 := T.1
    have n6 : p.2.2.1 (16 + i) < 6 := T.2.1
    have pp16 : p.2.2.2.1 (16 + i) < 16 := T.2.2.2.2.1
    have pq16 : p.2.2.2.2 (16 + i) < 16 := T.2.2.2.2.2.1
    have A := hTr i (by omega)
    have al := hle i (by omega)
    have ex : ys_xi (i + 1) = nI i := by unfold ys_xi; rw [if_neg (by omega)]; rfl
    have e16 : (16 : Int32) + nI i = nI (16 + i) := nI_add 16 i
    have h32 : vp_in (nI (16 + i)) 32 := vp_in_nI (by omega) (by omega)
    have h16 : vp_in (nI i) 16 := vp_in_nI (by omega) (by omega)
    have i31 : 16 + i < 2 ^ 31 := by omega
    -- the end of the turn, at any array that holds what belongs there
    have s103 : ∀ tr1 : xs_f, tr1 i = ar i → td_W (fun i => p.2.1 (16 + i)) (fun i => p.2.2.2.1 (16 + i)) (fun i => p.2.2.2.2 (16 + i)) ar m tr1 i → ∃ (tr' : xs_f) (b' : Nat), b' ≤ 1 ∧ (b' = 1 ↔ td_Lo (fun i => p.2.1 (16 + i)) (fun i => p.2.2.1 (16 + i)) ar m 0) ∧ ∀ post : Int32 → SX → Prop, post (nI b') (xs (xs_ot o tr') p l g w k) →
        wX_looseExit_103 post (wX_looseExit_21 post (nI p.1) (nI (xs_ot o tr).1) (nI (xs_ot o tr).2.1) (nI g.1) (nI k.1) (nI (xs_ot o tr).2.2.1) (nI (xs_ot o tr).2.2.2.1) (nI (xs_ot o tr).2.2.2.2.1) (nI (xs_ot o tr).2.2.2.2.2.1) (i + 1)) (nI b) (nI i) (nI (16 + i)) (nI (p.2.1 (16 + i))) (nI p.1) (nI (xs_ot o tr1).1) (nI (xs_ot o tr1).2.1) (nI g.1) (nI k.1) (nI (xs_ot o tr1).2.2.1) (nI (xs_ot o tr1).2.2.2.1) (nI (xs_ot o tr1).2.2.2.2.1) (nI (xs_ot o tr1).2.2.2.2.2.1) (xs_A p.2.1) (xs_A p.2.2.1) (xs_A p.2.2.2.1) (xs_A p.2.2.2.2) (xs_A (xs_ot o tr1).2.2.2.2.2.2.1) (xs_A (xs_ot o tr1).2.2.2.2.2.2.2.1) (xs_A g.2.1) (xs_A g.2.2.1) (xs_A g.2.2.2.1) (xs_A g.2.2.2.2) (xs_A (xs_ot o tr1).2.2.2.2.2.2.2.2.1) (xs_A w.1) (xs_A w.2.1) (xs_A w.2.2.1) (xs_A w.2.2.2.1) (xs_A w.2.2.2.2.1) (xs_A l.1) (xs_A l.2) (xs_A w.2.2.2.2.2) (xs_A (xs_ot o tr1).2.2.2.2.2.2.2.2.2.1) (xs_A k.2.1) (xs_A k.2.2) (xs_A (xs_ot o tr1).2.2.2.2.2.2.2.2.2.2) := by
      intro tr1 t1 W1
      have et : xs_A tr1 (nI i).toNatClampNeg = nI (ar i) := xs_at' (by omega) t1
      have en : xs_A p.2.2.1 (nI (16 + i)).toNatClampNeg = nI (p.2.2.1 (16 + i)) := xs_at i31
      by_cases b0 : b = 0
      · by_cases c3 : p.2.1 (16 + i) = 3
        · by_cases c : p.2.2.1 (16 + i) < ar i
          · obtain ⟨tr', b', B1, B2, B3⟩ := ih (by omega) tr1 0 W1 (by omega) (by
              rw [td_Lo_s (by omega), ← hbl, b0]
              constructor
              · intro h; omega
              · intro h; rcases h with h | h
                · have := h.2; omega
                · omega)
            exact ⟨tr', b', B1, B2, fun post H => br_t (by rw [b0]; rfl) (br_t (by rw [c3]; rfl) (And.intro h32 (And.intro h16 (br_t (by rw [show xs_A p.2.2.1 _ = _ from en, show xs_A (xs_ot o tr1).2.2.2.2.2.2.2.1 _ = _ from et]; exact nI_lt c (by omega)) (nm_r xs_xi (B3 post H))))))⟩
          · obtain ⟨tr', b', B1, B2, B3⟩ := ih (by omega) tr1 1 W1 (by omega) (by
              rw [td_Lo_s (by omega)]
              exact ⟨fun _ => Or.inl ⟨c3, by omega⟩, fun _ => rfl⟩)
            exact ⟨tr', b', B1, B2, fun post H => br_t (by rw [b0]; rfl) (br_t (by rw [c3]; rfl) (And.intro h32 (And.intro h16 (br_f (by rw [show xs_A p.2.2.1 _ = _ from en, show xs_A (xs_ot o tr1).2.2.2.2.2.2.2.1 _ = _ from et]; exact nI_nlt (by omega) (by omega)) (nm_r xs_xi (B3 post H))))))⟩
        · obtain ⟨tr', b', B1, B2, B3⟩ := ih (by omega) tr1 0 W1 (by omega) (by
            rw [td_Lo_s (by omega), ← hbl, b0]
            constructor
            · intro h; omega
            · intro h; rcases h with h | h
              · exact absurd h.1 c3
              · omega)
          exact ⟨tr', b', B1, B2, fun post H => br_t (by rw [b0]; rfl) (br_f (xs_ne 3 rfl (by omega) (by omega) c3) (nm_r xs_xi (B3 post H)))⟩
      · have b1 : b = 1 := by omega
        obtain ⟨tr', b', B1, B2, B3⟩ := ih (by omega) tr1 1 W1 (by omega) (by
          rw [td_Lo_s (by omega)]
          exact ⟨fun _ => Or.inr (hbl.mp b1), fun _ => rfl⟩)
        exact ⟨tr', b', B1, B2, fun post H => br_f (by rw [b1]; decide) (nm_r xs_xi (B3 post H))⟩
    -- the second part
    have s79 : ∀ tr1 : xs_f, tr1 i = ar i → td_W (fun i => p.2.1 (16 + i)) (fun i => p.2.2.2.1 (16 + i)) (fun i => p.2.2.2.2 (16 + i)) ar m tr1 (i + 1) → (4 ≤ p.2.1 (16 + i) → tr1 (p.2.2.2.1 (16 + i)) = ar (p.2.2.2.1 (16 + i))) → ∃ (tr' : xs_f) (b' : Nat), b' ≤ 1 ∧ (b' = 1 ↔ td_Lo (fun i => p.2.1 (16 + i)) (fun i => p.2.2.1 (16 + i)) ar m 0) ∧ ∀ post : Int32 → SX → Prop, post (nI b') (xs (xs_ot o tr') p l g w k) →
        wX_looseExit_79 post (wX_looseExit_21 post (nI p.1) (nI (xs_ot o tr).1) (nI (xs_ot o tr).2.1) (nI g.1) (nI k.1) (nI (xs_ot o tr).2.2.1) (nI (xs_ot o tr).2.2.2.1) (nI (xs_ot o tr).2.2.2.2.1) (nI (xs_ot o tr).2.2.2.2.2.1) (i + 1)) (nI b) (nI i) (nI (16 + i)) (nI (p.2.1 (16 + i))) (nI p.1) (nI (xs_ot o tr1).1) (nI (xs_ot o tr1).2.1) (nI g.1) (nI k.1) (nI (xs_ot o tr1).2.2.1) (nI (xs_ot o tr1).2.2.2.1) (nI (xs_ot o tr1).2.2.2.2.1) (nI (xs_ot o tr1).2.2.2.2.2.1) (xs_A p.2.1) (xs_A p.2.2.1) (xs_A p.2.2.2.1) (xs_A p.2.2.2.2) (xs_A (xs_ot o tr1).2.2.2.2.2.2.1) (xs_A (xs_ot o tr1).2.2.2.2.2.2.2.1) (xs_A g.2.1) (xs_A g.2.2.1) (xs_A g.2.2.2.1) (xs_A g.2.2.2.2) (xs_A (xs_ot o tr1).2.2.2.2.2.2.2.2.1) (xs_A w.1) (xs_A w.2.1) (xs_A w.2.2.1) (xs_A w.2.2.2.1) (xs_A w.2.2.2.2.1) (xs_A l.1) (xs_A l.2) (xs_A w.2.2.2.2.2) (xs_A (xs_ot o tr1).2.2.2.2.2.2.2.2.2.1) (xs_A k.2.1) (xs_A k.2.2) (xs_A (xs_ot o tr1).2.2.2.2.2.2.2.2.2.2) := by
      intro tr1 t1 W1 tp
      by_cases c7 : p.2.1 (16 + i) < 7
      · obtain ⟨tr', b', B1, B2, B3⟩ := s103 tr1 t1 ⟨W1.1, fun t h1 h2 => by
          by_cases et : t = i
          · subst et; exact ⟨fun h => tp h, fun h => by dsimp only at h; omega⟩
          · exact W1.2 t (by omega) h2⟩
        exact ⟨tr', b', B1, B2, fun post H => br_t (nI_lt (b := 7) c7 (by omega)) (B3 post H)⟩
      · have eq : xs_A p.2.2.2.2 (nI (16 + i)).toNatClampNeg = nI (p.2.2.2.2 (16 + i)) := xs_at i31
        have aq : ar (p.2.2.2.2 (16 + i)) = ar i := A.2 (by show 7 ≤ p.2.1 (16 + i); omega)
        have W2 := td_W_u (x := p.2.2.2.2 (16 + i)) (v := ar i) W1 aq.symm
        have t2 : xs_u tr1 (p.2.2.2.2 (16 + i)) (ar i) i = ar i := by
          by_cases c : i = p.2.2.2.2 (16 + i)
          · rw [← c, xs_us]
          · rw [xs_un c]; exact t1
        have keepa : ∀ y, tr1 y = ar y → xs_u tr1 (p.2.2.2.2 (16 + i)) (ar i) y = ar y := fun y hy => by
          by_cases c : y = p.2.2.2.2 (16 + i)
          · rw [c, xs_us, aq]
          · rw [xs_un c]; exact hy
        obtain ⟨tr', b', B1, B2, B3⟩ := s103 _ t2 ⟨W2.1, fun t h1 h2 => by
          by_cases et : t = i
          · subst et; exact ⟨fun h => keepa _ (tp h), fun h => by dsimp only; rw [xs_us, aq]⟩
          · exact W2.2 t (by omega) h2⟩
        exact ⟨tr', b', B1, B2, fun post H => br_f (nI_nlt (b := 7) (by omega) (by omega)) (And.intro h32 (And.intro h16 (And.intro (by rw [show xs_A p.2.2.2.2 _ = _ from eq]; exact vp_in_nI pq16 (by omega)) (nm_r (xs_pb' eq (by omega) (xs_at' (by omega) t1) (by omega)) (B3 post H)))))⟩
    by_cases c4 : p.2.1 (16 + i) < 4
    · obtain ⟨tr', b', B1, B2, B3⟩ := s79 tr ai W (fun h => by omega)
      refine ⟨tr', b', B1, B2, fun post H => ?_⟩
      rw [ex]
      exact br_f (nI_pos (by omega)) (nm_r e16 (And.intro h32 (nm_r (e' := nI (p.2.1 (16 + i))) (xs_at i31) (br_t (nI_lt (b := 4) c4 (by omega)) (B3 post H)))))
    · have ep : xs_A p.2.2.2.1 (nI (16 + i)).toNatClampNeg = nI (p.2.2.2.1 (16 + i)) := xs_at i31
      have ap := A.1 (show 4 ≤ p.2.1 (16 + i) by omega)
      have P := (rt_Nd_p hT (i := i) (by omega)).1 (show 4 ≤ p.2.1 (16 + i) by omega)
      have pin : vp_in (xs_A p.2.2.2.1 (nI (16 + i)).toNatClampNeg) 16 := by rw [show xs_A p.2.2.2.1 _ = _ from ep]; exact vp_in_nI pp16 (by omega)
      have W2 := td_W_u (x := p.2.2.2.1 (16 + i)) (v := ar (p.2.2.2.1 (16 + i))) W rfl
      obtain ⟨tr', b', B1, B2, B3⟩ := s79 _ (by rw [xs_un (by have := P.2; omega)]; exact ai) W2 (fun _ => xs_us _ _ _)
      refine ⟨tr', b', B1, B2, fun post H => ?_⟩
      rw [ex]
      have apl := hle (p.2.2.2.1 (16 + i)) (by have := P.2; omega)
      refine br_f (nI_pos (by omega)) (nm_r e16 (And.intro h32 (nm_r (e' := nI (p.2.1 (16 + i))) (xs_at i31) (br_f (nI_nlt (b := 4) (by omega) (by omega)) (And.intro h32 ?_)))))
      have et : xs_A tr (nI i).toNatClampNeg = nI (ar i) := xs_at' (by omega) ai
      dsimp only at ap
      by_cases c5 : p.2.1 (16 + i) = 5
      · rw [if_pos c5] at ap
        exact br_t (by rw [c5]; rfl) (And.intro h16 (And.intro pin (nm_r (xs_pb ep (by omega) (by rw [show xs_A (xs_ot o tr).2.2.2.2.2.2.2.1 _ = _ from et, ap]; exact nI_1 _) (by omega)) (B3 post H))))
      · rw [if_neg c5] at ap
        exact br_f (xs_ne 5 rfl (by omega) (by omega) c5) (And.intro h16 (And.intro pin (nm_r (xs_pb ep (by omega) (by rw [show xs_A (xs_ot o tr).2.2.2.2.2.2.2.1 _ = _ from et, ap]) (by omega)) (B3 post H))))
end
end
section
/-! ===== exitsFit ===== -/
def ys_ot (o : ys_O) (tr : xs_f) : ys_O := (o.1, o.2.1, o.2.2.1, o.2.2.2.1, o.2.2.2.2.1, o.2.2.2.2.2.1, o.2.2.2.2.2.2.1, o.2.2.2.2.2.2.2.1, o.2.2.2.2.2.2.2.2.1, tr, o.2.2.2.2.2.2.2.2.2.2)
section
variable {o : ys_O} {p : ys_P} {s : Nat × Nat} {l : xs_f} {j : ys_J} {d : ys_D} {m : Nat} {lo ar nm : xs_f}
theorem ys_ef_loop (hm : m ≤ 16) (hT : ∀ i, i < m → rt_Nd (fun i => p.2.1 (16 + i)) (fun i => nm (16 + i)) (fun i => p.2.2.2.1 (16 + i)) (fun i => p.2.2.2.2 (16 + i)) lo i) (hlo : lo (m - 1) = 0) (hTr : ∀ i, i < m → td_Tr (fun i => p.2.1 (16 + i)) (fun i => p.2.2.2.1 (16 + i)) (fun i => p.2.2.2.2 (16 + i)) ar i) (hle : ∀ i, i < m → ar i ≤ 15)
    (hN : ∀ i, i < m → p.2.1 (16 + i) = 3 → p.2.2.1 (16 + i) = nI (nm (16 + i))) :
    ∀ e, e ≤ m → ∀ (tr : xs_f) (b : Nat), td_W (fun i => p.2.1 (16 + i)) (fun i => p.2.2.2.1 (16 + i)) (fun i => p.2.2.2.2 (16 + i)) ar m tr e → b ≤ 1 → (b = 0 ↔ td_Lo (fun i => p.2.1 (16 + i)) (fun i => nm (16 + i)) ar m e) →
      ∃ (tr' : xs_f) (b' : Nat), b' ≤ 1 ∧ (b' = 0 ↔ td_Lo (fun i => p.2.1 (16 + i)) (fun i => nm (16 + i)) ar m 0) ∧ ∀ post : Int32 → SY → Prop, post (nI b') (ys p (ys_ot o tr') s l j d) → wY_exitsFit_21 post (nI (ys_ot o tr).1) (nI (ys_ot o tr).2.1) (nI p.1) (nI (ys_ot o tr).2.2.1) (nI (ys_ot o tr).2.2.2.1) (nI (ys_ot o tr).2.2.2.2.1) (nI s.1) (nI s.2) (nI (ys_ot o tr).2.2.2.2.2.1) (nI (ys_ot o tr).2.2.2.2.2.2.1) (nI (ys_ot o tr).2.2.2.2.2.2.2.1) (e + 1) (nI b) (ys_xi e) (xs_A p.2.1) p.2.2.1 (xs_A p.2.2.2.1) (xs_A p.2.2.2.2) (xs_A (ys_ot o tr).2.2.2.2.2.2.2.2.1) (xs_A (ys_ot o tr).2.2.2.2.2.2.2.2.2.1) (xs_A (ys_ot o tr).2.2.2.2.2.2.2.2.2.2) (xs_A l) (xs_A j.1) (xs_A j.2.1) (ys_E j.2.2.1) (xs_A j.2.2.2) (xs_A d.1) (xs_A d.2.1) (xs_A d.2.2.1) (xs_A d.2.2.2) := by
  intro e
  induction e with
  | zero =>
    intro _ tr b W hb hbl
    refine ⟨tr, b, hb, hbl, fun post H => br_t (show ys_xi 0 < 0 by decide) (And.intro ?_ H)⟩
    have : b = 0 ∨ b = 1 := by omega
    rcases this with h | h <;> subst h <;> rfl
  | succ i ih =>
    intro hi tr b W hb hbl
    have ai := td_W_at hT hlo (by omega) W
    have T := hT i (by omega)
    have k9 : p.2.1 (16 + i) ≤ 9 := T.1
    have n6 : nm (16 + i) < 6 := T.2.1
    have pp16 : p.2.2.2.1 (16 + i) < 16 := T.2.2.2.2.1
    have pq16 : p.2.2.2.2 (16 + i) < 16 := T.2.2.2.2.2.1
    have A := hTr i (by omega)
    have al := hle i (by omega)
    have ex : ys_xi (i + 1) = nI i := by unfold ys_xi; rw [if_neg (by omega)]; rfl
    have e16 : (16 : Int32) + nI i = nI (16 + i) := nI_add 16 i
    have h32 : vp_in ((16 : Int32) + nI i) 32 := by rw [e16]; exact vp_in_nI (by omega) (by omega)
    have h16 : vp_in (nI i) 16 := vp_in_nI (by omega) (by omega)
    have i31 : 16 + i < 2 ^ 31 := by omega
    have s98 : ∀ tr1 : xs_f, td_W (fun i => p.2.1 (16 + i)) (fun i => p.2.2.2.1 (16 + i)) (fun i => p.2.2.2.2 (16 + i)) ar m tr1 i → ∃ (tr' : xs_f) (b' : Nat), b' ≤ 1 ∧ (b' = 0 ↔ td_Lo (fun i => p.2.1 (16 + i)) (fun i => nm (16 + i)) ar m 0) ∧ ∀ post : Int32 → SY → Prop, post (nI b') (ys p (ys_ot o tr') s l j d) →
        wY_exitsFit_98 post (wY_exitsFit_21 post (nI (ys_ot o tr).1) (nI (ys_ot o tr).2.1) (nI p.1) (nI (ys_ot o tr).2.2.1) (nI (ys_ot o tr).2.2.2.1) (nI (ys_ot o tr).2.2.2.2.1) (nI s.1) (nI s.2) (nI (ys_ot o tr).2.2.2.2.2.1) (nI (ys_ot o tr).2.2.2.2.2.2.1) (nI (ys_ot o tr).2.2.2.2.2.2.2.1) (i + 1)) (nI b) (nI i) (nI (p.2.1 (16 + i))) (nI (ar i)) (nI (ys_ot o tr1).1) (nI (ys_ot o tr1).2.1) (nI p.1) (nI (ys_ot o tr1).2.2.1) (nI (ys_ot o tr1).2.2.2.1) (nI (ys_ot o tr1).2.2.2.2.1) (nI s.1) (nI s.2) (nI (ys_ot o tr1).2.2.2.2.2.1) (nI (ys_ot o tr1).2.2.2.2.2.2.1) (nI (ys_ot o tr1).2.2.2.2.2.2.2.1) (xs_A p.2.1) p.2.2.1 (xs_A p.2.2.2.1) (xs_A p.2.2.2.2) (xs_A (ys_ot o tr1).2.2.2.2.2.2.2.2.1) (xs_A (ys_ot o tr1).2.2.2.2.2.2.2.2.2.1) (xs_A (ys_ot o tr1).2.2.2.2.2.2.2.2.2.2) (xs_A l) (xs_A j.1) (xs_A j.2.1) (ys_E j.2.2.1) (xs_A j.2.2.2) (xs_A d.1) (xs_A d.2.1) (xs_A d.2.2.1) (xs_A d.2.2.2) := by
      intro tr1 W1
      by_cases c3 : p.2.1 (16 + i) = 3
      · have en : p.2.2.1 ((16 : Int32) + nI i).toNatClampNeg = nI (nm (16 + i)) := by rw [e16, nI_clamp i31]; exact hN i (by omega) c3
        by_cases c : nm (16 + i) < ar i
        · obtain ⟨tr', b', B1, B2, B3⟩ := ih (by omega) tr1 b W1 hb (by
            rw [td_Lo_s (by omega), ← hbl]
            constructor
            · intro h; exact Or.inr h
            · intro h; rcases h with h | h
              · have := h.2; omega
              · exact h)
          exact ⟨tr', b', B1, B2, fun post H => br_t (by rw [c3]; rfl) (And.intro h32 (br_t (by rw [show p.2.2.1 _ = _ from en]; exact nI_lt c (by omega)) (nm_r xs_xi (B3 post H))))⟩
        · obtain ⟨tr', b', B1, B2, B3⟩ := ih (by omega) tr1 0 W1 (by omega) (by
            rw [td_Lo_s (by omega)]
            exact ⟨fun _ => Or.inl ⟨c3, by omega⟩, fun _ => rfl⟩)
          exact ⟨tr', b', B1, B2, fun post H => br_t (by rw [c3]; rfl) (And.intro h32 (br_f (by rw [show p.2.2.1 _ = _ from en]; exact nI_nlt (by omega) (by omega)) (nm_r xs_xi (B3 post H))))⟩
      · obtain ⟨tr', b', B1, B2, B3⟩ := ih (by omega) tr1 b W1 hb (by
          rw [td_Lo_s (by omega), ← hbl]
          constructor
          · intro h; exact Or.inr h
          · intro h; rcases h with h | h
            · exact absurd h.1 c3
            · exact h)
        exact ⟨tr', b', B1, B2, fun post H => br_f (xs_ne 3 rfl (by omega) (by omega) c3) (nm_r xs_xi (B3 post H))⟩
    have s76 : ∀ tr1 : xs_f, td_W (fun i => p.2.1 (16 + i)) (fun i => p.2.2.2.1 (16 + i)) (fun i => p.2.2.2.2 (16 + i)) ar m tr1 (i + 1) → (4 ≤ p.2.1 (16 + i) → tr1 (p.2.2.2.1 (16 + i)) = ar (p.2.2.2.1 (16 + i))) → ∃ (tr' : xs_f) (b' : Nat), b' ≤ 1 ∧ (b' = 0 ↔ td_Lo (fun i => p.2.1 (16 + i)) (fun i => nm (16 + i)) ar m 0) ∧ ∀ post : Int32 → SY → Prop, post (nI b') (ys p (ys_ot o tr') s l j d) →
        wY_exitsFit_76 post (wY_exitsFit_21 post (nI (ys_ot o tr).1) (nI (ys_ot o tr).2.1) (nI p.1) (nI (ys_ot o tr).2.2.1) (nI (ys_ot o tr).2.2.2.1) (nI (ys_ot o tr).2.2.2.2.1) (nI s.1) (nI s.2) (nI (ys_ot o tr).2.2.2.2.2.1) (nI (ys_ot o tr).2.2.2.2.2.2.1) (nI (ys_ot o tr).2.2.2.2.2.2.2.1) (i + 1)) (nI b) (nI i) (nI (p.2.1 (16 + i))) (nI (ar i)) (nI (ys_ot o tr1).1) (nI (ys_ot o tr1).2.1) (nI p.1) (nI (ys_ot o tr1).2.2.1) (nI (ys_ot o tr1).2.2.2.1) (nI (ys_ot o tr1).2.2.2.2.1) (nI s.1) (nI s.2) (nI (ys_ot o tr1).2.2.2.2.2.1) (nI (ys_ot o tr1).2.2.2.2.2.2.1) (nI (ys_ot o tr1).2.2.2.2.2.2.2.1) (xs_A p.2.1) p.2.2.1 (xs_A p.2.2.2.1) (xs_A p.2.2.2.2) (xs_A (ys_ot o tr1).2.2.2.2.2.2.2.2.1) (xs_A (ys_ot o tr1).2.2.2.2.2.2.2.2.2.1) (xs_A (ys_ot o tr1).2.2.2.2.2.2.2.2.2.2) (xs_A l) (xs_A j.1) (xs_A j.2.1) (ys_E j.2.2.1) (xs_A j.2.2.2) (xs_A d.1) (xs_A d.2.1) (xs_A d.2.2.1) (xs_A d.2.2.2) := by
      intro tr1 W1 tp
      by_cases c7 : p.2.1 (16 + i) ≤ 6
      · obtain ⟨tr', b', B1, B2, B3⟩ := s98 tr1 ⟨W1.1, fun t h1 h2 => by
          by_cases et : t = i
          · subst et; exact ⟨fun h => tp h, fun h => by dsimp only at h; omega⟩
          · exact W1.2 t (by omega) h2⟩
        exact ⟨tr', b', B1, B2, fun post H => br_t (nI_le (b := 6) c7 (by omega)) (B3 post H)⟩
      · have eq : xs_A p.2.2.2.2 ((16 : Int32) + nI i).toNatClampNeg = nI (p.2.2.2.2 (16 + i)) := by rw [e16]; exact xs_at i31
        have aq : ar (p.2.2.2.2 (16 + i)) = ar i := A.2 (by show 7 ≤ p.2.1 (16 + i); omega)
        have W2 := td_W_u (x := p.2.2.2.2 (16 + i)) (v := ar i) W1 aq.symm
        have keepa : ∀ y, tr1 y = ar y → xs_u tr1 (p.2.2.2.2 (16 + i)) (ar i) y = ar y := fun y hy => by
          by_cases c : y = p.2.2.2.2 (16 + i)
          · rw [c, xs_us, aq]
          · rw [xs_un c]; exact hy
        obtain ⟨tr', b', B1, B2, B3⟩ := s98 _ ⟨W2.1, fun t h1 h2 => by
          by_cases et : t = i
          · subst et; exact ⟨fun h => keepa _ (tp h), fun h => by dsimp only; rw [xs_us, aq]⟩
          · exact W2.2 t (by omega) h2⟩
        exact ⟨tr', b', B1, B2, fun post H => br_f (nI_ge (a := 6) (by omega) (by omega)) (And.intro h32 (And.intro (by rw [show xs_A p.2.2.2.2 _ = _ from eq]; exact vp_in_nI pq16 (by omega)) (nm_r (ys_pi eq (by omega) rfl) (B3 post H))))⟩
    have et : xs_A tr (nI i).toNatClampNeg = nI (ar i) := xs_at' (by omega) ai
    by_cases c4 : p.2.1 (16 + i) ≤ 3
    · obtain ⟨tr', b', B1, B2, B3⟩ := s76 tr W (fun h => by omega)
      refine ⟨tr', b', B1, B2, fun post H => ?_⟩
      rw [ex]
      exact br_f (nI_pos (by omega)) (And.intro h32 (nm_r (e' := nI (p.2.1 (16 + i))) (by rw [e16]; exact xs_at i31) (And.intro h16 (nm_r (e' := nI (ar i)) et (br_t (nI_le (b := 3) c4 (by omega)) (B3 post H))))))
    · have ep : xs_A p.2.2.2.1 ((16 : Int32) + nI i).toNatClampNeg = nI (p.2.2.2.1 (16 + i)) := by rw [e16]; exact xs_at i31
      have ap := A.1 (show 4 ≤ p.2.1 (16 + i) by omega)
      have pin : vp_in (xs_A p.2.2.2.1 ((16 : Int32) + nI i).toNatClampNeg) 16 := by rw [show xs_A p.2.2.2.1 _ = _ from ep]; exact vp_in_nI pp16 (by omega)
      have W2 := td_W_u (x := p.2.2.2.1 (16 + i)) (v := ar (p.2.2.2.1 (16 + i))) W rfl
      obtain ⟨tr', b', B1, B2, B3⟩ := s76 _ W2 (fun _ => xs_us _ _ _)
      refine ⟨tr', b', B1, B2, fun post H => ?_⟩
      rw [ex]
      refine br_f (nI_pos (by omega)) (And.intro h32 (nm_r (e' := nI (p.2.1 (16 + i))) (by rw [e16]; exact xs_at i31) (And.intro h16 (nm_r (e' := nI (ar i)) et (br_f (nI_ge (a := 3) (by omega) (by omega)) (And.intro h32 ?_))))))
      dsimp only at ap
      by_cases c5 : p.2.1 (16 + i) = 5
      · rw [if_pos c5] at ap
        exact br_t (by rw [c5]; rfl) (And.intro pin (nm_r (ys_pi ep (by omega) (by rw [ap]; exact nI_1 _)) (B3 post H)))
      · rw [if_neg c5] at ap
        exact br_f (xs_ne 5 rfl (by omega) (by omega) c5) (And.intro pin (nm_r (ys_pi ep (by omega) (by rw [ap])) (B3 post H)))
end
end
section
/-! ===== program, and the constructors ===== -/
/-- f with 16, .., 16 + i - 1 copied to 0, .. -/
def zz_cp {α : Type} (f : Nat → α) (i : Nat) : Nat → α := fun t => if t < i then f (16 + t) else f t
theorem zz_cp0 {α : Type} (f : Nat → α) : zz_cp f 0 = f := by funext t; exact if_neg (by omega)
theorem zz_cps (f : xs_f) (i : Nat) : xs_u (zz_cp f i) i (f (16 + i)) = zz_cp f (i + 1) := by
  funext t; unfold xs_u zz_cp
  by_cases h : t = i
  · rw [if_pos h, if_pos (by omega), h]
  · rw [if_neg h]
    by_cases h2 : t < i
    · rw [if_pos h2, if_pos (by omega)]
    · rw [if_neg h2, if_neg (by omega)]
theorem zz_cpI (f : Nat → Int32) (i : Nat) : upd (zz_cp f i) i (f (16 + i)) = zz_cp f (i + 1) := by
  funext t; unfold upd zz_cp
  by_cases h : t = i
  · rw [if_pos h, if_pos (by omega), h]
  · rw [if_neg h]
    by_cases h2 : t < i
    · rw [if_pos h2, if_pos (by omega)]
    · rw [if_neg h2, if_neg (by omega)]
theorem zz_cph {α : Type} (f : Nat → α) {i t : Nat} (h : i ≤ 16) : zz_cp f i (16 + t) = f (16 + t) := if_neg (by omega)
theorem zz_cpl {α : Type} (f : Nat → α) {i t : Nat} (h : t < i) : zz_cp f i t = f (16 + t) := if_pos h
def zz_pc (p : xs_P) (i : Nat) : xs_P := (p.1, zz_cp p.2.1 i, zz_cp p.2.2.1 i, zz_cp p.2.2.2.1 i, zz_cp p.2.2.2.2 i)
def zz_yc (p : ys_P) (i : Nat) : ys_P := (p.1, zz_cp p.2.1 i, zz_cp p.2.2.1 i, zz_cp p.2.2.2.1 i, zz_cp p.2.2.2.2 i)
section
variable {o : xs_O} {p : xs_P} {l : xs_L} {g : xs_G} {w : xs_W} {k : xs_K}
theorem xs_cp_loop {post : Int32 → SX → Prop} (hm : o.1 ≤ 16) (hb : ∀ i, i < o.1 → p.2.1 (16 + i) < 128 ∧ p.2.2.1 (16 + i) < 128 ∧ p.2.2.2.1 (16 + i) < 128 ∧ p.2.2.2.2 (16 + i) < 128)
    (H : wX_program_25 post (nI (zz_pc p o.1).1) (nI o.1) (nI o.2.1) (nI g.1) (nI k.1) (nI o.2.2.1) (nI o.2.2.2.1) (nI o.2.2.2.2.1) (nI o.2.2.2.2.2.1) 1 (nI o.1) (xs_A (zz_pc p o.1).2.1) (xs_A (zz_pc p o.1).2.2.1) (xs_A (zz_pc p o.1).2.2.2.1) (xs_A (zz_pc p o.1).2.2.2.2) (xs_A o.2.2.2.2.2.2.1) (xs_A o.2.2.2.2.2.2.2.1) (xs_A g.2.1) (xs_A g.2.2.1) (xs_A g.2.2.2.1) (xs_A g.2.2.2.2) (xs_A o.2.2.2.2.2.2.2.2.1) (xs_A w.1) (xs_A w.2.1) (xs_A w.2.2.1) (xs_A w.2.2.2.1) (xs_A w.2.2.2.2.1) (xs_A l.1) (xs_A l.2) (xs_A w.2.2.2.2.2) (xs_A o.2.2.2.2.2.2.2.2.2.1) (xs_A k.2.1) (xs_A k.2.2) (xs_A o.2.2.2.2.2.2.2.2.2.2)) : ∀ e i, i + e = o.1 → wX_program_25 post (nI (zz_pc p i).1) (nI o.1) (nI o.2.1) (nI g.1) (nI k.1) (nI o.2.2.1) (nI o.2.2.2.1) (nI o.2.2.2.2.1) (nI o.2.2.2.2.2.1) (1 + e) (nI i) (xs_A (zz_pc p i).2.1) (xs_A (zz_pc p i).2.2.1) (xs_A (zz_pc p i).2.2.2.1) (xs_A (zz_pc p i).2.2.2.2) (xs_A o.2.2.2.2.2.2.1) (xs_A o.2.2.2.2.2.2.2.1) (xs_A g.2.1) (xs_A g.2.2.1) (xs_A g.2.2.2.1) (xs_A g.2.2.2.2) (xs_A o.2.2.2.2.2.2.2.2.1) (xs_A w.1) (xs_A w.2.1) (xs_A w.2.2.1) (xs_A w.2.2.2.1) (xs_A w.2.2.2.2.1) (xs_A l.1) (xs_A l.2) (xs_A w.2.2.2.2.2) (xs_A o.2.2.2.2.2.2.2.2.2.1) (xs_A k.2.1) (xs_A k.2.2) (xs_A o.2.2.2.2.2.2.2.2.2.2) := by
  intro e
  induction e with
  | zero => intro i hi; have e : i = o.1 := by omega
            subst e; exact H
  | succ e ih =>
    intro i hi
    have e16 : (16 : Int32) + nI i = nI (16 + i) := nI_add 16 i
    have h32 : vp_in ((16 : Int32) + nI i) 32 := by rw [e16]; exact vp_in_nI (by omega) (by omega)
    have i32 : vp_in (nI i) 32 := vp_in_nI (by omega) (by omega)
    have b := hb i (by omega)
    have i31 : 16 + i < 2 ^ 31 := by omega
    have rd : ∀ f : xs_f, xs_A (zz_cp f i) ((16 : Int32) + nI i).toNatClampNeg = nI (f (16 + i)) := fun f => by rw [e16]; exact xs_at' i31 (zz_cph f (by omega))
    have L := ih (i + 1) (by omega)
    unfold zz_pc at L
    rw [← zz_cps, ← zz_cps, ← zz_cps, ← zz_cps] at L
    exact br_f (nI_ge (by omega) (by omega)) (And.intro h32 (And.intro i32 (nm_r (xs_pb' rfl (by omega) (rd _) b.1) (And.intro h32 (And.intro i32 (nm_r (xs_pb' rfl (by omega) (rd _) b.2.1) (And.intro h32 (And.intro i32 (nm_r (xs_pb' rfl (by omega) (rd _) b.2.2.1) (And.intro h32 (And.intro i32 (nm_r (xs_pb' rfl (by omega) (rd _) b.2.2.2) (nm_r (nI_1 i) L)))))))))))))
end
section
variable {o : ys_O} {p : ys_P} {s : Nat × Nat} {l : xs_f} {j : ys_J} {d : ys_D}
theorem ys_cp_loop {post : Int32 → SY → Prop} (hm : o.1 ≤ 16)
    (H : wY_program_23 post (nI o.1) (nI o.2.1) (nI (zz_yc p o.1).1) (nI o.2.2.1) (nI o.2.2.2.1) (nI o.2.2.2.2.1) (nI s.1) (nI s.2) (nI o.2.2.2.2.2.1) (nI o.2.2.2.2.2.2.1) (nI o.2.2.2.2.2.2.2.1) 1 (nI o.1) (xs_A (zz_yc p o.1).2.1) (zz_yc p o.1).2.2.1 (xs_A (zz_yc p o.1).2.2.2.1) (xs_A (zz_yc p o.1).2.2.2.2) (xs_A o.2.2.2.2.2.2.2.2.1) (xs_A o.2.2.2.2.2.2.2.2.2.1) (xs_A o.2.2.2.2.2.2.2.2.2.2) (xs_A l) (xs_A j.1) (xs_A j.2.1) (ys_E j.2.2.1) (xs_A j.2.2.2) (xs_A d.1) (xs_A d.2.1) (xs_A d.2.2.1) (xs_A d.2.2.2)) : ∀ e i, i + e = o.1 → wY_program_23 post (nI o.1) (nI o.2.1) (nI (zz_yc p i).1) (nI o.2.2.1) (nI o.2.2.2.1) (nI o.2.2.2.2.1) (nI s.1) (nI s.2) (nI o.2.2.2.2.2.1) (nI o.2.2.2.2.2.2.1) (nI o.2.2.2.2.2.2.2.1) (1 + e) (nI i) (xs_A (zz_yc p i).2.1) (zz_yc p i).2.2.1 (xs_A (zz_yc p i).2.2.2.1) (xs_A (zz_yc p i).2.2.2.2) (xs_A o.2.2.2.2.2.2.2.2.1) (xs_A o.2.2.2.2.2.2.2.2.2.1) (xs_A o.2.2.2.2.2.2.2.2.2.2) (xs_A l) (xs_A j.1) (xs_A j.2.1) (ys_E j.2.2.1) (xs_A j.2.2.2) (xs_A d.1) (xs_A d.2.1) (xs_A d.2.2.1) (xs_A d.2.2.2) := by
  intro e
  induction e with
  | zero => intro i hi; have e : i = o.1 := by omega
            subst e; exact H
  | succ e ih =>
    intro i hi
    have e16 : (16 : Int32) + nI i = nI (16 + i) := nI_add 16 i
    have h32 : vp_in ((16 : Int32) + nI i) 32 := by rw [e16]; exact vp_in_nI (by omega) (by omega)
    have i32 : vp_in (nI i) 32 := vp_in_nI (by omega) (by omega)
    have i31 : 16 + i < 2 ^ 31 := by omega
    have rd : ∀ f : xs_f, xs_A (zz_cp f i) ((16 : Int32) + nI i).toNatClampNeg = nI (f (16 + i)) := fun f => by rw [e16]; exact xs_at' i31 (zz_cph f (by omega))
    have rI : upd (zz_cp p.2.2.1 i) (nI i).toNatClampNeg (zz_cp p.2.2.1 i ((16 : Int32) + nI i).toNatClampNeg) = zz_cp p.2.2.1 (i + 1) := by
      rw [e16, nI_clamp i31, nI_clamp (by omega), zz_cph _ (by omega), zz_cpI]
    have L := ih (i + 1) (by omega)
    unfold zz_yc at L
    rw [← zz_cps, ← zz_cps, ← zz_cps] at L
    exact br_f (nI_ge (by omega) (by omega)) (And.intro h32 (And.intro i32 (nm_r (ys_pi rfl (by omega) (rd _)) (And.intro h32 (And.intro i32 (nm_r rI (And.intro h32 (And.intro i32 (nm_r (ys_pi rfl (by omega) (rd _)) (And.intro h32 (And.intro i32 (nm_r (ys_pi rfl (by omega) (rd _)) (nm_r (nI_1 i) L)))))))))))))
end
theorem i_vc_program {k : Nat} {u : SX} {v : SY} (I : i_Rel k u v) (hk : k + 3 ≤ 1536) : wpX_program (fun r u' => wpY_program (fun r' v' => r' = r ∧ i_Rel (k + 3) u' v') v) u := by
  have I' := I
  obtain ⟨o, p, l, g, w, kk, oy, nb, s0, l0, j0, d0, rfl, rfl, Pr, On, Mk, St, Eq, hl0⟩ := I
  have q := Eq
  obtain ⟨q1, q2, q3, q4, q5, q6, q7, q8⟩ := q
  have Mk0 := Mk
  obtain ⟨m16, mh, m0, lo, hT, hN, hst, htop, hch⟩ := Mk0
  by_cases h1 : o.2.1 = 1
  · have x1 : nI o.2.1 = 1 := by rw [h1]; rfl
    have y1 : nI oy.2.1 = 1 := by rw [q2]; exact x1
    have hm1 : 1 ≤ o.1 := by omega
    obtain ⟨t1, t2⟩ := htop (by omega)
    rw [h1] at t1
    have hlo : lo (o.1 - 1) = 0 := by rw [← t1]; exact t2
    obtain ⟨ar, a0, aT⟩ := td_Tr_ex hm1 hT
    have ale := td_Tr_le hm1 hT hlo a0 aT
    have al15 : ∀ i, i < o.1 → ar i ≤ 15 := fun i hi => by have := ale i hi; omega
    have em : nI o.1 - 1 = nI (o.1 - 1) := pk_sub hm1
    have emy : nI oy.1 - 1 = nI (o.1 - 1) := by rw [q1]; exact em
    have xi : nI o.1 - 1 = ys_xi o.1 := by rw [em]; unfold ys_xi; rw [if_neg (by omega)]
    have xiy : nI oy.1 - 1 = ys_xi o.1 := by rw [q1]; exact xi
    have vin : vp_in (nI o.1 - 1) 16 := by rw [em]; exact vp_in_nI (by omega) (by omega)
    have viny : vp_in (nI oy.1 - 1) 16 := by rw [q1]; exact vin
    have W0 : ∀ f : xs_f, td_W (fun i => p.2.1 (16 + i)) (fun i => p.2.2.2.1 (16 + i)) (fun i => p.2.2.2.2 (16 + i)) ar o.1 (xs_u f (o.1 - 1) 0) o.1 := fun f => ⟨by rw [xs_us, a0], fun t h1 h2 => by omega⟩
    obtain ⟨tr, b, B1, B2, B3⟩ := xs_le_loop (o := o) (p := p) (l := l) (g := g) (w := w) (k := kk) m16 hT hlo aT al15 o.1 (Nat.le_refl _) (xs_u o.2.2.2.2.2.2.2.1 (o.1 - 1) 0) 0 (W0 _) (by omega) ⟨fun h => by omega, fun ⟨t, t1, t2, _⟩ => by omega⟩
    obtain ⟨tr', b', C1, C2, C3⟩ := ys_ef_loop (o := oy) (p := (p.1, p.2.1, nb, p.2.2.2.1, p.2.2.2.2)) (s := s0) (l := l0) (j := j0) (d := d0) (nm := p.2.2.1) m16 hT hlo aT al15 (fun i hi h => hN i hi (by show p.2.1 (16 + i) = 2 ∨ p.2.1 (16 + i) = 3 ∨ p.2.1 (16 + i) = 6 ∨ p.2.1 (16 + i) = 9; exact Or.inr (Or.inl h))) o.1 (Nat.le_refl _) (xs_u oy.2.2.2.2.2.2.2.2.2.1 (o.1 - 1) 0) 1 (W0 _) (by omega) ⟨fun h => by omega, fun ⟨t, t1, t2, _⟩ => by omega⟩
    have YE : ∀ post : Int32 → SY → Prop, post (nI b') (ys (p.1, p.2.1, nb, p.2.2.2.1, p.2.2.2.2) (ys_ot oy tr') s0 l0 j0 d0) → wpY_exitsFit post (ys (p.1, p.2.1, nb, p.2.2.2.1, p.2.2.2.2) oy s0 l0 j0 d0) := fun post H =>
      And.intro viny (nm_r (ys_pi (x := 0) emy (by omega) rfl) (nm_r xiy ⟨o.1 + 1, C3 post H⟩))
    have XE : ∀ post : Int32 → SX → Prop, post (nI b) (xs (xs_ot o tr) p l g w kk) → wpX_looseExit post (xs o p l g w kk) := fun post H =>
      And.intro vin (nm_r (xs_pb' (x := 0) em (by omega) rfl (by omega)) (nm_r xi ⟨o.1 + 1, B3 post H⟩))
    refine br_t x1 (XE _ ?_)
    by_cases hb : b = 1
    · have hb' : b' = 0 := C2.mpr (B2.mp hb)
      refine br_f (by rw [hb]; decide) (br_t y1 (YE _ (br_t (by rw [hb']; rfl) ⟨rfl, ?_⟩)))
      exact ⟨xs_ot o tr, p, l, g, w, kk, ys_ot oy tr', nb, s0, l0, j0, d0, rfl, rfl, Pr, On, Mk, St, ⟨q1, q2, q3, q4, q5, q6, q7, q8⟩, hl0⟩
    · have hb0 : b = 0 := by omega
      have hb' : b' = 1 := by
        have : ¬ b' = 0 := fun h => hb (B2.mpr (C2.mp h))
        omega
      have fit : ∀ t, t < o.1 → p.2.1 (16 + t) = 3 → p.2.2.1 (16 + t) < ar t := fun t ht h3 => by
        refine Classical.byContradiction fun c => hb (B2.mpr ⟨t, by omega, ht, h3, ?_⟩)
        show ar t ≤ p.2.2.1 (16 + t)
        omega
      -- the new program
      have hT2 : ∀ i, i < o.1 → rt_Nd (zz_cp p.2.1 o.1) (zz_cp p.2.2.1 o.1) (zz_cp p.2.2.2.1 o.1) (zz_cp p.2.2.2.2 o.1) lo i := fun i hi =>
        zz_Nd_cg (kd := fun i => p.2.1 (16 + i)) (nm := fun i => p.2.2.1 (16 + i)) (pp := fun i => p.2.2.2.1 (16 + i)) (pq := fun i => p.2.2.2.2 (16 + i)) ⟨zz_cpl _ hi, zz_cpl _ hi, zz_cpl _ hi, zz_cpl _ hi⟩ (hT i hi)
      obtain ⟨l', g', w', k', X, KB⟩ := xs_build (o := (0, 0, o.2.2.1, o.2.2.2.1, o.2.2.2.2.1, o.2.2.2.2.2.1, o.2.2.2.2.2.2.1, tr, o.2.2.2.2.2.2.2.2)) (p := (o.1, zz_cp p.2.1 o.1, zz_cp p.2.2.1 o.1, zz_cp p.2.2.2.1 o.1, zz_cp p.2.2.2.2 o.1)) (l := l) (w := w) (k := kk) (g := g) (lo := lo) hm1 m16 hT2 hlo
      have Pr2 : zz_Pr (o.1, zz_cp p.2.1 o.1, zz_cp p.2.2.1 o.1, zz_cp p.2.2.2.1 o.1, zz_cp p.2.2.2.2 o.1) (zz_cp nb o.1) l' g' w' := by
        refine ⟨hm1, m16, lo, ar, hT2, hlo, fun i hi => ?_, a0, X, fun i hi => ?_⟩
        · have hi : i < o.1 := hi
          have A := aT i hi
          have F := fit i hi
          have c1 : zz_cp p.2.1 o.1 i = p.2.1 (16 + i) := zz_cpl _ hi
          have c2 : zz_cp p.2.2.1 o.1 i = p.2.2.1 (16 + i) := zz_cpl _ hi
          have c3 : zz_cp p.2.2.2.1 o.1 i = p.2.2.2.1 (16 + i) := zz_cpl _ hi
          have c4 : zz_cp p.2.2.2.2 o.1 i = p.2.2.2.2 (16 + i) := zz_cpl _ hi
          refine ⟨fun h => ?_, fun h => ?_, fun h => ?_⟩
          · show zz_cp p.2.2.1 o.1 i < ar i
            rw [c2]; exact F (c1.symm.trans h)
          · have h' : 4 ≤ p.2.1 (16 + i) := by rw [← c1]; exact h
            have a := A.1 h'
            dsimp only at a
            show ar (zz_cp p.2.2.2.1 o.1 i) = if zz_cp p.2.1 o.1 i = 5 then ar i + 1 else ar i
            rw [c3, a]
            by_cases e : p.2.1 (16 + i) = 5
            · rw [if_pos e, if_pos (c1.trans e)]
            · rw [if_neg e, if_neg (fun q => e (c1.symm.trans q))]
          · have h' : 7 ≤ p.2.1 (16 + i) := by rw [← c1]; exact h
            show ar (zz_cp p.2.2.2.2 o.1 i) = ar i
            rw [c4]; exact A.2 h'
        · have hi : i < o.1 := hi
          have c1 : zz_cp p.2.1 o.1 i = p.2.1 (16 + i) := zz_cpl _ hi
          have c2 : zz_cp p.2.2.1 o.1 i = p.2.2.1 (16 + i) := zz_cpl _ hi
          have c3 : zz_cp nb o.1 i = nb (16 + i) := zz_cpl _ hi
          show zz_cp p.2.1 o.1 i = 2 ∨ zz_cp p.2.1 o.1 i = 3 ∨ zz_cp p.2.1 o.1 i = 6 ∨ zz_cp p.2.1 o.1 i = 9 → zz_cp nb o.1 i = nI (zz_cp p.2.2.1 o.1 i)
          rw [c1, c2, c3]
          exact hN i hi
      refine br_t (by rw [hb0]; rfl) ⟨1 + o.1, ?_⟩
      have bnd : ∀ i, i < o.1 → p.2.1 (16 + i) < 128 ∧ p.2.2.1 (16 + i) < 128 ∧ p.2.2.2.1 (16 + i) < 128 ∧ p.2.2.2.2 (16 + i) < 128 := fun i hi => by
        obtain ⟨c1, c2, c3, c4, c5, c6, -⟩ := hT i hi
        dsimp only at c1 c2 c5 c6
        omega
      have XL := fun (post : Int32 → SX → Prop) H => xs_cp_loop (o := xs_ot o tr) (p := p) (l := l) (g := g) (w := w) (k := kk) (post := post) m16 bnd H o.1 0 (Nat.zero_add _)
      unfold zz_pc at XL
      rw [zz_cp0, zz_cp0, zz_cp0, zz_cp0] at XL
      refine XL _ (br_t (nI_le (Nat.le_refl _) (by show o.1 < 2 ^ 31; omega)) (KB _ (xs_restart (o := (0, 0, o.2.2.1, o.2.2.2.1, o.2.2.2.2.1, o.2.2.2.2.2.1, o.2.2.2.2.2.2.1, tr, o.2.2.2.2.2.2.2.2)) ?_)))
      have YL := fun (post : Int32 → SY → Prop) H => ys_cp_loop (o := ys_ot oy tr') (p := (p.1, p.2.1, nb, p.2.2.2.1, p.2.2.2.2)) (s := s0) (l := l0) (j := j0) (d := d0) (post := post) (by show oy.1 ≤ 16; omega) H oy.1 0 (Nat.zero_add _)
      unfold zz_yc at YL
      rw [zz_cp0, zz_cp0, zz_cp0, zz_cp0] at YL
      refine br_t y1 (YE _ (br_f (by rw [hb']; decide) ⟨1 + oy.1, YL _ (br_t (nI_le (Nat.le_refl _) (by show oy.1 < 2 ^ 31; omega)) (ys_restart (p := (oy.1, zz_cp p.2.1 oy.1, zz_cp nb oy.1, zz_cp p.2.2.2.1 oy.1, zz_cp p.2.2.2.2 oy.1)) (o := (0, 0, oy.2.2.1, oy.2.2.2.1, oy.2.2.2.2.1, oy.2.2.2.2.2.1, oy.2.2.2.2.2.2.1, oy.2.2.2.2.2.2.2.1, oy.2.2.2.2.2.2.2.2.1, tr', oy.2.2.2.2.2.2.2.2.2.2)) ⟨congrArg nI q1, ?_⟩))⟩))
      refine ⟨_, _, l', g', w', k', ys_or (0, 0, oy.2.2.1, oy.2.2.2.1, oy.2.2.2.2.1, oy.2.2.2.2.2.1, oy.2.2.2.2.2.2.1, oy.2.2.2.2.2.2.2.1, oy.2.2.2.2.2.2.2.2.1, tr', oy.2.2.2.2.2.2.2.2.2.2), zz_cp nb o.1, s0, l0, j0, d0, rfl, ?_, Pr2, zz_On0 hm1 m16 hT2, zz_Mk0 _ _ _, St, ⟨rfl, rfl, rfl, rfl, rfl, q6, q7, congrArg zz_z q8⟩, hl0⟩
      rw [q1]
      rfl
  · have x1 : ¬ nI o.2.1 = 1 := xs_ne 1 rfl (by omega) (by omega) h1
    have y1 : ¬ nI oy.2.1 = 1 := by rw [q2]; exact x1
    exact br_f x1 (br_f y1 ⟨rfl, I'⟩)
theorem i_vc0 : wpX_init (fun u => wpY_init (fun v => i_Rel 0 u v)) := by
  have hT : ∀ i, i < 1 → rt_Nd (fun _ => 0) (fun _ => 0) (fun _ => 0) (fun _ => 0) (fun _ => 0) i := fun i hi => by
    have e : i = 0 := by omega
    subst e
    exact ⟨Nat.zero_le _, Nat.succ_pos 5, fun _ => Nat.succ_pos 2, Nat.zero_le _, Nat.succ_pos 15, Nat.succ_pos 15, fun _ => rfl, fun h => absurd h (show ¬ 4 ≤ 0 by omega), fun h => absurd h (show ¬ 7 ≤ 0 by omega)⟩
  obtain ⟨l', g', w', k', X, KB⟩ := xs_build (o := (0, 0, 0, 0, 0, 0, (fun _ => 0), (fun _ => 0), (fun _ => 0), (fun _ => 0), (fun _ => 0))) (p := (1, (fun _ => 0), (fun _ => 0), (fun _ => 0), (fun _ => 0))) (l := ((fun _ => 0), (fun _ => 0))) (w := ((fun _ => 0), (fun _ => 0), (fun _ => 0), (fun _ => 0), (fun _ => 0), (fun _ => 0))) (k := (0, (fun _ => 0), (fun _ => 0))) (g := (0, (fun _ => 0), (fun _ => 0), (fun _ => 0), (fun _ => 0))) (lo := fun _ => 0) (Nat.le_refl _) (by show 1 ≤ 16; omega) hT rfl
  refine KB _ ?_
  have z0 : (fun _ => 0 : xs_f) = zz_z (fun _ => 0) := zz_zf (fun _ _ => rfl)
  refine ⟨(0, 0, 0, 0, 0, 0, (fun _ => 0), (fun _ => 0), (fun _ => 0), (fun _ => 0), (fun _ => 0)), (1, (fun _ => 0), (fun _ => 0), (fun _ => 0), (fun _ => 0)), l', g', w', k', (0, 0, 0, 0, 0, 0, 0, 0, (fun _ => 0), (fun _ => 0), (fun _ => 0)), (fun _ => 0), (0, 0), (fun _ => 0), ((fun _ => 0), (fun _ => 0), (fun _ => 0), (fun _ => 0)), ((fun _ => 0), (fun _ => 0), (fun _ => 0), (fun _ => 0)), rfl, rfl, ?_, ?_, zz_Mk0 _ _ _, ⟨by show 0 ≤ 1; omega, fun h => by have h : (0 : Nat) = 1 := h; omega⟩, ⟨rfl, rfl, rfl, rfl, rfl, rfl, rfl, rfl⟩, fun _ _ => Nat.zero_le _⟩
  · refine ⟨Nat.le_refl _, by show 1 ≤ 16; omega, (fun _ => 0), (fun _ => 0), hT, rfl, fun i hi => ⟨fun h => by have h : (0 : Nat) = 3 := h; omega, fun h => by have h : 4 ≤ 0 := h; omega, fun h => by have h : 7 ≤ 0 := h; omega⟩, rfl, X, fun i hi h => ?_⟩
    have h : (0 : Nat) = 2 ∨ (0 : Nat) = 3 ∨ (0 : Nat) = 6 ∨ (0 : Nat) = 9 := h
    omega
  · have a := zz_On0 (p := (1, (fun _ => 0), (fun _ => 0), (fun _ => 0), (fun _ => 0))) (f := fun _ => 0) (Nat.le_refl _) (by show 1 ≤ 16; omega) hT
    rw [← z0] at a
    exact a
end
