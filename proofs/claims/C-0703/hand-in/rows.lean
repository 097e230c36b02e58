section
theorem pk_us {f : Nat → Int32} {k : Nat} {x : Int32} : upd f k x k = x := if_pos rfl
theorem pk_un {f : Nat → Int32} {k j : Nat} {x : Int32} (h : j ≠ k) : upd f k x j = f j := if_neg h
theorem pk_sub {a b : Nat} (h : b ≤ a) : nI a - nI b = nI (a - b) := by
  obtain ⟨c, rfl⟩ : ∃ c, a = c + b := ⟨a - b, by omega⟩
  rw [← nI_add, Int32.add_sub_cancel, Nat.add_sub_cancel]
theorem pk_m1 (n : Nat) : nI (n + 1) + (-1) = nI n := by
  rw [← nI_1, Int32.add_assoc, show (1 : Int32) + (-1) = 0 from rfl, Int32.add_zero]
theorem pk_mul (a b : Nat) : nI a * nI b = nI (a * b) := (Int32.ofNat_mul a b).symm
theorem pk_div {a d : Nat} (ha : a < 2 ^ 31) (h0 : 0 < d) (hd : d < 2 ^ 31) : nI a / nI d = nI (a / d) := by
  apply Int32.toInt_inj.mp
  rw [lg_idiv_nonneg (by rw [nI_toInt ha]; omega) (by rw [nI_toInt hd]; omega), nI_toInt ha, nI_toInt hd, nI_toInt (Nat.lt_of_le_of_lt (Nat.div_le_self a d) ha)]
  first | rfl | exact (Int.natCast_ediv _ _).symm
theorem pk_rem {a d : Nat} (ha : a < 2 ^ 31) (h0 : 0 < d) (hd : d < 2 ^ 31) : nI a - nI a / nI d * nI d = nI (a % d) := by
  rw [pk_div ha h0 hd, pk_mul, pk_sub (Nat.div_mul_le_self a d)]
  exact congrArg nI (by have := Nat.div_add_mod' a d; omega)
theorem pk_sub_toInt {a b : Nat} (ha : a < 2 ^ 30) (hb : b < 2 ^ 30) : (nI a - nI b).toInt = (a : Int) - b := by
  rw [Int32.toInt_sub, nI_toInt (by omega), nI_toInt (by omega)]
  exact Int.bmod_eq_of_le (by omega) (by omega)
theorem pk_sneg {a b : Nat} (hb : b < 2 ^ 30) (h : a < b) : nI a - nI b < 0 := by
  rw [Int32.lt_iff_toInt_lt, pk_sub_toInt (by omega) hb, show (0 : Int32).toInt = 0 from by decide]
  omega
theorem pk_ix (x : Int32) {n : Nat} (hn : n < 2 ^ 31) : x < 0 ∨ nI n ≤ x ∨ ∃ j : Nat, j < n ∧ x = nI j := by
  by_cases h : x < 0
  · exact Or.inl h
  · obtain ⟨j, hj, rfl⟩ := nI_of h
    by_cases h2 : j < n
    · exact Or.inr (Or.inr ⟨j, h2, rfl⟩)
    · exact Or.inr (Or.inl (nI_le (by omega) hj))
theorem pk_le {x y : Int32} {A B : Prop} (a b : Nat) (f : a ≤ b → A) (g : b < a → B) (hx : x = nI a := by rfl) (hy : y = nI b := by rfl) (ha : a < 2 ^ 31 := by omega) (hb : b < 2 ^ 31 := by omega) : (x ≤ y → A) ∧ (¬ x ≤ y → B) := by
  subst hx hy
  rw [nI_leI ha hb]
  exact ⟨f, fun z => g (by omega)⟩
theorem pk_lt {x y : Int32} {A B : Prop} (a b : Nat) (f : a < b → A) (g : b ≤ a → B) (hx : x = nI a := by rfl) (hy : y = nI b := by rfl) (ha : a < 2 ^ 31 := by omega) (hb : b < 2 ^ 31 := by omega) : (x < y → A) ∧ (¬ x < y → B) := by
  subst hx hy
  rw [nI_ltI ha hb]
  exact ⟨f, fun z => g (by omega)⟩
theorem pk_eq {x y : Int32} {A B : Prop} (a b : Nat) (f : a = b → A) (g : a ≠ b → B) (hx : x = nI a := by rfl) (hy : y = nI b := by rfl) (ha : a < 2 ^ 31 := by omega) (hb : b < 2 ^ 31 := by omega) : (x = y → A) ∧ (¬ x = y → B) := by
  subst hx hy
  rw [nI_eq ha hb]
  exact ⟨f, g⟩
theorem pk_in {x : Int32} (n N : Nat) (h : n < N) (hx : x = nI n := by rfl) (hN : N < 2 ^ 31 := by omega) : vp_in x N := by
  subst hx
  exact vp_in_nI h hN
theorem pk_cl {x : Int32} (n : Nat) (hx : x = nI n := by rfl) (h : n < 2 ^ 31 := by omega) : x.toNatClampNeg = n := by
  subst hx
  exact nI_clamp h
theorem pk_tn {n : Nat} (h : n < 2 ^ 32) : (nI n).toBitVec.toNat = n := Nat.mod_eq_of_lt h
theorem pk_and (x : Int32) {m : Int32} (k : Nat) (hm : m.toBitVec.toNat = 2 ^ k - 1) : x &&& m = nI (x.toBitVec.toNat % 2 ^ k) := by
  apply Int32.toBitVec_inj.mp
  apply BitVec.eq_of_toNat_eq
  rw [Int32.toBitVec_and, BitVec.toNat_and, hm, Nat.and_two_pow_sub_one_eq_mod]
  show _ = (BitVec.ofNat 32 _).toNat
  rw [BitVec.toNat_ofNat]
  exact (Nat.mod_eq_of_lt (Nat.lt_of_le_of_lt (Nat.mod_le _ _) x.toBitVec.isLt)).symm
theorem pk_andN {n : Nat} (h : n < 2 ^ 32) {m : Int32} (k : Nat) (hm : m.toBitVec.toNat = 2 ^ k - 1) : nI n &&& m = nI (n % 2 ^ k) := by
  rw [pk_and _ k hm, pk_tn h]
theorem pk_andE (x : Int32) {m : Int32} (k : Nat) (hm : m.toBitVec.toNat = 2 ^ k - 1) : ∃ j : Nat, j < 2 ^ k ∧ x &&& m = nI j := ⟨_, Nat.mod_lt _ (Nat.two_pow_pos k), pk_and x k hm⟩
theorem pk_andIn (x : Int32) {m : Int32} (k : Nat) (hm : m.toBitVec.toNat = 2 ^ k - 1) (hk : k ≤ 30) : vp_in (x &&& m) (2 ^ k) := by
  obtain ⟨j, hj, e⟩ := pk_andE x k hm
  rw [e]
  exact vp_in_nI hj (Nat.lt_of_le_of_lt (Nat.pow_le_pow_right (by decide) hk) (by decide))
theorem pk_shl (a s : Int32) (k : Nat) (hs : (s.toBitVec.smod 32).toNat = k) : (a <<< s).toBitVec.toNat = a.toBitVec.toNat * 2 ^ k % 2 ^ 32 := by
  show (a.toBitVec <<< (s.toBitVec.smod 32).toNat).toNat = _
  rw [hs, BitVec.toNat_shiftLeft, Nat.shiftLeft_eq]
theorem pk_shlN {n : Nat} (s : Int32) (k : Nat) (hs : (s.toBitVec.smod 32).toNat = k) (h : n * 2 ^ k < 2 ^ 32) : nI n <<< s = nI (n * 2 ^ k) := by
  apply Int32.toBitVec_inj.mp
  apply BitVec.eq_of_toNat_eq
  have hn : n < 2 ^ 32 := Nat.lt_of_le_of_lt (Nat.le_mul_of_pos_right n (Nat.two_pow_pos k)) h
  rw [pk_shl _ _ k hs, pk_tn hn, pk_tn h, Nat.mod_eq_of_lt h]
theorem pk_shr (a s : Int32) (k : Nat) (hs : (s.toBitVec.smod 32).toNat = k) : (a >>> s).toInt = a.toInt >>> k := by
  show (a.toBitVec.sshiftRight (s.toBitVec.smod 32).toNat).toInt = _
  rw [hs, BitVec.toInt_sshiftRight]
  rfl
theorem pk_shrN {n : Nat} (h : n < 2 ^ 31) (s : Int32) (k : Nat) (hs : (s.toBitVec.smod 32).toNat = k) : nI n >>> s = nI (n / 2 ^ k) := by
  apply Int32.toInt_inj.mp
  have h2 : n / 2 ^ k ≤ n := Nat.div_le_self _ _
  rw [pk_shr _ _ k hs, nI_toInt h, nI_toInt (by omega), Int.shiftRight_eq_div_pow]
  rfl
theorem pk_ushr (x s : Int32) (k : Nat) (hs : ((s.toUInt32 &&& Int32.toUInt32 31).toBitVec % 32).toNat = k) : (x.toUInt32 >>> (s.toUInt32 &&& Int32.toUInt32 31)).toInt32.toBitVec.toNat = x.toBitVec.toNat / 2 ^ k := by
  have e : (x.toUInt32 >>> (s.toUInt32 &&& Int32.toUInt32 31)).toInt32.toBitVec = x.toBitVec >>> k := by
    rw [← hs]
    exact UInt32.toBitVec_shiftRight _ _
  rw [e, BitVec.toNat_ushiftRight, Nat.shiftRight_eq_div_pow]
theorem pk_ushrN {n : Nat} (hn : n < 2 ^ 32) (s : Int32) (k : Nat) (hs : ((s.toUInt32 &&& Int32.toUInt32 31).toBitVec % 32).toNat = k) : ((nI n).toUInt32 >>> (s.toUInt32 &&& Int32.toUInt32 31)).toInt32 = nI (n / 2 ^ k) := by
  apply Int32.toBitVec_inj.mp
  apply BitVec.eq_of_toNat_eq
  rw [pk_ushr _ s k hs, pk_tn hn, pk_tn (Nat.lt_of_le_of_lt (Nat.div_le_self _ _) hn)]
theorem pk_nb (z : Int32) : narrow .byte (.int z.toInt8.toInt32) = .int z.toInt8.toInt32 := congrArg Value.int (by simp)
theorem pk_ns (z : Int32) : narrow .short (.int z.toInt16.toInt32) = .int z.toInt16.toInt32 := congrArg Value.int (by simp)
theorem pk_vb (z : Int32) : vp_nar .byte z.toInt8.toInt32 = z.toInt8.toInt32 := by rw [vp_nar_byte]; simp
/-! ===== Int32 by its bits: bt x i ===== -/
def bt (x : Int32) (i : Nat) : Bool := x.toBitVec.getLsbD i
theorem b_ext {x y : Int32} (h : ∀ i, i < 32 → bt x i = bt y i) : x = y := Int32.toBitVec_inj.mp (BitVec.eq_of_getLsbD_eq (fun i hi => h i hi))
theorem b_or (x y : Int32) (i : Nat) : bt (x ||| y) i = (bt x i || bt y i) := by unfold bt; rw [Int32.toBitVec_or, BitVec.getLsbD_or]
theorem b_and (x y : Int32) (i : Nat) : bt (x &&& y) i = (bt x i && bt y i) := by unfold bt; rw [Int32.toBitVec_and, BitVec.getLsbD_and]
theorem b_xor (x y : Int32) (i : Nat) : bt (x ^^^ y) i = (bt x i ^^ bt y i) := by unfold bt; rw [Int32.toBitVec_xor, BitVec.getLsbD_xor]
theorem b_big {x : Int32} {i : Nat} (h : 32 ≤ i) : bt x i = false := BitVec.getLsbD_of_ge _ _ h
theorem b_255 (i : Nat) : bt 255 i = decide (i < 8) := by
  rcases Nat.lt_or_ge i 32 with h | h
  · exact (by decide +kernel : ∀ i, i < 32 → bt 255 i = decide (i < 8)) i h
  · rw [b_big h, decide_eq_false (by omega)]
theorem b_65535 (i : Nat) : bt 65535 i = decide (i < 16) := by
  rcases Nat.lt_or_ge i 32 with h | h
  · exact (by decide +kernel : ∀ i, i < 32 → bt 65535 i = decide (i < 16)) i h
  · rw [b_big h, decide_eq_false (by omega)]
theorem b_m1 : ∀ i, i < 32 → bt (-1) i = true := by decide +kernel
theorem b_0 (i : Nat) : bt 0 i = false := BitVec.getLsbD_zero
theorem s_l : ∀ n, n < 32 → ((nI n &&& 31).toBitVec.smod 32).toNat = n := by decide +kernel
theorem s_u : ∀ n, n < 32 → (((nI n).toUInt32 &&& Int32.toUInt32 31).toBitVec % 32).toNat = n := by decide +kernel
theorem b_shl (n : Nat) (hn : n < 32) (x : Int32) {i : Nat} (hi : i < 32) : bt (x <<< (nI n &&& 31)) i = (decide (n ≤ i) && bt x (i - n)) := by
  unfold bt
  rw [Int32.toBitVec_shiftLeft]
  show (x.toBitVec <<< ((nI n &&& 31).toBitVec.smod 32).toNat).getLsbD i = _
  rw [s_l n hn, BitVec.getLsbD_shiftLeft]
  rcases Nat.lt_or_ge i n with h | h
  · simp [h, Nat.not_le.mpr h]
  · simp [hi, h, Nat.not_lt.mpr h]
theorem b_ushr (n : Nat) (hn : n < 32) (x : Int32) (i : Nat) : bt ((x.toUInt32 >>> ((nI n).toUInt32 &&& Int32.toUInt32 31)).toInt32) i = bt x (n + i) := by
  show (x.toUInt32 >>> ((nI n).toUInt32 &&& Int32.toUInt32 31)).toBitVec.getLsbD i = x.toUInt32.toBitVec.getLsbD (n + i)
  rw [UInt32.toBitVec_shiftRight]
  show (x.toUInt32.toBitVec >>> (((nI n).toUInt32 &&& Int32.toUInt32 31).toBitVec % 32).toNat).getLsbD i = _
  rw [s_u n hn, BitVec.getLsbD_ushiftRight]
theorem b_sshr (n : Nat) (hn : n < 32) (x : Int32) {i : Nat} (hi : i < 32) : bt (x >>> (nI n &&& 31)) i = if n + i < 32 then bt x (n + i) else bt x 31 := by
  unfold bt
  rw [Int32.toBitVec_shiftRight]
  show (x.toBitVec.sshiftRight ((nI n &&& 31).toBitVec.smod 32).toNat).getLsbD i = _
  rw [s_l n hn, BitVec.getLsbD_sshiftRight, BitVec.msb_eq_getLsbD_last]
  simp [hi]
theorem b_shl8 (x : Int32) {i : Nat} (hi : i < 32) : bt (x <<< ((8 : Int32) &&& 31)) i = (decide (8 ≤ i) && bt x (i - 8)) := b_shl 8 (by omega) x hi
theorem b_shl16 (x : Int32) {i : Nat} (hi : i < 32) : bt (x <<< ((16 : Int32) &&& 31)) i = (decide (16 ≤ i) && bt x (i - 16)) := b_shl 16 (by omega) x hi
theorem b_shl24 (x : Int32) {i : Nat} (hi : i < 32) : bt (x <<< ((24 : Int32) &&& 31)) i = (decide (24 ≤ i) && bt x (i - 24)) := b_shl 24 (by omega) x hi
theorem b_sshr8 (x : Int32) {i : Nat} (hi : i < 32) : bt (x >>> ((8 : Int32) &&& 31)) i = if 8 + i < 32 then bt x (8 + i) else bt x 31 := b_sshr 8 (by omega) x hi
/-! ===== nI under and, xor, >>>, one bit, 65535 ===== -/
theorem nx_and (a b : Nat) : nI a &&& nI b = nI (a &&& b) := by
  apply Int32.toBitVec_inj.1
  show BitVec.ofNat 32 a &&& BitVec.ofNat 32 b = BitVec.ofNat 32 (a &&& b)
  apply BitVec.eq_of_getLsbD_eq
  intro i hi
  simp [hi]
theorem nx_xor (a b : Nat) : nI a ^^^ nI b = nI (a ^^^ b) := by
  apply Int32.toBitVec_inj.1
  show BitVec.ofNat 32 a ^^^ BitVec.ofNat 32 b = BitVec.ofNat 32 (a ^^^ b)
  apply BitVec.eq_of_getLsbD_eq
  intro i hi
  simp [hi]
/-! ===== own rows on numbers and bits ===== -/
theorem nx_or (a b : Nat) : nI a ||| nI b = nI (a ||| b) := by
  apply Int32.toBitVec_inj.1
  show BitVec.ofNat 32 a ||| BitVec.ofNat 32 b = BitVec.ofNat 32 (a ||| b)
  apply BitVec.eq_of_getLsbD_eq
  intro i hi
  simp [hi]
theorem rw_by : ∀ a, a < 128 → vp_nar .byte (nI a).toInt8.toInt32 = nI a := by
  have h : ∀ a, a < 128 → (nI a).toInt8.toInt32 = nI a := by decide +kernel
  intro a ha
  rw [pk_vb, h a ha]
theorem rw_b0 : vp_nar .byte 0 = 0 := by rw [vp_nar_byte]; decide
theorem rw_b15 : vp_nar .byte 15 = nI 15 := by rw [vp_nar_byte]; decide
theorem rw_z0 : vp_nar .boolean 0 = 0 := rfl
theorem rw_z1 : vp_nar .boolean 1 = 1 := rfl
theorem rw_p2 : ∀ k, k < 31 → (1 : Int32) <<< (nI k &&& 31) = nI (2 ^ k) := by decide +kernel
theorem rw_b1 (i : Nat) : bt 1 i = decide (i = 0) := by
  rcases Nat.lt_or_ge i 32 with h | h
  · exact (by decide +kernel : ∀ i, i < 32 → bt 1 i = decide (i = 0)) i h
  · rw [b_big h, decide_eq_false (by omega)]
theorem rw_sh1 {k i : Nat} (hk : k < 32) (hi : i < 32) : bt ((1 : Int32) <<< (nI k &&& 31)) i = decide (i = k) := by
  rw [b_shl k hk 1 hi, rw_b1]
  by_cases h : i = k
  · subst h; simp
  · by_cases h2 : k ≤ i
    · simp [h]; omega
    · simp [h]; omega
/-- one bit by a signed shift -/
theorem rw_bit (x : Int32) {k : Nat} (hk : k < 32) : (x >>> (nI k &&& 31)) &&& 1 = if bt x k then 1 else 0 := by
  apply b_ext
  intro i hi
  rw [b_and, rw_b1]
  by_cases h : i = 0
  · subst h
    rw [b_sshr k hk x (by decide), if_pos (by omega)]
    cases hb : bt x (k + 0)
    · decide
    · decide
  · rw [decide_eq_false h, Bool.and_false]
    cases hb : bt x k
    · rw [if_neg (by decide), b_0]
    · rw [if_pos rfl, rw_b1, decide_eq_false h]
theorem rw_ubit (x : Int32) {k : Nat} (hk : k < 32) : ((x.toUInt32 >>> ((nI k).toUInt32 &&& Int32.toUInt32 31)).toInt32) &&& 1 = if bt x k then 1 else 0 := by
  apply b_ext
  intro i hi
  rw [b_and, rw_b1]
  by_cases h : i = 0
  · subst h
    rw [b_ushr k hk x]
    cases hb : bt x (k + 0)
    · decide
    · decide
  · rw [decide_eq_false h, Bool.and_false]
    cases hb : bt x k
    · rw [if_neg (by decide), b_0]
    · rw [if_pos rfl, rw_b1, decide_eq_false h]
theorem rw_bit0 (x : Int32) {k : Nat} (hk : k < 32) : (x >>> (nI k &&& 31)) &&& 1 = 0 ↔ bt x k = false := by
  rw [rw_bit x hk]; cases bt x k
  · exact ⟨fun _ => rfl, fun _ => rfl⟩
  · exact ⟨fun h => absurd h (by decide), fun h => by cases h⟩
theorem rw_bit1 (x : Int32) {k : Nat} (hk : k < 32) : (x >>> (nI k &&& 31)) &&& 1 = 1 ↔ bt x k = true := by
  rw [rw_bit x hk]; cases bt x k
  · exact ⟨fun h => absurd h (by decide), fun h => by cases h⟩
  · exact ⟨fun _ => rfl, fun _ => rfl⟩
theorem rw_ubit0 (x : Int32) {k : Nat} (hk : k < 32) : ((x.toUInt32 >>> ((nI k).toUInt32 &&& Int32.toUInt32 31)).toInt32) &&& 1 = 0 ↔ bt x k = false := by
  rw [rw_ubit x hk]; cases bt x k
  · exact ⟨fun _ => rfl, fun _ => rfl⟩
  · exact ⟨fun h => absurd h (by decide), fun h => by cases h⟩
/-- and with one bit -/
theorem rw_and0 (x : Int32) {k : Nat} (hk : k < 32) : x &&& ((1 : Int32) <<< (nI k &&& 31)) = 0 ↔ bt x k = false := by
  constructor
  · intro h
    have e : bt (x &&& ((1 : Int32) <<< (nI k &&& 31))) k = false := by rw [h, b_0]
    rw [b_and, rw_sh1 hk hk, decide_eq_true rfl, Bool.and_true] at e
    exact e
  · intro h
    apply b_ext
    intro i hi
    rw [b_and, rw_sh1 hk hi, b_0]
    by_cases e : i = k
    · rw [e, h]; rfl
    · rw [decide_eq_false e, Bool.and_false]
theorem rw_bn (a i : Nat) (hi : i < 32) : bt (nI a) i = a.testBit i := by
  show (BitVec.ofNat 32 a).getLsbD i = _
  rw [BitVec.getLsbD_ofNat, decide_eq_true hi, Bool.true_and]
theorem rw_a3 : ∀ c, c < 32 → nI c &&& 3 = nI (c % 4) := by decide +kernel
theorem rw_a31 : ∀ c, c < 32 → nI c &&& 31 = nI c := by decide +kernel
end
section
/-! ===== tokens, and the stack of places that are still wanted, as a list ===== -/
def dd_wn (c : Nat) : Nat := if c = 5 then 3 else if c = 22 then 3 else if c = 4 then 2 else if c = 6 then 2 else if c = 20 then 2 else if c = 21 then 2 else if c = 19 then 1 else 0
abbrev dd_stm (c : Nat) : Prop := c = 0 ∨ c = 1 ∨ (4 ≤ c ∧ c ≤ 6) ∨ (8 ≤ c ∧ c < 16)
abbrev dd_cnd (c : Nat) : Prop := (16 ≤ c ∧ c ≤ 22) ∨ (24 ≤ c ∧ c < 32)
def dd_pk (c i : Nat) : Nat := if 16 ≤ c then 2 else if c = 5 ∧ i = 0 then 2 else if c = 6 ∧ i = 0 then 2 else 1
def dd_kd (t : Nat → Nat) : Nat × Nat → Nat
  | (0, _) => 1
  | (p + 1, i) => dd_pk (t p) i
def dd_ok (d c : Nat) : Prop := (d = 1 → dd_stm c) ∧ (d = 2 → dd_cnd c)
def dd_sg (q : Nat) : Nat → Nat → List (Nat × Nat)
  | 0, _ => []
  | d + 1, h => (q, h) :: dd_sg q d (h + 1)
def dd_ob (t : Nat → Nat) : Nat → List (Nat × Nat)
  | 0 => [(0, 0)]
  | k + 1 => dd_sg (k + 1) (dd_wn (t k)) 0 ++ (dd_ob t k).tail
def dd_WF (t : Nat → Nat) (n : Nat) : Prop := ∀ k, k < n → ∃ x R, dd_ob t k = x :: R ∧ dd_ok (dd_kd t x) (t k)
theorem dd_wn_le (c : Nat) : dd_wn c ≤ 3 := by
  unfold dd_wn
  repeat' split
  all_goals omega
theorem dd_wn_pos {c : Nat} (h : 0 < dd_wn c) : c = 4 ∨ c = 5 ∨ c = 6 ∨ c = 19 ∨ c = 20 ∨ c = 21 ∨ c = 22 := by
  unfold dd_wn at h
  repeat' split at h
  all_goals omega
theorem dd_pk_or (c i : Nat) : dd_pk c i = 1 ∨ dd_pk c i = 2 := by
  unfold dd_pk
  repeat' split
  all_goals omega
theorem dd_kd_or (t : Nat → Nat) (x : Nat × Nat) : dd_kd t x = 1 ∨ dd_kd t x = 2 := by
  match x with
  | (0, _) => exact Or.inl rfl
  | (p + 1, i) => exact dd_pk_or _ _
theorem dd_sg_len (q : Nat) : ∀ d h, (dd_sg q d h).length = d := by
  intro d
  induction d with
  | zero => intro h; rfl
  | succ d ih => intro h; show (dd_sg q d (h + 1)).length + 1 = d + 1; rw [ih]
theorem dd_sg_mem {q : Nat} : ∀ d h (x : Nat × Nat), x ∈ dd_sg q d h → x.1 = q ∧ h ≤ x.2 ∧ x.2 < h + d := by
  intro d
  induction d with
  | zero => intro h x hx; exact absurd hx (by simp [dd_sg])
  | succ d ih =>
    intro h x hx
    rw [dd_sg, List.mem_cons] at hx
    rcases hx with e | hx
    · subst e; exact ⟨rfl, Nat.le_refl _, by show h < h + (d + 1); omega⟩
    · have := ih (h + 1) x hx; omega
theorem dd_sg_nd (q : Nat) : ∀ d h, (dd_sg q d h).Nodup := by
  intro d
  induction d with
  | zero => intro h; exact List.nodup_nil
  | succ d ih =>
    intro h
    rw [dd_sg, List.nodup_cons]
    refine ⟨fun hm => ?_, ih _⟩
    have := dd_sg_mem d (h + 1) _ hm
    simp only at this
    omega
theorem dd_sg_cut (q : Nat) : ∀ i d h, i < d → dd_sg q d h = dd_sg q i h ++ (q, h + i) :: dd_sg q (d - i - 1) (h + i + 1) := by
  intro i
  induction i with
  | zero =>
    intro d h hd
    match d, hd with
    | d + 1, _ => simp [dd_sg]
  | succ i ih =>
    intro d h hd
    match d, hd with
    | d + 1, hd =>
      rw [dd_sg, dd_sg, ih d (h + 1) (by omega), List.cons_append]
      have e1 : h + 1 + i = h + (i + 1) := by omega
      have e2 : d - i - 1 = d + 1 - (i + 1) - 1 := by omega
      rw [e1, e2]
theorem dd_ob_mem {t : Nat → Nat} : ∀ k (x : Nat × Nat), x ∈ dd_ob t k → x = (0, 0) ∨ ∃ p i, x = (p + 1, i) ∧ p < k ∧ i < dd_wn (t p) := by
  intro k
  induction k with
  | zero => intro x hx; rw [dd_ob, List.mem_singleton] at hx; exact Or.inl hx
  | succ k ih =>
    intro x hx
    rw [dd_ob, List.mem_append] at hx
    rcases hx with hx | hx
    · have h := dd_sg_mem _ _ x hx
      refine Or.inr ⟨k, x.2, ?_, Nat.lt_succ_self k, by omega⟩
      rw [← h.1]
    · rcases ih x (List.mem_of_mem_tail hx) with e | ⟨p, i, e, hp, hi⟩
      · exact Or.inl e
      · exact Or.inr ⟨p, i, e, by omega, hi⟩
theorem dd_ob_le {t : Nat → Nat} {k : Nat} {x : Nat × Nat} (h : x ∈ dd_ob t k) : x.1 ≤ k := by
  rcases dd_ob_mem k x h with e | ⟨p, i, e, hp, _⟩
  · subst e; exact Nat.zero_le _
  · subst e; exact hp
theorem dd_ob_nd {t : Nat → Nat} : ∀ k, (dd_ob t k).Nodup := by
  intro k
  induction k with
  | zero => simp [dd_ob]
  | succ k ih =>
    rw [dd_ob, List.nodup_append]
    refine ⟨dd_sg_nd _ _ _, List.Sublist.nodup (List.tail_sublist _) ih, ?_⟩
    intro a ha b hb e
    subst e
    have h1 := (dd_sg_mem _ _ a ha).1
    have h2 := dd_ob_le (List.mem_of_mem_tail hb)
    omega
theorem dd_ob_un {t : Nat → Nat} {j : Nat} {x : Nat × Nat} {R : List (Nat × Nat)} (h : dd_ob t j = x :: R) : ∀ k, j < k → x ∉ dd_ob t k := by
  have hx : x.1 ≤ j := dd_ob_le (by rw [h]; exact List.mem_cons_self)
  intro k
  induction k with
  | zero => intro hk; omega
  | succ k ih =>
    intro hk hm
    rw [dd_ob, List.mem_append] at hm
    rcases hm with hm | hm
    · have := (dd_sg_mem _ _ x hm).1; omega
    · rcases Nat.lt_or_ge j k with h1 | h1
      · exact ih h1 (List.mem_of_mem_tail hm)
      · have e : k = j := by omega
        subst e
        rw [h, List.tail_cons] at hm
        have hn := dd_ob_nd (t := t) k
        rw [h, List.nodup_cons] at hn
        exact hn.1 hm
theorem dd_ob_inj {t : Nat → Nat} {j k : Nat} {x : Nat × Nat} {R S : List (Nat × Nat)} (h : dd_ob t j = x :: R) (g : dd_ob t k = x :: S) : j = k := by
  rcases Nat.lt_trichotomy j k with l | l | l
  · exact absurd (by rw [g]; exact List.mem_cons_self) (dd_ob_un h k l)
  · exact l
  · exact absurd (by rw [h]; exact List.mem_cons_self) (dd_ob_un g j l)
theorem dd_ob_len {t : Nat → Nat} : ∀ k, (dd_ob t k).length ≤ 1 + 2 * k := by
  intro k
  induction k with
  | zero => simp [dd_ob]
  | succ k ih =>
    rw [dd_ob, List.length_append, dd_sg_len, List.length_tail]
    have := dd_wn_le (t k)
    omega
theorem dd_ob_cg {t s : Nat → Nat} : ∀ k, (∀ j, j < k → t j = s j) → dd_ob t k = dd_ob s k := by
  intro k
  induction k with
  | zero => intro _; rfl
  | succ k ih =>
    intro h
    rw [dd_ob, dd_ob, ih (fun j hj => h j (by omega)), h k (by omega)]
theorem dd_kd_cg {t s : Nat → Nat} {k : Nat} {x : Nat × Nat} (h : ∀ j, j < k → t j = s j) (hx : x ∈ dd_ob t k) : dd_kd t x = dd_kd s x := by
  rcases dd_ob_mem k x hx with e | ⟨p, i, e, hp, _⟩
  · subst e; rfl
  · subst e; show dd_pk (t p) i = dd_pk (s p) i; rw [h p hp]
theorem dd_WF_cg {t s : Nat → Nat} {n : Nat} (h : ∀ j, j < n → t j = s j) (H : dd_WF t n) : dd_WF s n := by
  intro k hk
  obtain ⟨x, R, e, o⟩ := H k hk
  have h' : ∀ j, j < k → t j = s j := fun j hj => h j (by omega)
  refine ⟨x, R, by rw [← dd_ob_cg k h', e], ?_⟩
  rw [← dd_kd_cg h' (by rw [e]; exact List.mem_cons_self), ← h k hk]
  exact o
theorem dd_WF_le {t : Nat → Nat} {n m : Nat} (h : m ≤ n) (H : dd_WF t n) : dd_WF t m := fun k hk => H k (by omega)
theorem dd_WF_0 (t : Nat → Nat) : dd_WF t 0 := fun k hk => absurd hk (Nat.not_lt_zero k)
/-- the tokens with c at n -/
def dd_pu (t : Nat → Nat) (n c : Nat) : Nat → Nat := fun j => if j = n then c else t j
theorem dd_pu_ne {t : Nat → Nat} {n c j : Nat} (h : j < n) : t j = dd_pu t n c j := (if_neg (by omega)).symm
theorem dd_WF_pu {t : Nat → Nat} {n c : Nat} {x : Nat × Nat} {R : List (Nat × Nat)} (H : dd_WF t n) (e : dd_ob t n = x :: R) (o : dd_ok (dd_kd t x) c) : dd_WF (dd_pu t n c) (n + 1) := by
  intro k hk
  rcases Nat.lt_or_ge k n with h | h
  · exact dd_WF_cg (fun j hj => dd_pu_ne hj) H k h
  · have ek : k = n := by omega
    subst ek
    have h' : ∀ j, j < k → t j = dd_pu t k c j := fun j hj => dd_pu_ne hj
    refine ⟨x, R, by rw [← dd_ob_cg k h', e], ?_⟩
    rw [← dd_kd_cg h' (by rw [e]; exact List.mem_cons_self), dd_pu, if_pos rfl]
    exact o
/-- what is behind a part is the rest -/
theorem dd_ob_st {t : Nat → Nat} {j : Nat} {S R : List (Nat × Nat)} {x : Nat × Nat} (h : dd_ob t j = (x :: S) ++ R) : dd_ob t (j + 1) = (dd_sg (j + 1) (dd_wn (t j)) 0 ++ S) ++ R := by
  rw [dd_ob, h, List.cons_append, List.tail_cons, List.append_assoc]
theorem dd_ch {t : Nat → Nat} {n : Nat} (hn : dd_ob t n = []) : ∀ d j (S R : List (Nat × Nat)), j + d = n → dd_ob t j = S ++ R → ∃ j', j ≤ j' ∧ j' ≤ n ∧ dd_ob t j' = R := by
  intro d
  induction d with
  | zero =>
    intro j S R hj h
    have e : j = n := by omega
    subst e
    rw [hn] at h
    have h2 := List.append_eq_nil_iff.mp h.symm
    exact ⟨j, Nat.le_refl _, Nat.le_refl _, by rw [hn, h2.2]⟩
  | succ d ih =>
    intro j S R hj h
    match S, h with
    | [], h => exact ⟨j, Nat.le_refl _, by omega, h⟩
    | x :: S, h =>
      obtain ⟨j', h1, h2, h3⟩ := ih (j + 1) _ R (by omega) (dd_ob_st h)
      exact ⟨j', by omega, h2, h3⟩
def dd_fs (t : Nat → Nat) (q : Nat × Nat) : Nat → Nat
  | 0 => 0
  | j + 1 => if (dd_ob t j).head? = some q then j else dd_fs t q j
theorem dd_fs_eq {t : Nat → Nat} {q : Nat × Nat} {j : Nat} {R : List (Nat × Nat)} (h : dd_ob t j = q :: R) : ∀ n, j < n → dd_fs t q n = j := by
  intro n
  induction n with
  | zero => intro hj; omega
  | succ n ih =>
    intro hj
    rw [dd_fs]
    by_cases e : j = n
    · subst e
      rw [h, List.head?_cons, if_pos rfl]
    · rw [if_neg, ih (by omega)]
      intro g
      have hm : q ∈ dd_ob t n := List.mem_of_mem_head? (by rw [g]; rfl)
      exact dd_ob_un h n (by omega) hm
/-- where part i of token k begins -/
def dd_st (t : Nat → Nat) (n k i : Nat) : Nat := dd_fs t (k + 1, i) n
theorem dd_child {t : Nat → Nat} {n k i : Nat} (hn : dd_ob t n = []) (hk : k < n) (hi : i < dd_wn (t k)) : k < dd_st t n k i ∧ dd_st t n k i < n ∧ ∃ R, dd_ob t (dd_st t n k i) = (k + 1, i) :: R := by
  have e : dd_ob t (k + 1) = dd_sg (k + 1) i 0 ++ ((k + 1, i) :: (dd_sg (k + 1) (dd_wn (t k) - i - 1) (i + 1) ++ (dd_ob t k).tail)) := by
    rw [dd_ob, dd_sg_cut (k + 1) i _ 0 hi, List.append_assoc, Nat.zero_add, List.cons_append]
  obtain ⟨j, h1, h2, h3⟩ := dd_ch hn (n - (k + 1)) (k + 1) _ _ (by omega) e
  have h4 : j ≠ n := by
    intro e
    rw [e, hn] at h3
    cases h3
  have h5 : dd_st t n k i = j := dd_fs_eq h3 n (by omega)
  rw [h5]
  exact ⟨by omega, by omega, _, h3⟩
theorem dd_child0 {t : Nat → Nat} {n k : Nat} (hn : dd_ob t n = []) (hk : k < n) (hi : 0 < dd_wn (t k)) : dd_st t n k 0 = k + 1 := by
  obtain ⟨h1, h2, R, h3⟩ := dd_child hn hk hi
  have e : dd_ob t (k + 1) = (k + 1, 0) :: (dd_sg (k + 1) (dd_wn (t k) - 0 - 1) (0 + 1) ++ (dd_ob t k).tail) := by
    rw [dd_ob, dd_sg_cut (k + 1) 0 _ 0 hi]
    rfl
  exact dd_ob_inj h3 e
end
section
/-! ===== where a token goes on: the pure form; walks ===== -/
def dd_ru (c i p s1 s2 : Nat) (P : Nat × Nat × Nat) : Nat × Nat × Nat :=
  if c = 4 then (if i = 0 then (s1, s1, P.2.2) else (P.1, P.1, P.2.2))
  else if c = 5 then (if i = 0 then (s1, s2, P.2.2) else (P.1, P.1, P.2.2))
  else if c = 6 then (if i = 0 then (s1, P.1, P.2.2) else (p, p, P.1))
  else if c = 19 then (P.2.1, P.1, 22)
  else if c = 20 then (if i = 0 then (s1, P.2.1, 22) else (P.1, P.2.1, 22))
  else if c = 21 then (if i = 0 then (P.1, s1, 22) else (P.1, P.2.1, 22))
  else (if i = 0 then (s1, s2, 22) else (P.1, P.2.1, 22))
def dd_lf (t : Nat → Nat) (n : Nat) : Nat → Nat → Nat × Nat × Nat
  | 0, _ => (22, 22, 22)
  | f + 1, j => match dd_ob t j with
    | (p + 1, i) :: _ => dd_ru (t p) i p (dd_st t n p 1) (dd_st t n p 2) (dd_lf t n f p)
    | _ => (22, 22, 22)
def dd_lk (t : Nat → Nat) (n j : Nat) : Nat × Nat × Nat := dd_lf t n (j + 1) j
theorem dd_hd {t : Nat → Nat} {j p i : Nat} {R : List (Nat × Nat)} (h : dd_ob t j = (p + 1, i) :: R) : p < j ∧ i < dd_wn (t p) := by
  rcases dd_ob_mem j (p + 1, i) (by rw [h]; exact List.mem_cons_self) with e | ⟨p', i', e, hp, hi⟩
  · cases e
  · cases e; exact ⟨hp, hi⟩
theorem dd_lf_s {t : Nat → Nat} {n f j p i : Nat} {R : List (Nat × Nat)} (h : dd_ob t j = (p + 1, i) :: R) : dd_lf t n (f + 1) j = dd_ru (t p) i p (dd_st t n p 1) (dd_st t n p 2) (dd_lf t n f p) := by
  rw [dd_lf, h]
theorem dd_lf_f {t : Nat → Nat} {n : Nat} : ∀ f g j, j < f → j < g → dd_lf t n f j = dd_lf t n g j := by
  intro f
  induction f with
  | zero => intro g j h; omega
  | succ f ih =>
    intro g j hf hg
    match g, hg with
    | g + 1, hg =>
      match e : dd_ob t j with
      | (p + 1, i) :: R =>
        have hp := (dd_hd e).1
        rw [dd_lf_s e, dd_lf_s e, ih g p (by omega) (by omega)]
      | (0, i) :: R => rw [dd_lf, dd_lf, e]
      | [] => rw [dd_lf, dd_lf, e]
theorem dd_lk_s {t : Nat → Nat} {n j p i : Nat} {R : List (Nat × Nat)} (h : dd_ob t j = (p + 1, i) :: R) : dd_lk t n j = dd_ru (t p) i p (dd_st t n p 1) (dd_st t n p 2) (dd_lk t n p) := by
  have hp := (dd_hd h).1
  rw [dd_lk, dd_lf_s h, dd_lk, dd_lf_f j (p + 1) p hp (Nat.lt_succ_self p)]
theorem dd_lk_0 {t : Nat → Nat} {n j i : Nat} {R : List (Nat × Nat)} (h : dd_ob t j = (0, i) :: R) : dd_lk t n j = (22, 22, 22) := by
  rw [dd_lk, dd_lf, h]
def dd_T (t : Nat → Nat) (n j : Nat) : Nat := (dd_lk t n j).1
def dd_F (t : Nat → Nat) (n j : Nat) : Nat := (dd_lk t n j).2.1
def dd_B (t : Nat → Nat) (n j : Nat) : Nat := (dd_lk t n j).2.2
def dd_gd (n x : Nat) : Prop := x < n ∨ x = 22
theorem dd_gd_le {n x : Nat} (h : dd_gd n x) (hn : n ≤ 22) : x ≤ 22 := by
  rcases h with h | h <;> omega
theorem dd_ru_gd {n c i p s1 s2 : Nat} {P : Nat × Nat × Nat} (hp : p < n) (h1 : 1 < dd_wn c → dd_gd n s1) (h2 : 2 < dd_wn c → dd_gd n s2) (hi : i < dd_wn c)
    (hP : dd_gd n P.1 ∧ dd_gd n P.2.1 ∧ dd_gd n P.2.2) : dd_gd n (dd_ru c i p s1 s2 P).1 ∧ dd_gd n (dd_ru c i p s1 s2 P).2.1 ∧ dd_gd n (dd_ru c i p s1 s2 P).2.2 := by
  obtain ⟨a, b, d⟩ := hP
  have g22 : dd_gd n 22 := Or.inr rfl
  have gp : dd_gd n p := Or.inl hp
  rcases dd_wn_pos (by omega : 0 < dd_wn c) with e | e | e | e | e | e | e <;> subst e
  · have h1 := h1 (by decide)
    by_cases hi0 : i = 0
    · simp [dd_ru, hi0, h1, a, b, d, g22, gp]
    · simp [dd_ru, hi0, h1, a, b, d, g22, gp]
  · have h1 := h1 (by decide)
    have h2 := h2 (by decide)
    by_cases hi0 : i = 0
    · simp [dd_ru, hi0, h1, h2, a, b, d, g22, gp]
    · simp [dd_ru, hi0, h1, h2, a, b, d, g22, gp]
  · have h1 := h1 (by decide)
    by_cases hi0 : i = 0
    · simp [dd_ru, hi0, h1, a, b, d, g22, gp]
    · simp [dd_ru, hi0, h1, a, b, d, g22, gp]
  · simp [dd_ru, a, b, d, g22, gp]
  · have h1 := h1 (by decide)
    by_cases hi0 : i = 0
    · simp [dd_ru, hi0, h1, a, b, d, g22, gp]
    · simp [dd_ru, hi0, h1, a, b, d, g22, gp]
  · have h1 := h1 (by decide)
    by_cases hi0 : i = 0
    · simp [dd_ru, hi0, h1, a, b, d, g22, gp]
    · simp [dd_ru, hi0, h1, a, b, d, g22, gp]
  · have h1 := h1 (by decide)
    have h2 := h2 (by decide)
    by_cases hi0 : i = 0
    · simp [dd_ru, hi0, h1, h2, a, b, d, g22, gp]
    · simp [dd_ru, hi0, h1, h2, a, b, d, g22, gp]
theorem dd_lk_gd {t : Nat → Nat} {n : Nat} (W : dd_WF t n) (hn : dd_ob t n = []) : ∀ m j, j < m → j < n → dd_gd n (dd_T t n j) ∧ dd_gd n (dd_F t n j) ∧ dd_gd n (dd_B t n j) := by
  have g22 : dd_gd n 22 := Or.inr rfl
  intro m
  induction m with
  | zero => intro j h; omega
  | succ m ih =>
    intro j hj hjn
    obtain ⟨x, R, e, -⟩ := W j hjn
    unfold dd_T dd_F dd_B
    match x, e with
    | (0, i), e => rw [dd_lk_0 e]; exact ⟨g22, g22, g22⟩
    | (p + 1, i), e =>
      obtain ⟨hp, hi⟩ := dd_hd e
      rw [dd_lk_s e]
      exact dd_ru_gd (by omega) (fun h => Or.inl (dd_child hn (by omega) h).2.1) (fun h => Or.inl (dd_child hn (by omega) h).2.1) hi (ih p (by omega) (by omega))
theorem dd_kind {t : Nat → Nat} {n j : Nat} {x : Nat × Nat} {R : List (Nat × Nat)} (W : dd_WF t n) (hj : j < n) (e : dd_ob t j = x :: R) : (dd_kd t x = 1 ∧ dd_stm (t j)) ∨ (dd_kd t x = 2 ∧ dd_cnd (t j)) := by
  obtain ⟨x', R', e', o⟩ := W j hj
  rw [e] at e'
  cases e'
  rcases dd_kd_or t x with h | h
  · exact Or.inl ⟨h, o.1 h⟩
  · exact Or.inr ⟨h, o.2 h⟩
theorem dd_TF {t : Nat → Nat} {n j : Nat} (W : dd_WF t n) (hj : j < n) (hs : t j < 16) : dd_F t n j = dd_T t n j := by
  obtain ⟨x, R, e, -⟩ := W j hj
  have k1 : dd_kd t x = 1 := by
    rcases dd_kind W hj e with h | h
    · exact h.1
    · omega
  unfold dd_T dd_F
  match x, e, k1 with
  | (0, i), e, _ => rw [dd_lk_0 e]
  | (p + 1, i), e, k1 =>
    obtain ⟨hp, hi⟩ := dd_hd e
    rw [dd_lk_s e]
    have k1 : dd_pk (t p) i = 1 := k1
    revert k1 hi
    generalize t p = c
    intro hi k1
    rcases dd_wn_pos (by omega : 0 < dd_wn c) with e | e | e | e | e | e | e <;> subst e
    · by_cases hi0 : i = 0
      · simp [dd_ru, hi0]
      · simp [dd_ru, hi0]
    · by_cases hi0 : i = 0
      · simp [dd_pk, hi0] at k1
      · simp [dd_ru, hi0]
    · by_cases hi0 : i = 0
      · simp [dd_pk, hi0] at k1
      · simp [dd_ru, hi0]
    all_goals simp [dd_pk] at k1
abbrev dd_se (c : Nat) : Prop := (8 ≤ c ∧ c < 12) ∨ (24 ≤ c ∧ c < 28)
abbrev dd_us (c : Nat) : Prop := (12 ≤ c ∧ c < 16) ∨ 28 ≤ c
abbrev dd_op (c : Nat) : Prop := c = 18 ∨ 24 ≤ c
def dd_gn (t : Nat → Nat) (j : Nat) : Nat := if dd_se (t j) then 2 ^ (t j % 4) else 0
def dd_sc (t : Nat → Nat) (n j : Nat) : List Nat :=
  if 0 < dd_wn (t j) then [j + 1] else if t j = 1 then [dd_B t n j] else if t j = 16 then [dd_T t n j] else if t j = 17 then [dd_F t n j] else [dd_T t n j, dd_F t n j]
def dd_on (t : Nat → Nat) (n j : Nat) (b : Bool) : Nat :=
  if 0 < dd_wn (t j) then j + 1 else if t j < 16 then (if t j = 1 then dd_B t n j else dd_T t n j) else if t j = 16 then dd_T t n j else if dd_op (t j) ∧ b = true then dd_T t n j else dd_F t n j
theorem dd_tok {t : Nat → Nat} {n j : Nat} (W : dd_WF t n) (hj : j < n) : dd_stm (t j) ∨ dd_cnd (t j) := by
  obtain ⟨x, R, e, -⟩ := W j hj
  rcases dd_kind W hj e with h | h
  · exact Or.inl h.2
  · exact Or.inr h.2
theorem dd_sc_on {t : Nat → Nat} {n j : Nat} (W : dd_WF t n) (hj : j < n) (x : Nat) : x ∈ dd_sc t n j ↔ x = dd_on t n j true ∨ x = dd_on t n j false := by
  have hk := dd_tok W hj
  unfold dd_sc dd_on
  by_cases h1 : 0 < dd_wn (t j)
  · simp [h1]
  · by_cases h2 : t j = 1
    · simp [h1, h2, show dd_wn 1 = 0 from rfl]
    · by_cases h3 : t j < 16
      · have h16 : t j ≠ 16 := by omega
        have h17 : t j ≠ 17 := by omega
        have := dd_TF W hj h3
        simp [h1, h2, h3, h16, h17, this]
      · by_cases h16 : t j = 16
        · simp [h16, show dd_wn 16 = 0 from rfl]
        · by_cases h17 : t j = 17
          · simp [h17, show dd_wn 17 = 0 from rfl, show ¬ dd_op 17 from by decide]
          · have ho : dd_op (t j) := by
              have e23 : t j ≠ 19 ∧ t j ≠ 20 ∧ t j ≠ 21 ∧ t j ≠ 22 := by
                refine ⟨fun e => ?_, fun e => ?_, fun e => ?_, fun e => ?_⟩ <;> (rw [e] at h1; exact h1 (by decide))
              unfold dd_op
              omega
            simp [h1, h2, h3, h16, h17, ho]
theorem dd_sc_gd {t : Nat → Nat} {n j x : Nat} (W : dd_WF t n) (hn : dd_ob t n = []) (hj : j < n) (hx : x ∈ dd_sc t n j) : dd_gd n x := by
  obtain ⟨a, b, d⟩ := dd_lk_gd W hn (j + 1) j (Nat.lt_succ_self j) hj
  unfold dd_sc at hx
  by_cases h1 : 0 < dd_wn (t j)
  · rw [if_pos h1, List.mem_singleton] at hx
    have h2 := dd_child hn hj h1
    have h3 := dd_child0 hn hj h1
    exact Or.inl (by omega)
  · rw [if_neg h1] at hx
    repeat' split at hx
    all_goals simp at hx
    · subst hx; exact d
    · subst hx; exact a
    · subst hx; exact b
    · rcases hx with hx | hx <;> subst hx
      · exact a
      · exact b
theorem dd_on_gd {t : Nat → Nat} {n j : Nat} (W : dd_WF t n) (hn : dd_ob t n = []) (hj : j < n) (b : Bool) : dd_gd n (dd_on t n j b) := by
  refine dd_sc_gd W hn hj ((dd_sc_on W hj _).mpr ?_)
  cases b
  · exact Or.inr rfl
  · exact Or.inl rfl
theorem dd_gn_lt (t : Nat → Nat) (j : Nat) : dd_gn t j < 16 := by
  unfold dd_gn
  split
  · have h : t j % 4 < 4 := Nat.mod_lt _ (by decide)
    exact (by decide : ∀ v, v < 4 → 2 ^ v < 16) _ h
  · decide
/-- the walks: the least set of pairs of a token and a set -/
def dd_R (t : Nat → Nat) (n j m : Nat) : Prop := ∀ P : Nat → Nat → Prop, P 0 0 → (∀ j m, j < n → P j m → ∀ x, x ∈ dd_sc t n j → P x (m ||| dd_gn t j)) → P j m
theorem dd_R0 (t : Nat → Nat) (n : Nat) : dd_R t n 0 0 := fun _ h _ => h
theorem dd_Rs {t : Nat → Nat} {n j m x : Nat} (hj : j < n) (h : dd_R t n j m) (hx : x ∈ dd_sc t n j) : dd_R t n x (m ||| dd_gn t j) := fun P h0 hs => hs j m hj (h P h0 hs) x hx
theorem dd_or16 {a b : Nat} (ha : a < 16) (hb : b < 16) : a ||| b < 16 := Nat.or_lt_two_pow (n := 4) ha hb
theorem dd_and16 {a b : Nat} (ha : a < 16) : a &&& b < 16 := Nat.lt_of_le_of_lt Nat.and_le_left ha
theorem dd_R16 {t : Nat → Nat} {n j m : Nat} (h : dd_R t n j m) : m < 16 :=
  h (fun _ m => m < 16) (by decide) (fun j m _ hm x _ => dd_or16 hm (dd_gn_lt t j))
theorem dd_Rgd {t : Nat → Nat} {n j m : Nat} (W : dd_WF t n) (hn : dd_ob t n = []) (h0 : 0 < n) (h : dd_R t n j m) : dd_gd n j :=
  h (fun j _ => dd_gd n j) (Or.inl h0) (fun j m hj _ x hx => dd_sc_gd W hn hj hx)
end
section
/-! ===== the component's two sets, joined until nothing changes: the pure form ===== -/
abbrev dd_C : Type := (Nat → Bool) × (Nat → Nat) × (Nat → Nat) × (Nat → Bool)
def dd_cm (k x y : Nat) (c : dd_C) : dd_C :=
  if c.1 k = true ∧ (c.2.1 k &&& x) = c.2.1 k ∧ (c.2.2.1 k ||| y) = c.2.2.1 k then c
  else (fun j => if j = k then true else c.1 j, fun j => if j = k then c.2.1 k &&& x else c.2.1 j, fun j => if j = k then c.2.2.1 k ||| y else c.2.2.1 j, fun j => if j = k ∧ k ≠ 22 then true else c.2.2.2 j)
section
variable {k x y : Nat} {c : dd_C}
theorem dd_cm_M (j : Nat) : (dd_cm k x y c).1 j = if j = k then true else c.1 j := by
  unfold dd_cm
  split
  · rename_i h
    by_cases e : j = k
    · subst e; rw [if_pos rfl, h.1]
    · rw [if_neg e]
  · rfl
theorem dd_cm_A (j : Nat) : (dd_cm k x y c).2.1 j = if j = k then c.2.1 k &&& x else c.2.1 j := by
  unfold dd_cm
  split
  · rename_i h
    by_cases e : j = k
    · subst e; rw [if_pos rfl, h.2.1]
    · rw [if_neg e]
  · rfl
theorem dd_cm_S (j : Nat) : (dd_cm k x y c).2.2.1 j = if j = k then c.2.2.1 k ||| y else c.2.2.1 j := by
  unfold dd_cm
  split
  · rename_i h
    by_cases e : j = k
    · subst e; rw [if_pos rfl, h.2.2]
    · rw [if_neg e]
  · rfl
theorem dd_cm_w (j : Nat) : (dd_cm k x y c).2.2.2 j = c.2.2.2 j ∨ (j = k ∧ k ≠ 22 ∧ (dd_cm k x y c).2.2.2 j = true) := by
  unfold dd_cm
  split
  · exact Or.inl rfl
  · by_cases e : j = k ∧ k ≠ 22
    · exact Or.inr ⟨e.1, e.2, if_pos e⟩
    · exact Or.inl (if_neg e)
theorem dd_cm_j (j : Nat) : ((dd_cm k x y c).1 j = c.1 j ∧ (dd_cm k x y c).2.1 j = c.2.1 j ∧ (dd_cm k x y c).2.2.1 j = c.2.2.1 j ∧ (dd_cm k x y c).2.2.2 j = c.2.2.2 j) ∨ (j = k ∧ (k ≠ 22 → (dd_cm k x y c).2.2.2 j = true)) := by
  by_cases e : j = k
  · subst e
    unfold dd_cm
    split
    · exact Or.inl ⟨rfl, rfl, rfl, rfl⟩
    · exact Or.inr ⟨rfl, fun h => if_pos ⟨rfl, h⟩⟩
  · refine Or.inl ⟨?_, ?_, ?_, ?_⟩
    · rw [dd_cm_M, if_neg e]
    · rw [dd_cm_A, if_neg e]
    · rw [dd_cm_S, if_neg e]
    · rcases dd_cm_w (k := k) (x := x) (y := y) (c := c) j with h | h
      · exact h
      · exact absurd h.1 e
end
def dd_Inv (t : Nat → Nat) (n : Nat) (c : dd_C) : Prop :=
  (∀ j, c.2.1 j < 16 ∧ c.2.2.1 j < 16) ∧
  (∀ j, c.1 j = true → ∃ m, dd_R t n j m) ∧
  (∀ j v, v < 4 → (c.2.1 j).testBit v = false → ∃ m, dd_R t n j m ∧ m.testBit v = false) ∧
  (∀ j v, v < 4 → (c.2.2.1 j).testBit v = true → ∃ m, dd_R t n j m ∧ m.testBit v = true) ∧
  (∀ j, c.2.2.2 j = true → c.1 j = true ∧ j < n)
def dd_In0 (c : dd_C) : Prop := c.1 0 = true ∧ ∀ v, v < 4 → (c.2.1 0).testBit v = false
def dd_cv (c : dd_C) (x a s : Nat) : Prop := c.1 x = true ∧ ∀ v, v < 4 → ((c.2.1 x).testBit v = true → a.testBit v = true) ∧ (s.testBit v = true → (c.2.2.1 x).testBit v = true)
def dd_Cl (t : Nat → Nat) (n : Nat) (c : dd_C) (j : Nat) : Prop := ∀ x, x ∈ dd_sc t n j → dd_cv c x (c.2.1 j ||| dd_gn t j) (c.2.2.1 j ||| dd_gn t j)
theorem dd_cm_inv {t : Nat → Nat} {n k x y : Nat} {c : dd_C} (I : dd_Inv t n c) (hk : dd_gd n k) (hx : x < 16) (hy : y < 16) (hR : ∃ m, dd_R t n k m)
    (h1 : ∀ v, v < 4 → x.testBit v = false → ∃ m, dd_R t n k m ∧ m.testBit v = false) (h2 : ∀ v, v < 4 → y.testBit v = true → ∃ m, dd_R t n k m ∧ m.testBit v = true) : dd_Inv t n (dd_cm k x y c) := by
  obtain ⟨i1, i2, i3, i4, i5⟩ := I
  refine ⟨fun j => ?_, fun j => ?_, fun j v hv => ?_, fun j v hv => ?_, fun j => ?_⟩
  · rw [dd_cm_A, dd_cm_S]
    by_cases e : j = k
    · rw [if_pos e, if_pos e]; exact ⟨dd_and16 (i1 k).1, dd_or16 (i1 k).2 hy⟩
    · rw [if_neg e, if_neg e]; exact i1 j
  · rw [dd_cm_M]
    by_cases e : j = k
    · intro _; rw [e]; exact hR
    · rw [if_neg e]; exact i2 j
  · rw [dd_cm_A]
    by_cases e : j = k
    · rw [if_pos e, Nat.testBit_and, e]
      intro h
      rw [Bool.and_eq_false_iff] at h
      rcases h with h | h
      · exact i3 k v hv h
      · exact h1 v hv h
    · rw [if_neg e]; exact i3 j v hv
  · rw [dd_cm_S]
    by_cases e : j = k
    · rw [if_pos e, Nat.testBit_or, e]
      intro h
      rw [Bool.or_eq_true_iff] at h
      rcases h with h | h
      · exact i4 k v hv h
      · exact h2 v hv h
    · rw [if_neg e]; exact i4 j v hv
  · intro h
    rcases dd_cm_w (k := k) (x := x) (y := y) (c := c) j with e | ⟨e, e2, _⟩
    · rw [e] at h
      refine ⟨?_, (i5 j h).2⟩
      rw [dd_cm_M, (i5 j h).1]
      split <;> rfl
    · refine ⟨?_, ?_⟩
      · rw [dd_cm_M, if_pos e]
      · rcases hk with g | g
        · omega
        · exact absurd g e2
theorem dd_cm_in0 {k x y : Nat} {c : dd_C} (I : dd_In0 c) : dd_In0 (dd_cm k x y c) := by
  refine ⟨?_, fun v hv => ?_⟩
  · rw [dd_cm_M, I.1]; split <;> rfl
  · rw [dd_cm_A]
    by_cases e : 0 = k
    · rw [if_pos e, Nat.testBit_and, ← e, I.2 v hv, Bool.false_and]
    · rw [if_neg e, I.2 v hv]
theorem dd_cm_cv (k x y : Nat) (c : dd_C) : dd_cv (dd_cm k x y c) k x y := by
  refine ⟨?_, fun v _ => ⟨fun h => ?_, fun h => ?_⟩⟩
  · rw [dd_cm_M, if_pos rfl]
  · rw [dd_cm_A, if_pos rfl, Nat.testBit_and, Bool.and_eq_true] at h
    exact h.2
  · rw [dd_cm_S, if_pos rfl, Nat.testBit_or, h, Bool.or_true]
theorem dd_cm_mo {k x y j a s : Nat} {c : dd_C} (h : dd_cv c j a s) : dd_cv (dd_cm k x y c) j a s := by
  refine ⟨?_, fun v hv => ⟨fun g => ?_, fun g => ?_⟩⟩
  · rw [dd_cm_M, h.1]; split <;> rfl
  · rw [dd_cm_A] at g
    by_cases e : j = k
    · rw [if_pos e, Nat.testBit_and, Bool.and_eq_true, ← e] at g
      exact (h.2 v hv).1 g.1
    · rw [if_neg e] at g
      exact (h.2 v hv).1 g
  · rw [dd_cm_S]
    by_cases e : j = k
    · rw [if_pos e, Nat.testBit_or, ← e, (h.2 v hv).2 g, Bool.true_or]
    · rw [if_neg e]
      exact (h.2 v hv).2 g
def dd_Q (t : Nat → Nat) (n k A0 S0 : Nat) (c : dd_C) (dn : List Nat) : Prop :=
  dd_Inv t n c ∧ dd_In0 c ∧ (∀ j, j < n → j ≠ k → c.1 j = true → c.2.2.2 j = true ∨ dd_Cl t n c j) ∧ c.1 k = true ∧
  (c.2.2.2 k = true ∨ (c.2.1 k = A0 ∧ c.2.2.1 k = S0 ∧ ∀ x, x ∈ dn → dd_cv c x (A0 ||| dd_gn t k) (S0 ||| dd_gn t k)))
def dd_So (t : Nat → Nat) (n k A0 S0 : Nat) : Prop :=
  A0 < 16 ∧ S0 < 16 ∧ (∃ m, dd_R t n k m) ∧ (∀ v, v < 4 → A0.testBit v = false → ∃ m, dd_R t n k m ∧ m.testBit v = false) ∧ (∀ v, v < 4 → S0.testBit v = true → ∃ m, dd_R t n k m ∧ m.testBit v = true)
theorem dd_Q_s {t : Nat → Nat} {n k A0 S0 x : Nat} {c : dd_C} {dn : List Nat} (W : dd_WF t n) (hn : dd_ob t n = []) (h22 : n ≤ 22) (hk : k < n) (hS : dd_So t n k A0 S0) (hx : x ∈ dd_sc t n k)
    (q : dd_Q t n k A0 S0 c dn) : dd_Q t n k A0 S0 (dd_cm x (A0 ||| dd_gn t k) (S0 ||| dd_gn t k) c) (dn ++ [x]) := by
  obtain ⟨q1, q2, q3, q4, q5⟩ := q
  obtain ⟨s1, s2, ⟨m0, s3⟩, s4, s5⟩ := hS
  have hg := dd_gn_lt t k
  have J : ∀ j, j < n → (dd_cm x (A0 ||| dd_gn t k) (S0 ||| dd_gn t k) c).2.2.2 j = true ∨ ((dd_cm x (A0 ||| dd_gn t k) (S0 ||| dd_gn t k) c).1 j = c.1 j ∧ (dd_cm x (A0 ||| dd_gn t k) (S0 ||| dd_gn t k) c).2.1 j = c.2.1 j ∧ (dd_cm x (A0 ||| dd_gn t k) (S0 ||| dd_gn t k) c).2.2.1 j = c.2.2.1 j ∧ (dd_cm x (A0 ||| dd_gn t k) (S0 ||| dd_gn t k) c).2.2.2 j = c.2.2.2 j) := by
    intro j hj
    rcases dd_cm_j (k := x) (x := A0 ||| dd_gn t k) (y := S0 ||| dd_gn t k) (c := c) j with h | ⟨e, h⟩
    · exact Or.inr h
    · exact Or.inl (h (by omega))
  refine ⟨?_, dd_cm_in0 q2, ?_, ?_, ?_⟩
  · refine dd_cm_inv q1 (dd_sc_gd W hn hk hx) (dd_or16 s1 hg) (dd_or16 s2 hg) ⟨_, dd_Rs hk s3 hx⟩ ?_ ?_
    · intro v hv h
      rw [Nat.testBit_or, Bool.or_eq_false_iff] at h
      obtain ⟨m, r, b⟩ := s4 v hv h.1
      exact ⟨_, dd_Rs hk r hx, by rw [Nat.testBit_or, b, h.2]; rfl⟩
    · intro v hv h
      rw [Nat.testBit_or, Bool.or_eq_true_iff] at h
      rcases h with h | h
      · obtain ⟨m, r, b⟩ := s5 v hv h
        exact ⟨_, dd_Rs hk r hx, by rw [Nat.testBit_or, b]; rfl⟩
      · exact ⟨_, dd_Rs hk s3 hx, by rw [Nat.testBit_or, h, Bool.or_true]⟩
  · intro j hj hjk hM
    rcases J j hj with h | ⟨a, b, d, e⟩
    · exact Or.inl h
    · rw [a] at hM
      rcases q3 j hj hjk hM with h | h
      · exact Or.inl (by rw [e, h])
      · refine Or.inr (fun z hz => ?_)
        rw [b, d]
        exact dd_cm_mo (h z hz)
  · rw [dd_cm_M, q4]; split <;> rfl
  · rcases J k hk with h | ⟨a, b, d, e⟩
    · exact Or.inl h
    · rcases q5 with h | ⟨h1, h2, h3⟩
      · exact Or.inl (by rw [e, h])
      · refine Or.inr ⟨by rw [b, h1], by rw [d, h2], fun z hz => ?_⟩
        rw [List.mem_append, List.mem_singleton] at hz
        rcases hz with hz | hz
        · exact dd_cm_mo (h3 z hz)
        · rw [hz]; exact dd_cm_cv _ _ _ _
def dd_G (t : Nat → Nat) (n : Nat) (c : dd_C) : Prop := dd_Inv t n c ∧ dd_In0 c ∧ ∀ j, j < n → c.1 j = true → c.2.2.2 j = true ∨ dd_Cl t n c j
def dd_rm (k : Nat) (c : dd_C) : dd_C := (c.1, c.2.1, c.2.2.1, fun j => if j = k then false else c.2.2.2 j)
theorem dd_G_q {t : Nat → Nat} {n k : Nat} {c : dd_C} (g : dd_G t n c) (hw : c.2.2.2 k = true) : k < n ∧ dd_So t n k (c.2.1 k) (c.2.2.1 k) ∧ dd_Q t n k (c.2.1 k) (c.2.2.1 k) (dd_rm k c) [] := by
  obtain ⟨⟨i1, i2, i3, i4, i5⟩, i0, cl⟩ := g
  have hk := i5 k hw
  refine ⟨hk.2, ⟨(i1 k).1, (i1 k).2, i2 k hk.1, i3 k, i4 k⟩, ⟨i1, i2, i3, i4, ?_⟩, i0, ?_, hk.1, Or.inr ⟨rfl, rfl, fun x hx => by cases hx⟩⟩
  · intro j h
    by_cases e : j = k
    · rw [e]; exact hk
    · have h2 : (if j = k then false else c.2.2.2 j) = true := h
      rw [if_neg e] at h2
      exact i5 j h2
  · intro j hj hjk hM
    rcases cl j hj hM with h | h
    · refine Or.inl ?_
      show (if j = k then false else c.2.2.2 j) = true
      rw [if_neg hjk, h]
    · exact Or.inr h
theorem dd_q_G {t : Nat → Nat} {n k A0 S0 : Nat} {c : dd_C} {dn : List Nat} (hd : ∀ x, x ∈ dd_sc t n k → x ∈ dn) (q : dd_Q t n k A0 S0 c dn) : dd_G t n c := by
  obtain ⟨q1, q2, q3, q4, q5⟩ := q
  refine ⟨q1, q2, fun j hj hM => ?_⟩
  by_cases e : j = k
  · subst e
    rcases q5 with h | ⟨h1, h2, h3⟩
    · exact Or.inl h
    · refine Or.inr (fun x hx => ?_)
      rw [h1, h2]
      exact h3 x (hd x hx)
  · exact q3 j hj e hM
/-! the potential -/
def dd_pc (a : Nat) : Nat := a % 2 + a / 2 % 2 + a / 4 % 2 + a / 8 % 2
def dd_sm (f : Nat → Nat) : Nat → Nat
  | 0 => 0
  | m + 1 => dd_sm f m + f m
theorem dd_sm_le {f g : Nat → Nat} : ∀ m, (∀ j, j < m → f j ≤ g j) → dd_sm f m ≤ dd_sm g m := by
  intro m
  induction m with
  | zero => intro _; exact Nat.le_refl _
  | succ m ih =>
    intro h
    have h1 := ih (fun j hj => h j (by omega))
    have h2 := h m (by omega)
    show dd_sm f m + f m ≤ dd_sm g m + g m
    omega
theorem dd_sm_lt {f g : Nat → Nat} {k : Nat} : ∀ m, (∀ j, j < m → f j ≤ g j) → k < m → f k < g k → dd_sm f m < dd_sm g m := by
  intro m
  induction m with
  | zero => intro _ hk; omega
  | succ m ih =>
    intro h hk hlt
    have h2 := h m (by omega)
    show dd_sm f m + f m < dd_sm g m + g m
    by_cases e : k = m
    · subst e
      have h1 := dd_sm_le k (fun j hj => h j (by omega))
      omega
    · have h1 := ih (fun j hj => h j (by omega)) (by omega) hlt
      omega
theorem dd_pc_and : ∀ a, a < 16 → ∀ x, x < 16 → dd_pc (a &&& x) ≤ dd_pc a ∧ ((a &&& x) ≠ a → dd_pc (a &&& x) < dd_pc a) := by decide +kernel
theorem dd_pc_or : ∀ a, a < 16 → ∀ x, x < 16 → dd_pc a ≤ dd_pc (a ||| x) ∧ dd_pc (a ||| x) ≤ 4 ∧ ((a ||| x) ≠ a → dd_pc a < dd_pc (a ||| x)) := by decide +kernel
def dd_bn (b : Bool) : Nat := if b = true then 1 else 0
def dd_pt (c : dd_C) (j : Nat) : Nat := (1 - dd_bn (c.1 j)) + dd_pc (c.2.1 j) + (4 - dd_pc (c.2.2.1 j)) + dd_bn (c.2.2.2 j)
def dd_ph (c : dd_C) : Nat := dd_sm (dd_pt c) 22
theorem dd_bn_le (b : Bool) : dd_bn b ≤ 1 := by cases b <;> decide
theorem dd_cm_pt {t : Nat → Nat} {n k x y : Nat} {c : dd_C} (I : dd_Inv t n c) (hx : x < 16) (hy : y < 16) (j : Nat) : dd_pt (dd_cm k x y c) j ≤ dd_pt c j := by
  by_cases h : c.1 k = true ∧ (c.2.1 k &&& x) = c.2.1 k ∧ (c.2.2.1 k ||| y) = c.2.2.1 k
  · rw [dd_cm, if_pos h]; exact Nat.le_refl _
  · by_cases e : j = k
    · subst e
      unfold dd_pt
      rw [dd_cm_M, dd_cm_A, dd_cm_S, if_pos rfl, if_pos rfl, if_pos rfl]
      have hb := dd_bn_le ((dd_cm j x y c).2.2.2 j)
      have ha := dd_pc_and _ (I.1 j).1 x hx
      have ho := dd_pc_or _ (I.1 j).2 y hy
      have e1 : dd_bn true = 1 := rfl
      rw [e1]
      by_cases hM : c.1 j = true
      · by_cases hA : (c.2.1 j &&& x) = c.2.1 j
        · have hS : (c.2.2.1 j ||| y) ≠ c.2.2.1 j := fun hS => h ⟨hM, hA, hS⟩
          have := ho.2.2 hS
          omega
        · have := ha.2 hA
          omega
      · have hM2 : dd_bn (c.1 j) = 0 := if_neg hM
        omega
    · rcases dd_cm_j (k := k) (x := x) (y := y) (c := c) j with ⟨a, b, d, f⟩ | ⟨e2, _⟩
      · unfold dd_pt
        rw [a, b, d, f]
        exact Nat.le_refl _
      · exact absurd e2 e
theorem dd_cm_ph {t : Nat → Nat} {n k x y : Nat} {c : dd_C} (I : dd_Inv t n c) (hx : x < 16) (hy : y < 16) : dd_ph (dd_cm k x y c) ≤ dd_ph c := dd_sm_le 22 (fun j _ => dd_cm_pt I hx hy j)
theorem dd_rm_ph {k : Nat} {c : dd_C} (hk : k < 22) (hw : c.2.2.2 k = true) : dd_ph (dd_rm k c) < dd_ph c := by
  refine dd_sm_lt (k := k) 22 (fun j _ => ?_) hk ?_
  · unfold dd_pt
    show _ + _ + _ + dd_bn (if j = k then false else c.2.2.2 j) ≤ _
    by_cases e : j = k
    · rw [if_pos e]
      have e0 : dd_bn false = 0 := rfl
      rw [e0]
      show (1 - dd_bn (c.1 j)) + dd_pc (c.2.1 j) + (4 - dd_pc (c.2.2.1 j)) + 0 ≤ _
      omega
    · rw [if_neg e]
      exact Nat.le_refl _
  · unfold dd_pt
    show (1 - dd_bn (c.1 k)) + dd_pc (c.2.1 k) + (4 - dd_pc (c.2.2.1 k)) + dd_bn (if k = k then false else c.2.2.2 k) < _
    rw [if_pos rfl, hw]
    have e0 : dd_bn false = 0 := rfl
    have e1 : dd_bn true = 1 := rfl
    rw [e0, e1]
    omega
/-! the start, the end -/
def dd_c0 : dd_C := (fun _ => false, fun _ => 15, fun _ => 0, fun _ => false)
theorem dd_c0_inv (t : Nat → Nat) (n : Nat) : dd_Inv t n dd_c0 := by
  refine ⟨fun j => ⟨(by decide : (15 : Nat) < 16), (by decide : (0 : Nat) < 16)⟩, fun j h => (by cases h), fun j v hv h => ?_, fun j v hv h => ?_, fun j h => (by cases h)⟩
  · have h2 : (15 : Nat).testBit v = false := h
    exact absurd h2 ((by decide : ∀ v, v < 4 → ¬ (15 : Nat).testBit v = false) v hv)
  · have h2 : (0 : Nat).testBit v = true := h
    rw [Nat.zero_testBit] at h2
    cases h2
theorem dd_c1_G {t : Nat → Nat} {n : Nat} (h0 : 0 < n) : dd_G t n (dd_cm 0 0 0 dd_c0) := by
  refine ⟨dd_cm_inv (dd_c0_inv t n) (Or.inl h0) (by decide) (by decide) ⟨0, dd_R0 t n⟩ (fun v _ _ => ⟨0, dd_R0 t n, Nat.zero_testBit v⟩) (fun v _ h => ?_), ⟨?_, fun v _ => ?_⟩, fun j hj hM => ?_⟩
  · rw [Nat.zero_testBit] at h; cases h
  · rw [dd_cm_M, if_pos rfl]
  · rw [dd_cm_A, if_pos rfl, Nat.testBit_and, Nat.zero_testBit, Bool.and_false]
  · refine Or.inl ?_
    rw [dd_cm_M] at hM
    by_cases e : j = 0
    · subst e
      unfold dd_cm
      rw [if_neg (fun h => by cases h.1)]
      rfl
    · rw [if_neg e] at hM
      cases hM
theorem dd_c1_ph : dd_ph (dd_cm 0 0 0 dd_c0) ≤ 198 := Nat.le_trans (dd_cm_ph (dd_c0_inv (fun _ => 0) 0) (by decide) (by decide)) (by decide +kernel)
theorem dd_fin {t : Nat → Nat} {n : Nat} {c : dd_C} (g : dd_G t n c) (hw : ∀ j, j < n → c.2.2.2 j = false) {j m : Nat} (r : dd_R t n j m) : c.1 j = true ∧ ∀ v, v < 4 → ((c.2.1 j).testBit v = true → m.testBit v = true) ∧ (m.testBit v = true → (c.2.2.1 j).testBit v = true) := by
  refine r (fun j m => c.1 j = true ∧ ∀ v, v < 4 → ((c.2.1 j).testBit v = true → m.testBit v = true) ∧ (m.testBit v = true → (c.2.2.1 j).testBit v = true)) ?_ ?_
  · refine ⟨g.2.1.1, fun v hv => ⟨fun h => ?_, fun h => ?_⟩⟩
    · rw [g.2.1.2 v hv] at h; cases h
    · rw [Nat.zero_testBit] at h; cases h
  · intro j m hj hp x hx
    rcases g.2.2 j hj hp.1 with h | h
    · rw [hw j hj] at h; cases h
    · obtain ⟨h1, h2⟩ := h x hx
      refine ⟨h1, fun v hv => ⟨fun b => ?_, fun b => ?_⟩⟩
      · have b1 := (h2 v hv).1 b
        rw [Nat.testBit_or, Bool.or_eq_true_iff] at b1
        rw [Nat.testBit_or, Bool.or_eq_true_iff]
        rcases b1 with b1 | b1
        · exact Or.inl ((hp.2 v hv).1 b1)
        · exact Or.inr b1
      · refine (h2 v hv).2 ?_
        rw [Nat.testBit_or, Bool.or_eq_true_iff] at b
        rw [Nat.testBit_or, Bool.or_eq_true_iff]
        rcases b with b | b
        · exact Or.inl ((hp.2 v hv).2 b)
        · exact Or.inr b
/-- what the component's arrays say when all is worked out -/
def dd_An (t : Nat → Nat) (n : Nat) (me al so : Nat → Int32) : Prop := ∀ j, j ≤ 22 → ∃ a s, a < 16 ∧ s < 16 ∧ al j = nI a ∧ so j = nI s ∧ (me j = 0 ∨ me j = 1) ∧ (¬ me j = 0 ↔ ∃ m, dd_R t n j m) ∧
  (∀ v, v < 4 → (a.testBit v = true ↔ ∀ m, dd_R t n j m → m.testBit v = true)) ∧ (∀ v, v < 4 → (s.testBit v = true ↔ ∃ m, dd_R t n j m ∧ m.testBit v = true))
def dd_rep (c : dd_C) (wa : Int32) (me al so : Nat → Int32) : Prop :=
  (∀ j, j ≤ 22 → me j = (if c.1 j = true then 1 else 0) ∧ al j = nI (c.2.1 j) ∧ so j = nI (c.2.2.1 j)) ∧ (∀ i, i < 32 → bt wa i = (decide (i < 22) && c.2.2.2 i))
theorem dd_rep_An {t : Nat → Nat} {n : Nat} {c : dd_C} {wa : Int32} {me al so : Nat → Int32} (g : dd_G t n c) (hw : ∀ j, j < n → c.2.2.2 j = false) (r : dd_rep c wa me al so) : dd_An t n me al so := by
  intro j hj
  obtain ⟨r1, r2, r3⟩ := r.1 j hj
  have g1 := g.1
  refine ⟨c.2.1 j, c.2.2.1 j, (g1.1 j).1, (g1.1 j).2, r2, r3, ?_, ?_, fun v hv => ?_, fun v hv => ?_⟩
  · rw [r1]; split
    · exact Or.inr rfl
    · exact Or.inl rfl
  · rw [r1]
    by_cases hM : c.1 j = true
    · rw [if_pos hM]
      exact ⟨fun _ => g1.2.1 j hM, fun _ => by decide⟩
    · rw [if_neg hM]
      exact ⟨fun h => absurd rfl h, fun ⟨m, hr⟩ => absurd (dd_fin g hw hr).1 hM⟩
  · constructor
    · intro h m hr
      exact ((dd_fin g hw hr).2 v hv).1 h
    · intro h
      cases hb : (c.2.1 j).testBit v
      · obtain ⟨m, hr, b⟩ := g1.2.2.1 j v hv hb
        rw [h m hr] at b
        cases b
      · rfl
  · constructor
    · intro h
      exact g1.2.2.2.1 j v hv h
    · intro ⟨m, hr, b⟩
      exact ((dd_fin g hw hr).2 v hv).2 b
end
section
/-! ===== the component reads its tokens ===== -/
theorem pi_eq {x y : Int32} {A B : Prop} (a : Int) (f : x.toInt = a → A) (g : x.toInt ≠ a → B) (hy : y.toInt = a := by decide) : (x = y → A) ∧ (¬ x = y → B) := by
  subst hy
  exact ⟨fun e => f (by rw [e]), fun e => g (fun h => e (Int32.toInt_inj.mp h))⟩
theorem pi_lt {x y : Int32} {A B : Prop} (a : Int) (f : x.toInt < a → A) (g : a ≤ x.toInt → B) (hy : y.toInt = a := by decide) : (x < y → A) ∧ (¬ x < y → B) := by
  subst hy
  rw [Int32.lt_iff_toInt_lt]
  exact ⟨f, fun z => g (by omega)⟩
theorem pi_le {x y : Int32} {A B : Prop} (a : Int) (f : x.toInt ≤ a → A) (g : a < x.toInt → B) (hy : y.toInt = a := by decide) : (x ≤ y → A) ∧ (¬ x ≤ y → B) := by
  subst hy
  rw [Int32.le_iff_toInt_le]
  exact ⟨f, fun z => g (by omega)⟩
theorem pi_ge {x y : Int32} {A B : Prop} (a : Int) (f : a ≤ x.toInt → A) (g : x.toInt < a → B) (hy : y.toInt = a := by decide) : (y ≤ x → A) ∧ (¬ y ≤ x → B) := by
  subst hy
  rw [Int32.le_iff_toInt_le]
  exact ⟨f, fun z => g (by omega)⟩
theorem pi_gt {x y : Int32} {A B : Prop} (a : Int) (f : a < x.toInt → A) (g : x.toInt ≤ a → B) (hy : y.toInt = a := by decide) : (y < x → A) ∧ (¬ y < x → B) := by
  subst hy
  rw [Int32.lt_iff_toInt_lt]
  exact ⟨f, fun z => g (by omega)⟩
def dd_is (x : Int32) : Prop := x.toInt = 0 ∨ x.toInt = 1 ∨ (4 ≤ x.toInt ∧ x.toInt ≤ 6) ∨ (8 ≤ x.toInt ∧ x.toInt < 16)
def dd_ic (x : Int32) : Prop := (16 ≤ x.toInt ∧ x.toInt ≤ 22) ∨ (24 ≤ x.toInt ∧ x.toInt < 32)
theorem dd_of_int {x : Int32} (h0 : 0 ≤ x.toInt) (h : x.toInt < 32) : ∃ c : Nat, c < 32 ∧ x = nI c ∧ (c : Int) = x.toInt := by
  refine ⟨x.toInt.toNat, by omega, ?_, by omega⟩
  apply Int32.toInt_inj.mp
  rw [nI_toInt (by omega)]
  omega
theorem dd_is_c {x : Int32} (h : dd_is x) : ∃ c : Nat, c < 32 ∧ x = nI c ∧ dd_stm c := by
  unfold dd_is at h
  obtain ⟨c, h1, h2, h3⟩ := dd_of_int (x := x) (by omega) (by omega)
  exact ⟨c, h1, h2, by unfold dd_stm; omega⟩
theorem dd_ic_c {x : Int32} (h : dd_ic x) : ∃ c : Nat, c < 32 ∧ x = nI c ∧ dd_cnd c := by
  unfold dd_ic at h
  obtain ⟨c, h1, h2, h3⟩ := dd_of_int (x := x) (by omega) (by omega)
  exact ⟨c, h1, h2, by unfold dd_cnd; omega⟩
theorem dx_isS20 {post : Int32 → Prop} {x : Int32} (h1 : 8 ≤ x.toInt ∧ x.toInt < 16 → post 1) (h0 : ¬ (8 ≤ x.toInt ∧ x.toInt < 16) → post 0) : wX_isStatement_20 post x :=
  pi_lt 8 (fun e => h0 (by omega)) (fun e => pi_ge 16 (fun e => h0 (by omega)) (fun e => h1 (by omega)))
theorem dx_isS {post : Int32 → Prop} {x : Int32} (h1 : dd_is x → post 1) (h0 : ¬ dd_is x → post 0) : wpX_isStatement post x := by
  unfold dd_is at h1 h0
  exact pi_eq 0 (fun e => h1 (by omega)) (fun e1 => pi_eq 1 (fun e => h1 (by omega)) (fun e2 => pi_lt 4 (fun e => dx_isS20 (fun e => h1 (by omega)) (fun e => h0 (by omega))) (fun e3 => pi_le 6 (fun e => h1 (by omega)) (fun e => dx_isS20 (fun e => h1 (by omega)) (fun e => h0 (by omega))))))
theorem dx_isC12 {post : Int32 → Prop} {x : Int32} (h1 : 24 ≤ x.toInt ∧ x.toInt < 32 → post 1) (h0 : ¬ (24 ≤ x.toInt ∧ x.toInt < 32) → post 0) : wX_isCondition_12 post x :=
  pi_lt 24 (fun e => h0 (by omega)) (fun e => pi_ge 32 (fun e => h0 (by omega)) (fun e => h1 (by omega)))
theorem dx_isC {post : Int32 → Prop} {x : Int32} (h1 : dd_ic x → post 1) (h0 : ¬ dd_ic x → post 0) : wpX_isCondition post x := by
  unfold dd_ic at h1 h0
  exact pi_lt 16 (fun e => dx_isC12 (fun e => h1 (by omega)) (fun e => h0 (by omega))) (fun e1 => pi_le 22 (fun e => h1 (by omega)) (fun e => dx_isC12 (fun e => h1 (by omega)) (fun e => h0 (by omega))))
theorem dx_wants {post : Int32 → Prop} {x : Int32} (c : Nat) (hx : x = nI c) (hc : c < 32) (h : post (nI (dd_wn c))) : wpX_wants post x := by
  subst hx
  unfold wpX_wants
  refine pk_eq c 5 (fun e => ?_) (fun e1 => pk_eq c 22 (fun e => ?_) (fun e2 => pk_eq c 4 (fun e => ?_) (fun e3 => pk_eq c 6 (fun e => ?_) (fun e4 => pk_eq c 20 (fun e => ?_) (fun e5 => pk_eq c 21 (fun e => ?_) (fun e6 => pk_eq c 19 (fun e => ?_) (fun e7 => ?_)))))))
  · subst e; exact h
  · subst e; exact h
  · subst e; exact h
  · subst e; exact h
  · subst e; exact h
  · subst e; exact h
  · subst e; exact h
  · rw [dd_wn, if_neg e1, if_neg e2, if_neg e3, if_neg e4, if_neg e5, if_neg e6, if_neg e7] at h
    exact h
/-- the tokens as the arrays hold them -/
def dd_tk (t : Nat → Nat) : Nat → Int32 := fun j => nI (t j)
theorem dd_tk_c {t : Nat → Nat} {k : Nat} (h : k < 2 ^ 31) : dd_tk t (nI k).toNatClampNeg = nI (t k) := by rw [nI_clamp h]; rfl
theorem dd_tk_pu (t : Nat → Nat) (n c : Nat) : upd (dd_tk t) n (nI c) = dd_tk (dd_pu t n c) := by
  funext j
  unfold upd dd_tk dd_pu
  by_cases e : j = n
  · rw [if_pos e, if_pos e]
  · rw [if_neg e, if_neg e]
def dd_xr (t : Nat → Nat) (ot oh : Nat → Int32) : Nat → List (Nat × Nat) → Prop
  | 0, L => L = []
  | m + 1, L => ∃ p h R, p < 22 ∧ h < dd_wn (t p) ∧ ot m = nI p ∧ oh m = nI h ∧ L = dd_sg (p + 1) (dd_wn (t p) - h) h ++ R ∧ dd_xr t ot oh m R
theorem dd_xr_cg {t : Nat → Nat} {ot oh ot' oh' : Nat → Int32} : ∀ m L, (∀ i, i < m → ot' i = ot i ∧ oh' i = oh i) → dd_xr t ot oh m L → dd_xr t ot' oh' m L := by
  intro m
  induction m with
  | zero => intro L _ h; exact h
  | succ m ih =>
    intro L hc ⟨p, h, R, a1, a2, a3, a4, a5, a6⟩
    exact ⟨p, h, R, a1, a2, by rw [(hc m (by omega)).1, a3], by rw [(hc m (by omega)).2, a4], a5, ih R (fun i hi => hc i (by omega)) a6⟩
theorem dd_sg_pos {q d h : Nat} (hd : 0 < d) : dd_sg q d h = (q, h) :: dd_sg q (d - 1) (h + 1) := by
  match d, hd with
  | d + 1, _ => rfl
theorem dd_xr_0 {t : Nat → Nat} {ot oh : Nat → Int32} {m : Nat} {L : List (Nat × Nat)} (h : dd_xr t ot oh m L) : m = 0 ↔ L = [] := by
  match m, h with
  | 0, h => exact ⟨fun _ => h, fun _ => rfl⟩
  | m + 1, ⟨p, h, R, a1, a2, a3, a4, a5, a6⟩ =>
    rw [a5, dd_sg_pos (by omega)]
    exact ⟨fun e => (by omega), fun e => by cases e⟩
def dd_PT (t : Nat → Nat) (pa : Nat → Int32) (k : Nat) : Prop := ∀ j, 0 < j → j < k → ∀ p i R, dd_ob t j = (p + 1, i) :: R → pa (3 * p + i) = nI j
theorem dd_PT_s {t : Nat → Nat} {pa : Nat → Int32} {k p h : Nat} {R : List (Nat × Nat)} (H : dd_PT t pa k) (e : dd_ob t k = (p + 1, h) :: R) : dd_PT t (upd pa (3 * p + h) (nI k)) (k + 1) := by
  intro j h0 hj p' i R' e'
  by_cases ej : j = k
  · subst ej
    rw [e] at e'
    cases e'
    exact pk_us
  · have hi := (dd_hd e').2
    have hh := (dd_hd e).2
    have w1 := dd_wn_le (t p')
    have w2 := dd_wn_le (t p)
    rw [pk_un, H j h0 (by omega) p' i R' e']
    intro hc
    have e1 : p' = p := by omega
    have e2 : i = h := by omega
    subst e1 e2
    exact ej (dd_ob_inj e' e)
section
variable {sz oc li wa sr vr fr : Int32} {T ot oh pa wt wf bk me al so : Nat → Int32}
theorem dx_attach {post : SX → Prop} {t : Nat → Nat} {m k p h : Nat} (ht : ∀ j, t j < 32) (hm : m < 24) (hk : k < 22) (hp : p < 22) (hh : h < dd_wn (t p)) (e1 : ot m = nI p) (e2 : oh m = nI h)
    (f : h + 1 = dd_wn (t p) → post (sz, nI m, li, wa, sr, vr, fr, dd_tk t, ot, upd oh m (nI (h + 1)), upd pa (3 * p + h) (nI k), wt, wf, bk, me, al, so))
    (g : h + 1 ≠ dd_wn (t p) → post (sz, nI (m + 1), li, wa, sr, vr, fr, dd_tk t, ot, upd oh m (nI (h + 1)), upd pa (3 * p + h) (nI k), wt, wf, bk, me, al, so)) : wpX_attach post (sz, nI (m + 1), li, wa, sr, vr, fr, dd_tk t, ot, oh, pa, wt, wf, bk, me, al, so) (nI k) := by
  have hw := dd_wn_le (t p)
  have c : (nI m).toNatClampNeg = m := nI_clamp (by omega)
  have v : vp_in (nI m) 24 := vp_in_nI hm (by omega)
  have ei : nI p * 3 + oh (nI m).toNatClampNeg = nI (3 * p + h) := by
    rw [c, e2]
    show nI p * nI 3 + nI h = _
    rw [pk_mul, nI_add, Nat.mul_comm]
  have eh : upd oh (nI m).toNatClampNeg (vp_nar .byte ((oh (nI m).toNatClampNeg + 1).toInt8.toInt32)) = upd oh m (nI (h + 1)) := by
    rw [c, e2, nI_1, rw_by (h + 1) (by omega)]
  refine nm_r (nI_pred m) ⟨v, nm_r (e' := nI p) (by rw [c, e1]) ⟨v, by rw [ei]; exact vp_in_nI (by omega) (by omega), nm_r (e' := upd pa (3 * p + h) (nI k)) (by rw [ei, nI_clamp (by omega), rw_by k (by omega)]) ⟨v, v, nm_r (e' := upd oh m (nI (h + 1))) eh ⟨v, vp_in_nI hp (by omega), dx_wants (t p) (dd_tk_c (by omega)) (ht p) ?_⟩⟩⟩⟩
  exact pk_eq (h + 1) (dd_wn (t p)) (fun e => nm_r (nI_pred m) (f e)) g (by rw [c, pk_us]) rfl
theorem dx_read27 {post : SX → Prop} {J7 : Int32 → Int32 → Int32 → Int32 → Int32 → Int32 → Int32 → Int32 → (Nat → Int32) → (Nat → Int32) → (Nat → Int32) → (Nat → Int32) → (Nat → Int32) → (Nat → Int32) → (Nat → Int32) → (Nat → Int32) → (Nat → Int32) → (Nat → Int32) → Prop}
    {t : Nat → Nat} {m k : Nat} {L : List (Nat × Nat)} (ht : ∀ j, t j < 32) (hk : k < 22) (hm : m ≤ k) (hx : dd_xr t ot oh m L)
    (H : ∀ m' ot' oh', m' ≤ k + 1 → dd_xr t ot' oh' m' (dd_sg (k + 1) (dd_wn (t k)) 0 ++ L) → J7 (nI (k + 1)) sz (nI m') li wa sr vr fr (dd_tk t) ot' oh' pa wt wf bk me al so) : wX_read_27 post J7 (nI k) sz (nI m) li wa sr vr fr (dd_tk t) ot oh pa wt wf bk me al so := by
  have hw := dd_wn_le (t k)
  have c : (nI m).toNatClampNeg = m := nI_clamp (by omega)
  have v : vp_in (nI m) 24 := vp_in_nI (by omega) (by omega)
  refine ⟨vp_in_nI hk (by omega), dx_wants (t k) (dd_tk_c (by omega)) (ht k) ?_⟩
  refine pk_le (dd_wn (t k)) 0 (fun e => nm_r (nI_1 k) (H m ot oh (by omega) ?_)) (fun e => ⟨v, nm_r (e' := upd ot m (nI k)) (by rw [c, rw_by k (by omega)]) ⟨v, nm_r (e' := upd oh m (nI 0)) (by rw [c, rw_b0]; rfl) (nm_r (nI_1 m) (nm_r (nI_1 k) (H (m + 1) _ _ (by omega) ?_)))⟩⟩)
  · have e0 : dd_wn (t k) = 0 := by omega
    rw [e0]
    exact hx
  · refine ⟨k, 0, L, hk, e, pk_us, pk_us, by rw [Nat.sub_zero], dd_xr_cg m L (fun i hi => ⟨pk_un (by omega), pk_un (by omega)⟩) hx⟩
theorem dx_read7 {post : SX → Prop} {t : Nat → Nat} {n : Nat} (ht : ∀ j, t j < 32) (hn : n ≤ 22) (W : dd_WF t n)
    (H : ∀ m ot oh pa, m ≤ n → (n = 0 → m = 0) → (0 < n → dd_xr t ot oh m (dd_ob t n)) → dd_PT t pa n → post (nI n, nI m, li, wa, sr, vr, fr, dd_tk t, ot, oh, pa, wt, wf, bk, me, al, so)) :
    ∀ (N k m : Nat) (ot oh pa : Nat → Int32), n < N + k → k ≤ n → m ≤ k → (k = 0 → m = 0) → (0 < k → dd_xr t ot oh m (dd_ob t k)) → dd_PT t pa k → wX_read_7 post N (nI k) (nI n) (nI m) li wa sr vr fr (dd_tk t) ot oh pa wt wf bk me al so := by
  intro N
  induction N with
  | zero => intro k m ot oh pa h1 h2; omega
  | succ N ih =>
    intro k m ot oh pa h1 h2 h3 h4 h5 h6
    rw [wX_read_7]
    by_cases hk : k = n
    · subst hk
      exact br_t (nI_le (Nat.le_refl _) (by omega)) (H m ot oh pa h3 h4 h5 h6)
    · refine br_f (nI_ge (by omega) (by omega)) ?_
      by_cases k0 : k = 0
      · subst k0
        have m0 := h4 rfl
        subst m0
        refine br_t (nI_le (a := 0) (b := 0) (by omega) (by omega)) ?_
        refine dx_read27 (L := []) ht (by omega) (by omega) rfl (fun m' ot' oh' g1 g2 => ih 1 m' ot' oh' pa (by omega) (by omega) g1 (fun z => by omega) (fun _ => g2) ?_)
        intro j j1 j2
        omega
      · have h5 := h5 (by omega)
        obtain ⟨x, R, e, -⟩ := W k (by omega)
        rw [e] at h5
        match m, h3, h5 with
        | 0, _, h5 => cases h5
        | m + 1, h3, ⟨p, h, R', a1, a2, a3, a4, a5, a6⟩ =>
          refine br_f (nI_nle (by omega) (by omega)) ?_
          rw [dd_sg_pos (by omega), List.cons_append] at a5
          obtain ⟨e1, e2⟩ := List.cons.inj a5
          subst e1
          have hP := dd_PT_s h6 e
          have eo : dd_ob t (k + 1) = dd_sg (k + 1) (dd_wn (t k)) 0 ++ R := by rw [dd_ob, e]; rfl
          refine dx_attach ht (by omega) (by omega) a1 a2 a3 a4 (fun g => ?_) (fun g => ?_)
          · refine dx_read27 (L := R) ht (by omega) (by omega) ?_ (fun m' ot' oh' g1 g2 => ih (k + 1) m' ot' oh' _ (by omega) (by omega) g1 (fun z => by omega) (fun _ => by rw [eo]; exact g2) hP)
            have ed : dd_wn (t p) - h - 1 = 0 := by omega
            rw [e2, ed]
            exact dd_xr_cg m R' (fun i hi => ⟨rfl, pk_un (by omega)⟩) a6
          · refine dx_read27 (L := R) ht (by omega) (by omega) ?_ (fun m' ot' oh' g1 g2 => ih (k + 1) m' ot' oh' _ (by omega) (by omega) g1 (fun z => by omega) (fun _ => by rw [eo]; exact g2) hP)
            have ed : dd_wn (t p) - h - 1 = dd_wn (t p) - (h + 1) := by omega
            rw [ed] at e2
            exact ⟨p, h + 1, R', a1, by omega, a3, pk_us, e2, dd_xr_cg m R' (fun i hi => ⟨rfl, pk_un (by omega)⟩) a6⟩
theorem dx_read {post : SX → Prop} {t : Nat → Nat} {n : Nat} (ht : ∀ j, t j < 32) (hn : n ≤ 22) (W : dd_WF t n)
    (H : ∀ m ot oh pa, m ≤ n → (n = 0 → m = 0) → (0 < n → dd_xr t ot oh m (dd_ob t n)) → dd_PT t pa n → post (nI n, nI m, li, wa, sr, vr, fr, dd_tk t, ot, oh, pa, wt, wf, bk, me, al, so)) : wpX_read post (nI n, oc, li, wa, sr, vr, fr, dd_tk t, ot, oh, pa, wt, wf, bk, me, al, so) :=
  Exists.intro (n + 1) (dx_read7 ht hn W H (n + 1) 0 0 ot oh pa (by omega) (by omega) (by omega) (fun _ => rfl) (fun z => absurd z (by omega)) (fun j j1 j2 => absurd j2 (by omega)))
theorem dx_complete {post : Int32 → SX → Prop} {t : Nat → Nat} {n : Nat} (ht : ∀ j, t j < 32) (hn : n ≤ 22) (W : dd_WF t n)
    (H1 : dd_ob t n = [] → 0 < n → ∀ oc ot oh pa, dd_PT t pa n → post 1 (nI n, oc, li, wa, sr, vr, fr, dd_tk t, ot, oh, pa, wt, wf, bk, me, al, so))
    (H0 : dd_ob t n ≠ [] → ∀ oc ot oh pa, post 0 (nI n, oc, li, wa, sr, vr, fr, dd_tk t, ot, oh, pa, wt, wf, bk, me, al, so)) : wpX_complete post (nI n, oc, li, wa, sr, vr, fr, dd_tk t, ot, oh, pa, wt, wf, bk, me, al, so) := by
  unfold wpX_complete
  dsimp only
  refine dx_read ht hn W ?_
  intro m ot oh pa h1 h2 h3 h4
  refine pk_le n 0 (fun e => H0 ?_ _ _ _ _) (fun e => pk_eq m 0 (fun g => H1 ?_ e _ _ _ _ h4) (fun g => H0 ?_ _ _ _ _))
  · have e0 : n = 0 := by omega
    subst e0
    intro z; cases z
  · exact (dd_xr_0 (h3 e)).mp g
  · intro z
    exact g ((dd_xr_0 (h3 e)).mpr z)
theorem dx_wantsC {post : Int32 → Prop} {t : Nat → Nat} {m : Nat} {x : Nat × Nat} {R : List (Nat × Nat)} (ht : ∀ j, t j < 32) (hm : m ≤ 22) (hx : dd_xr t ot oh m (x :: R)) (h1 : dd_kd t x = 1 → post 0) (h2 : dd_kd t x = 2 → post 1) : wpX_wantsCondition post (sz, nI m, li, wa, sr, vr, fr, dd_tk t, ot, oh, pa, wt, wf, bk, me, al, so) := by
  match m, hm, hx with
  | 0, _, hx => cases hx
  | m + 1, hm, ⟨p, h, R', a1, a2, a3, a4, a5, a6⟩ =>
    rw [dd_sg_pos (by omega), List.cons_append] at a5
    obtain ⟨e1, e2⟩ := List.cons.inj a5
    subst e1
    have hw := dd_wn_le (t p)
    have tp := ht p
    have c : (nI (m + 1) - 1).toNatClampNeg = m := by rw [nI_pred, nI_clamp (by omega)]
    have v : vp_in (nI (m + 1) - 1) 24 := by rw [nI_pred]; exact vp_in_nI (by omega) (by omega)
    have h1 : dd_pk (t p) h = 1 → post 0 := h1
    have h2 : dd_pk (t p) h = 2 → post 1 := h2
    refine ⟨v, by rw [c, a3]; exact vp_in_nI a1 (by omega), nm_r (e' := nI (t p)) (by rw [c, a3]; exact dd_tk_c (by omega)) ?_⟩
    refine pk_eq (t p) 4 (fun e => h1 (by rw [e]; rfl)) (fun f1 => pk_le 16 (t p) (fun e => h2 (by rw [dd_pk, if_pos e])) (fun f2 => ⟨v, pk_eq h 0 (fun e => h2 ?_) (fun e => h1 ?_) (by rw [c, a4])⟩))
    · have := dd_wn_pos (by omega : 0 < dd_wn (t p))
      rw [dd_pk, if_neg (by omega)]
      by_cases e5 : t p = 5
      · rw [if_pos ⟨e5, e⟩]
      · rw [if_neg (fun z => e5 z.1), if_pos ⟨by omega, e⟩]
    · rw [dd_pk, if_neg (by omega), if_neg (fun z => e z.2), if_neg (fun z => e z.2)]
theorem dx_feed65 {post : Int32 → SX → Prop} {n : Nat} {v1 z : Int32} (hn : n < 22) (h0 : z = 0 → post (-1) (nI n, oc, li, wa, sr, vr, fr, T, ot, oh, pa, wt, wf, bk, me, al, so)) (h1 : ¬ z = 0 → post (nI (n + 1)) (nI (n + 1), oc, 0, wa, sr, vr, fr, upd T n (vp_nar .byte v1.toInt8.toInt32), ot, oh, pa, wt, wf, bk, me, al, so)) : wX_feed_65 post v1 z (nI n) oc li wa sr vr fr T ot oh pa wt wf bk me al so := by
  have c : (nI n).toNatClampNeg = n := nI_clamp (by omega)
  exact br_c h0 (fun e => ⟨vp_in_nI hn (by omega), nm_r (e' := upd T n (vp_nar .byte v1.toInt8.toInt32)) (by rw [c]) (nm_r (nI_1 n) (h1 e))⟩)
theorem dx_feed49 {post : Int32 → SX → Prop} {n d : Nat} {v1 z : Int32} (hn : n < 22) (hz : z = 0 ∧ d = 1 ∨ z = 1 ∧ d = 2)
    (h0 : (d = 1 ∧ ¬ dd_is v1) ∨ (d = 2 ∧ ¬ dd_ic v1) → post (-1) (nI n, oc, li, wa, sr, vr, fr, T, ot, oh, pa, wt, wf, bk, me, al, so))
    (h1 : (d = 1 ∧ dd_is v1) ∨ (d = 2 ∧ dd_ic v1) → post (nI (n + 1)) (nI (n + 1), oc, 0, wa, sr, vr, fr, upd T n (vp_nar .byte v1.toInt8.toInt32), ot, oh, pa, wt, wf, bk, me, al, so)) : wX_feed_49 post v1 z (nI n) oc li wa sr vr fr T ot oh pa wt wf bk me al so := by
  rcases hz with ⟨e, ed⟩ | ⟨e, ed⟩
  · subst e
    exact br_t rfl (dx_isS (fun g => dx_feed65 hn (fun z => absurd z (by decide)) (fun _ => h1 (Or.inl ⟨ed, g⟩))) (fun g => dx_feed65 hn (fun _ => h0 (Or.inl ⟨ed, g⟩)) (fun z => absurd rfl z)))
  · subst e
    exact br_f (by decide) (dx_isC (fun g => dx_feed65 hn (fun z => absurd z (by decide)) (fun _ => h1 (Or.inr ⟨ed, g⟩))) (fun g => dx_feed65 hn (fun _ => h0 (Or.inr ⟨ed, g⟩)) (fun z => absurd rfl z)))
theorem dx_feed {post : Int32 → SX → Prop} {t : Nat → Nat} {n : Nat} {v1 : Int32} (ht : ∀ j, t j < 32) (hn : n ≤ 22) (W : dd_WF t n)
    (HF : n = 22 ∨ dd_ob t n = [] → ∀ oc ot oh pa, post (-2) (nI n, oc, li, wa, sr, vr, fr, dd_tk t, ot, oh, pa, wt, wf, bk, me, al, so))
    (H0 : ∀ x R, n < 22 → dd_ob t n = x :: R → (dd_kd t x = 1 ∧ ¬ dd_is v1) ∨ (dd_kd t x = 2 ∧ ¬ dd_ic v1) → ∀ oc ot oh pa, post (-1) (nI n, oc, li, wa, sr, vr, fr, dd_tk t, ot, oh, pa, wt, wf, bk, me, al, so))
    (H1 : ∀ x R, n < 22 → dd_ob t n = x :: R → (dd_kd t x = 1 ∧ dd_is v1) ∨ (dd_kd t x = 2 ∧ dd_ic v1) → ∀ oc ot oh pa, post (nI (n + 1)) (nI (n + 1), oc, 0, wa, sr, vr, fr, upd (dd_tk t) n (vp_nar .byte v1.toInt8.toInt32), ot, oh, pa, wt, wf, bk, me, al, so)) : wpX_feed post (nI n, oc, li, wa, sr, vr, fr, dd_tk t, ot, oh, pa, wt, wf, bk, me, al, so) v1 := by
  unfold wpX_feed
  dsimp only
  refine dx_read ht hn W ?_
  intro m ot oh pa h1 h2 h3 h4
  refine pk_le 22 n (fun e => HF (Or.inl (by omega)) _ _ _ _) (fun hl => ?_)
  have K : 0 < n → ¬ m = 0 → wX_feed_30 post v1 (nI n) (nI m) li wa sr vr fr (dd_tk t) ot oh pa wt wf bk me al so := by
    intro e g
    match hL : dd_ob t n with
    | [] => exact absurd ((dd_xr_0 (h3 e)).mpr hL) g
    | x :: R =>
      have h3 := h3 e
      rw [hL] at h3
      refine br_f (nI_nle (by omega) (by omega)) (dx_wantsC ht (by omega) h3 (fun d => ?_) (fun d => ?_))
      · refine br_t rfl ?_
        exact dx_feed49 (d := dd_kd t x) hl (Or.inl ⟨rfl, d⟩) (fun z => H0 x R hl hL z _ _ _ _) (fun z => H1 x R hl hL z _ _ _ _)
      · refine br_f (by decide) ?_
        exact dx_feed49 (d := dd_kd t x) hl (Or.inr ⟨rfl, d⟩) (fun z => H0 x R hl hL z _ _ _ _) (fun z => H1 x R hl hL z _ _ _ _)
  refine pk_le n 0 (fun e => ?_) (fun e => pk_eq m 0 (fun g => HF (Or.inr ((dd_xr_0 (h3 e)).mp g)) _ _ _ _) (fun g => K e g))
  have n0 : n = 0 := by omega
  subst n0
  have m0 := h2 rfl
  subst m0
  refine br_t (nI_le (a := 0) (b := 0) (by omega) (by omega)) ?_
  exact dx_feed49 (d := 1) hl (Or.inl ⟨rfl, rfl⟩) (fun z => H0 (0, 0) [] hl rfl z _ _ _ _) (fun z => H1 (0, 0) [] hl rfl z _ _ _ _)
end
end
section
/-! ===== the reference reads its tokens ===== -/
def dd_yr (t : Nat → Nat) (pl : Nat → Int32) : List (Nat × Nat) → Prop
  | [] => True
  | x :: R => pl R.length = nI (dd_kd t x) ∧ dd_yr t pl R
theorem dd_yr_cg {t : Nat → Nat} {pl pl' : Nat → Int32} : ∀ L, (∀ i, i < L.length → pl' i = pl i) → dd_yr t pl L → dd_yr t pl' L := by
  intro L
  induction L with
  | nil => intro _ _; trivial
  | cons x R ih =>
    intro h g
    exact ⟨by rw [h R.length (by simp), g.1], ih (fun i hi => h i (by simp; omega)) g.2⟩
theorem dd_yr_push {t : Nat → Nat} {pl : Nat → Int32} {x : Nat × Nat} {R : List (Nat × Nat)} {m : Nat} (hm : m = R.length) (h : dd_yr t pl R) : dd_yr t (upd pl m (nI (dd_kd t x))) (x :: R) := by
  subst hm
  exact ⟨pk_us, dd_yr_cg R (fun i hi => pk_un (by omega)) h⟩
def dd_du (t : Nat → Nat) : List (Nat × Nat) → Nat
  | [] => 0
  | x :: _ => dd_kd t x
theorem dd_sm1 (x : Int32) : x + (-1) = x - 1 := by
  apply Int32.toBitVec_inj.mp
  rw [Int32.toBitVec_add, Int32.toBitVec_sub]
  generalize x.toBitVec = b
  show b + (-1 : Int32).toBitVec = b - (1 : Int32).toBitVec
  rw [show (-1 : Int32).toBitVec = -(1 : Int32).toBitVec from by decide, BitVec.sub_eq_add_neg]
section
variable {sz rs rv rf : Int32} {T nx ye no ou co pl : Nat → Int32}
theorem dy_parts {post : Int32 → Prop} {x : Int32} (c : Nat) (hx : x = nI c) (hc : c < 32) (h : post (nI (dd_wn c))) : wpY_parts post (sz, rs, rv, rf, T, nx, ye, no, ou, co, pl) x := by
  subst hx
  unfold wpY_parts
  dsimp only
  refine pk_eq c 4 (fun e => ?_) (fun e3 => pk_eq c 6 (fun e => ?_) (fun e4 => pk_eq c 20 (fun e => ?_) (fun e5 => pk_eq c 21 (fun e => ?_) (fun e6 => pk_eq c 5 (fun e => ?_) (fun e1 => pk_eq c 22 (fun e => ?_) (fun e2 => pk_eq c 19 (fun e => ?_) (fun e7 => ?_)))))))
  · subst e; exact h
  · subst e; exact h
  · subst e; exact h
  · subst e; exact h
  · subst e; exact h
  · subst e; exact h
  · subst e; exact h
  · rw [dd_wn, if_neg e1, if_neg e2, if_neg e3, if_neg e4, if_neg e5, if_neg e6, if_neg e7] at h
    exact h
theorem dy_pic {post : Int32 → Prop} {x y : Int32} (c i : Nat) (hx : x = nI c) (hy : y = nI i) (hc : c < 32) (hi : i < 32) (h1 : dd_pk c i = 1 → post 0) (h2 : dd_pk c i = 2 → post 1) : wpY_partIsCondition post (sz, rs, rv, rf, T, nx, ye, no, ou, co, pl) x y := by
  subst hx hy
  have K : (c = 5 ∨ c = 6) → c < 16 → wY_partIsCondition_17 post (nI i) sz rs rv rf T nx ye no ou co pl := by
    intro h5 hl
    refine pk_eq i 0 (fun e => h2 ?_) (fun e => h1 ?_)
    · rw [dd_pk, if_neg (by omega)]
      by_cases e5 : c = 5
      · rw [if_pos ⟨e5, e⟩]
      · rw [if_neg (fun z => e5 z.1), if_pos ⟨by omega, e⟩]
    · rw [dd_pk, if_neg (by omega), if_neg (fun z => e z.2), if_neg (fun z => e z.2)]
  exact pk_le 16 c (fun e => h2 (by rw [dd_pk, if_pos e])) (fun e => pk_eq c 5 (fun g => K (Or.inl g) e) (fun g5 => pk_eq c 6 (fun g => K (Or.inr g) e) (fun g6 => h1 (by rw [dd_pk, if_neg (by omega), if_neg (fun z => g5 z.1), if_neg (fun z => g6 z.1)]))))
theorem dy_due42 {post : Int32 → SY → Prop} {J11 : Int32 → Int32 → (Nat → Int32) → (Nat → Int32) → (Nat → Int32) → (Nat → Int32) → (Nat → Int32) → (Nat → Int32) → (Nat → Int32) → Prop}
    {t : Nat → Nat} {k w : Nat} {R : List (Nat × Nat)} (ht : ∀ j, t j < 32) (hw : dd_wn (t k) = w) (hk : k < 22) (hR : R.length + w ≤ 48)
    (H : ∀ pl, dd_yr t pl (dd_sg (k + 1) w 0 ++ R) → J11 (nI (w + R.length)) (nI (k + 1)) (dd_tk t) nx ye no ou co pl) :
    ∀ (N d m : Nat) (pl : Nat → Int32), d < N → d ≤ w → m = w - d + R.length → dd_yr t pl (dd_sg (k + 1) (w - d) d ++ R) → wY_due_42 post J11 (nI k) sz rs rv rf N (nI m) (nI d - 1) (dd_tk t) nx ye no ou co pl := by
  intro N
  induction N with
  | zero => intro d m pl h; omega
  | succ N ih =>
    intro d m pl h1 h2 hm h3
    have hw3 := dd_wn_le (t k)
    rw [wY_due_42]
    match d, h1, h2, hm, h3 with
    | 0, h1, h2, hm, h3 =>
      refine br_t (by decide) (nm_r (nI_1 k) ?_)
      rw [hm]
      exact H pl h3
    | d + 1, h1, h2, hm, h3 =>
      rw [nI_pred]
      refine br_f (nI_pos (by omega)) ⟨vp_in_nI hk (by omega), ?_⟩
      have v : vp_in (nI m) 50 := vp_in_nI (by omega) (by omega)
      have c : (nI m).toNatClampNeg = m := nI_clamp (by omega)
      have hl : m = (dd_sg (k + 1) (w - (d + 1)) (d + 1) ++ R).length := by rw [List.length_append, dd_sg_len, hm]
      have es : dd_sg (k + 1) (w - d) d ++ R = (k + 1, d) :: (dd_sg (k + 1) (w - (d + 1)) (d + 1) ++ R) := by
        rw [dd_sg_pos (by omega), List.cons_append]
        have : w - d - 1 = w - (d + 1) := by omega
        rw [this]
      have hp := dd_yr_push (x := (k + 1, d)) hl h3
      rw [← es] at hp
      refine dy_pic (t k) d (dd_tk_c (by omega)) rfl (ht k) (by omega) (fun e => ?_) (fun e => ?_)
      · rw [show dd_kd t (k + 1, d) = 1 from e] at hp
        exact br_t rfl ⟨v, nm_r (e' := upd pl m (nI 1)) (by rw [c]; rfl) (nm_r (nI_1 m) (nm_r (dd_sm1 (nI d)) (ih d (m + 1) _ (by omega) (by omega) (by omega) hp)))⟩
      · rw [show dd_kd t (k + 1, d) = 2 from e] at hp
        exact br_f (by decide) ⟨v, nm_r (e' := upd pl m (nI 2)) (by rw [c]; rfl) (nm_r (nI_1 m) (nm_r (dd_sm1 (nI d)) (ih d (m + 1) _ (by omega) (by omega) (by omega) hp)))⟩
theorem dy_due88 {post : Int32 → SY → Prop} {t : Nat → Nat} {L : List (Nat × Nat)} {m : Nat} (hm : m = L.length) (hl : L.length ≤ 49) (h : dd_yr t pl L) (H : post (nI (dd_du t L)) (sz, rs, rv, rf, T, nx, ye, no, ou, co, pl)) : wY_due_88 post (nI m) sz rs rv rf T nx ye no ou co pl := by
  match L, hm, hl, h, H with
  | [], hm, _, _, H =>
    subst hm
    exact br_t rfl H
  | x :: R, hm, hl, h, H =>
    rw [List.length_cons] at hm hl
    subst hm
    refine br_f (nI_ne0 (by omega) (by omega)) ?_
    rw [nI_pred]
    refine ⟨vp_in_nI (by omega) (by omega), ?_⟩
    rw [nI_clamp (by omega), h.1]
    exact H
theorem dy_due11 {post : Int32 → SY → Prop} {t : Nat → Nat} {n : Nat} (ht : ∀ j, t j < 32) (hn : n ≤ 22) (W : dd_WF t n)
    (H : ∀ pl, post (nI (dd_du t (dd_ob t n))) (nI n, rs, rv, rf, dd_tk t, nx, ye, no, ou, co, pl)) :
    ∀ (N k m : Nat) (pl : Nat → Int32), n < N + k → k ≤ n → m = (dd_ob t k).length → dd_yr t pl (dd_ob t k) → wY_due_11 post (nI n) rs rv rf N (nI m) (nI k) (dd_tk t) nx ye no ou co pl := by
  intro N
  induction N with
  | zero => intro k m pl h1 h2; omega
  | succ N ih =>
    intro k m pl h1 h2 hm h3
    have hlen := dd_ob_len (t := t) k
    rw [wY_due_11]
    by_cases hk : k = n
    · subst hk
      exact br_t (nI_le (Nat.le_refl _) (by omega)) (dy_due88 hm (by omega) h3 (H pl))
    · refine br_f (nI_ge (by omega) (by omega)) ?_
      obtain ⟨x, R, e, -⟩ := W k (by omega)
      rw [e, List.length_cons] at hm hlen
      rw [e] at h3
      subst hm
      have hw := dd_wn_le (t k)
      refine br_f (nI_nle (by omega) (by omega)) (nm_r (pk_m1 R.length) ⟨vp_in_nI (by omega) (by omega), dy_parts (t k) (dd_tk_c (by omega)) (ht k) (nm_e ⟨dd_wn (t k) + 1, ?_⟩)⟩)
      have eo : dd_ob t (k + 1) = dd_sg (k + 1) (dd_wn (t k)) 0 ++ R := by rw [dd_ob, e]; rfl
      refine dy_due42 (R := R) (w := dd_wn (t k)) ht rfl (by omega) (by omega) (fun pl' h => ?_) (dd_wn (t k) + 1) (dd_wn (t k)) R.length pl (by omega) (by omega) (by omega) (by rw [Nat.sub_self]; exact h3.2)
      exact ih (k + 1) _ pl' (by omega) (by omega) (by rw [eo, List.length_append, dd_sg_len]) (by rw [eo]; exact h)
theorem dy_due {post : Int32 → SY → Prop} {t : Nat → Nat} {n : Nat} (ht : ∀ j, t j < 32) (hn : n ≤ 22) (W : dd_WF t n)
    (H : ∀ pl, post (nI (dd_du t (dd_ob t n))) (nI n, rs, rv, rf, dd_tk t, nx, ye, no, ou, co, pl)) : wpY_due post (nI n, rs, rv, rf, dd_tk t, nx, ye, no, ou, co, pl) := by
  unfold wpY_due
  dsimp only
  exact nm_e ⟨n + 1, dy_due11 ht hn W H (n + 1) 0 1 (upd pl 0 1) (by omega) (by omega) rfl ⟨pk_us, trivial⟩⟩
theorem dy_complete {post : Int32 → SY → Prop} {t : Nat → Nat} {n : Nat} (ht : ∀ j, t j < 32) (hn : n ≤ 22) (W : dd_WF t n)
    (H1 : dd_ob t n = [] → ∀ pl, post 1 (nI n, rs, rv, rf, dd_tk t, nx, ye, no, ou, co, pl)) (H0 : dd_ob t n ≠ [] → ∀ pl, post 0 (nI n, rs, rv, rf, dd_tk t, nx, ye, no, ou, co, pl)) : wpY_complete post (nI n, rs, rv, rf, dd_tk t, nx, ye, no, ou, co, pl) := by
  unfold wpY_complete
  dsimp only
  refine dy_due ht hn W ?_
  intro pl
  match hL : dd_ob t n with
  | [] => exact br_t rfl (H1 hL pl)
  | x :: R =>
    refine br_f ?_ (H0 (by rw [hL]; intro z; cases z) pl)
    show ¬ nI (dd_kd t x) = 0
    rcases dd_kd_or t x with e | e <;> rw [e] <;> decide
theorem dy_st20 {post : Int32 → Prop} {x : Int32} (h1 : 8 ≤ x.toInt ∧ x.toInt < 16 → post 1) (h0 : ¬ (8 ≤ x.toInt ∧ x.toInt < 16) → post 0) : wY_statement_20 post x sz rs rv rf T nx ye no ou co pl :=
  pi_lt 8 (fun e => h0 (by omega)) (fun e => pi_gt 15 (fun e => h0 (by omega)) (fun e => h1 (by omega)))
theorem dy_st {post : Int32 → Prop} {x : Int32} (h1 : dd_is x → post 1) (h0 : ¬ dd_is x → post 0) : wpY_statement post (sz, rs, rv, rf, T, nx, ye, no, ou, co, pl) x := by
  unfold dd_is at h1 h0
  exact pi_eq 0 (fun e => h1 (by omega)) (fun e1 => pi_eq 1 (fun e => h1 (by omega)) (fun e2 => pi_lt 4 (fun e => dy_st20 (fun e => h1 (by omega)) (fun e => h0 (by omega))) (fun e3 => pi_le 6 (fun e => h1 (by omega)) (fun e => dy_st20 (fun e => h1 (by omega)) (fun e => h0 (by omega))))))
theorem dy_co12 {post : Int32 → Prop} {x : Int32} (h1 : 24 ≤ x.toInt ∧ x.toInt < 32 → post 1) (h0 : ¬ (24 ≤ x.toInt ∧ x.toInt < 32) → post 0) : wY_condition_12 post x sz rs rv rf T nx ye no ou co pl :=
  pi_lt 24 (fun e => h0 (by omega)) (fun e => pi_gt 31 (fun e => h0 (by omega)) (fun e => h1 (by omega)))
theorem dy_co {post : Int32 → Prop} {x : Int32} (h1 : dd_ic x → post 1) (h0 : ¬ dd_ic x → post 0) : wpY_condition post (sz, rs, rv, rf, T, nx, ye, no, ou, co, pl) x := by
  unfold dd_ic at h1 h0
  exact pi_lt 16 (fun e => dy_co12 (fun e => h1 (by omega)) (fun e => h0 (by omega))) (fun e1 => pi_le 22 (fun e => h1 (by omega)) (fun e => dy_co12 (fun e => h1 (by omega)) (fun e => h0 (by omega))))
theorem dy_feed49 {post : Int32 → SY → Prop} {n : Nat} {v1 : Int32} (hn : n < 22) (h : post (nI (n + 1)) (nI (n + 1), rs, rv, rf, upd T n v1, nx, ye, no, ou, co, pl)) : wY_feed_49 post v1 (nI n) rs rv rf T nx ye no ou co pl := by
  have c : (nI n).toNatClampNeg = n := nI_clamp (by omega)
  exact ⟨vp_in_nI hn (by omega), nm_r (e' := upd T n v1) (by rw [c]) (nm_r (nI_1 n) h)⟩
theorem dy_feed {post : Int32 → SY → Prop} {t : Nat → Nat} {n : Nat} {v1 : Int32} (ht : ∀ j, t j < 32) (hn : n ≤ 22) (W : dd_WF t n)
    (HF : n = 22 ∨ dd_ob t n = [] → ∀ pl, post (-2) (nI n, rs, rv, rf, dd_tk t, nx, ye, no, ou, co, pl))
    (H0 : ∀ x R, n < 22 → dd_ob t n = x :: R → (dd_kd t x = 1 ∧ ¬ dd_is v1) ∨ (dd_kd t x = 2 ∧ ¬ dd_ic v1) → ∀ pl, post (-1) (nI n, rs, rv, rf, dd_tk t, nx, ye, no, ou, co, pl))
    (H1 : ∀ x R, n < 22 → dd_ob t n = x :: R → (dd_kd t x = 1 ∧ dd_is v1) ∨ (dd_kd t x = 2 ∧ dd_ic v1) → ∀ pl, post (nI (n + 1)) (nI (n + 1), rs, rv, rf, upd (dd_tk t) n v1, nx, ye, no, ou, co, pl)) : wpY_feed post (nI n, rs, rv, rf, dd_tk t, nx, ye, no, ou, co, pl) v1 := by
  unfold wpY_feed
  dsimp only
  refine dy_due ht hn W ?_
  intro pl
  refine pk_le 22 n (fun e => HF (Or.inl (by omega)) pl) (fun hl => ?_)
  match hL : dd_ob t n with
  | [] => exact br_t rfl (HF (Or.inr hL) pl)
  | x :: R =>
    have H0 := H0 x R hl hL
    have H1 := H1 x R hl hL
    rcases dd_kd_or t x with e | e
    · rw [show dd_du t (x :: R) = 1 from e]
      refine br_f (by decide) (br_t rfl (dy_st (fun g => br_f (by decide) (br_f (by decide) (dy_feed49 hl (H1 (Or.inl ⟨e, g⟩) pl)))) (fun g => br_t rfl (H0 (Or.inl ⟨e, g⟩) pl))))
    · rw [show dd_du t (x :: R) = 2 from e]
      refine br_f (by decide) (br_f (by decide) (br_t rfl (dy_co (fun g => br_f (by decide) (dy_feed49 hl (H1 (Or.inr ⟨e, g⟩) pl))) (fun g => br_t rfl (H0 (Or.inr ⟨e, g⟩) pl)))))
end
end
section
/-! ===== the component links its tokens ===== -/
def dd_XL (t : Nat → Nat) (n k : Nat) (wt wf bk : Nat → Int32) : Prop := ∀ j x R, j < n → dd_ob t j = x :: R → x.1 ≤ k → wt j = nI (dd_T t n j) ∧ wf j = nI (dd_F t n j) ∧ bk j = nI (dd_B t n j)
def dd_XF (t : Nat → Nat) (n : Nat) (wt wf bk : Nat → Int32) : Prop := ∀ j, j < n → wt j = nI (dd_T t n j) ∧ wf j = nI (dd_F t n j) ∧ bk j = nI (dd_B t n j)
theorem dd_XL_s {t : Nat → Nat} {n k : Nat} {wt wf bk wt' wf' bk' : Nat → Int32} (hn : dd_ob t n = []) (hk : k < n) (X : dd_XL t n k wt wf bk)
    (h1 : ∀ j, (∀ i, i < dd_wn (t k) → j ≠ dd_st t n k i) → wt' j = wt j ∧ wf' j = wf j ∧ bk' j = bk j)
    (h2 : ∀ i, i < dd_wn (t k) → wt' (dd_st t n k i) = nI (dd_ru (t k) i k (dd_st t n k 1) (dd_st t n k 2) (dd_lk t n k)).1 ∧ wf' (dd_st t n k i) = nI (dd_ru (t k) i k (dd_st t n k 1) (dd_st t n k 2) (dd_lk t n k)).2.1 ∧ bk' (dd_st t n k i) = nI (dd_ru (t k) i k (dd_st t n k 1) (dd_st t n k 2) (dd_lk t n k)).2.2) : dd_XL t n (k + 1) wt' wf' bk' := by
  intro j x R hj e hx
  by_cases hx2 : x.1 ≤ k
  · have hne : ∀ i, i < dd_wn (t k) → j ≠ dd_st t n k i := by
      intro i hi ej
      obtain ⟨_, _, R', e'⟩ := dd_child hn hk hi
      rw [← ej, e] at e'
      cases e'
      simp only at hx2
      omega
    obtain ⟨a, b, c⟩ := h1 j hne
    rw [a, b, c]
    exact X j x R hj e hx2
  · obtain ⟨q, i⟩ := x
    have eq : q = k + 1 := by simp only at hx hx2; omega
    subst eq
    have hi := (dd_hd e).2
    have es : dd_st t n k i = j := dd_fs_eq e n hj
    have h2 := h2 i hi
    rw [es] at h2
    unfold dd_T dd_F dd_B
    rw [dd_lk_s e]
    exact h2
theorem dd_st_ne {t : Nat → Nat} {n k i i' : Nat} (hn : dd_ob t n = []) (hk : k < n) (hi : i < dd_wn (t k)) (hi' : i' < dd_wn (t k)) (h : i ≠ i') : dd_st t n k i ≠ dd_st t n k i' := by
  intro e
  obtain ⟨_, _, R, e1⟩ := dd_child hn hk hi
  obtain ⟨_, _, R', e2⟩ := dd_child hn hk hi'
  rw [e, e2] at e1
  cases e1
  exact h rfl
theorem dd_XL_0 {t : Nat → Nat} {n : Nat} {wt wf bk : Nat → Int32} (h : wt 0 = nI 22 ∧ wf 0 = nI 22 ∧ bk 0 = nI 22) : dd_XL t n 0 wt wf bk := by
  intro j x R hj e hx
  obtain ⟨q, i⟩ := x
  have eq : q = 0 := by simp only at hx; omega
  subst eq
  unfold dd_T dd_F dd_B
  rw [dd_lk_0 e]
  have ei : i = 0 := by
    rcases dd_ob_mem j (0, i) (by rw [e]; exact List.mem_cons_self) with g | ⟨p, i', g, _, _⟩
    · cases g; rfl
    · cases g
  subst ei
  have ej : j = 0 := dd_ob_inj (t := t) (k := 0) (S := []) e rfl
  subst ej
  exact h
theorem dd_XL_k {t : Nat → Nat} {n k : Nat} {wt wf bk : Nat → Int32} (W : dd_WF t n) (hk : k < n) (X : dd_XL t n k wt wf bk) : wt k = nI (dd_T t n k) ∧ wf k = nI (dd_F t n k) ∧ bk k = nI (dd_B t n k) := by
  obtain ⟨x, R, e, -⟩ := W k hk
  exact X k x R hk e (dd_ob_le (by rw [e]; exact List.mem_cons_self))
theorem dd_XL_n {t : Nat → Nat} {n : Nat} {wt wf bk : Nat → Int32} (W : dd_WF t n) (X : dd_XL t n n wt wf bk) : dd_XF t n wt wf bk := by
  intro j hj
  obtain ⟨x, R, e, -⟩ := W j hj
  have := dd_ob_le (t := t) (k := j) (x := x) (by rw [e]; exact List.mem_cons_self)
  exact X j x R hj e (by omega)
theorem dd_PT_st {t : Nat → Nat} {n k i : Nat} {pa : Nat → Int32} (hn : dd_ob t n = []) (hk : k < n) (P : dd_PT t pa n) (hi : i < dd_wn (t k)) : pa (3 * k + i) = nI (dd_st t n k i) := by
  obtain ⟨h1, h2, R, e⟩ := dd_child hn hk hi
  exact P _ (by omega) h2 k i R e
section
variable {sz oc li wa sr vr fr : Int32} {T ot oh pa wt wf bk me al so : Nat → Int32}
theorem dx_lead {post : SX → Prop} {p0 p1 p2 p3 : Int32} (a x y z : Nat) (e0 : p0 = nI a) (e1 : p1 = nI x) (e2 : p2 = nI y) (e3 : p3 = nI z) (ha : a < 22) (hx : x < 128) (hy : y < 128) (hz : z < 128)
    (h : post (sz, oc, li, wa, sr, vr, fr, T, ot, oh, pa, upd wt a (nI x), upd wf a (nI y), upd bk a (nI z), me, al, so)) : wpX_lead post (sz, oc, li, wa, sr, vr, fr, T, ot, oh, pa, wt, wf, bk, me, al, so) p0 p1 p2 p3 := by
  subst e0 e1 e2 e3
  have v : vp_in (nI a) 22 := vp_in_nI ha (by omega)
  have c : (nI a).toNatClampNeg = a := nI_clamp (by omega)
  exact ⟨v, nm_r (e' := upd wt a (nI x)) (by rw [c, rw_by x hx]) ⟨v, nm_r (e' := upd wf a (nI y)) (by rw [c, rw_by y hy]) ⟨v, nm_r (e' := upd bk a (nI z)) (by rw [c, rw_by z hz]) h⟩⟩⟩
/-- what a step of the linking knows of token k -/
def dd_K (t : Nat → Nat) (n k : Nat) (pa wt wf bk : Nat → Int32) : Prop :=
  (∀ i, i < dd_wn (t k) → pa (3 * k + i) = nI (dd_st t n k i) ∧ k < dd_st t n k i ∧ dd_st t n k i < n) ∧
  (∀ i i', i < dd_wn (t k) → i' < dd_wn (t k) → i ≠ i' → dd_st t n k i ≠ dd_st t n k i') ∧
  (wt k = nI (dd_T t n k) ∧ wf k = nI (dd_F t n k) ∧ bk k = nI (dd_B t n k)) ∧ dd_T t n k ≤ 22 ∧ dd_F t n k ≤ 22 ∧ dd_B t n k ≤ 22
theorem dd_K_of {t : Nat → Nat} {n k : Nat} (W : dd_WF t n) (hn : dd_ob t n = []) (h22 : n ≤ 22) (hk : k < n) (P : dd_PT t pa n) (X : dd_XL t n k wt wf bk) : dd_K t n k pa wt wf bk := by
  obtain ⟨g1, g2, g3⟩ := dd_lk_gd W hn (k + 1) k (by omega) hk
  exact ⟨fun i hi => ⟨dd_PT_st hn hk P hi, (dd_child hn hk hi).1, (dd_child hn hk hi).2.1⟩, fun i i' hi hi' h => dd_st_ne hn hk hi hi' h, dd_XL_k W hk X, dd_gd_le g1 h22, dd_gd_le g2 h22, dd_gd_le g3 h22⟩
theorem dd_XL1 {t : Nat → Nat} {n k x0 y0 z0 : Nat} (hn : dd_ob t n = []) (hk : k < n) (w : dd_wn (t k) = 1) (X : dd_XL t n k wt wf bk) (r0 : dd_ru (t k) 0 k (dd_st t n k 1) (dd_st t n k 2) (dd_lk t n k) = (x0, y0, z0)) : dd_XL t n (k + 1) (upd wt (dd_st t n k 0) (nI x0)) (upd wf (dd_st t n k 0) (nI y0)) (upd bk (dd_st t n k 0) (nI z0)) := by
  have D : ∀ i i', i < dd_wn (t k) → i' < dd_wn (t k) → i ≠ i' → dd_st t n k i ≠ dd_st t n k i' := fun i i' hi hi' h => dd_st_ne hn hk hi hi' h
  refine dd_XL_s hn hk X (fun j hj => ?_) (fun i hi => ?_)
  · rw [w] at hj
    have j0 := hj 0 (by omega)
    exact ⟨by rw [pk_un j0], by rw [pk_un j0], by rw [pk_un j0]⟩
  · rw [w] at hi D
    match i, hi with
    | 0, _ => exact ⟨by rw [pk_us, r0], by rw [pk_us, r0], by rw [pk_us, r0]⟩
theorem dd_XL2 {t : Nat → Nat} {n k x0 y0 z0 x1 y1 z1 : Nat} (hn : dd_ob t n = []) (hk : k < n) (w : dd_wn (t k) = 2) (X : dd_XL t n k wt wf bk) (r0 : dd_ru (t k) 0 k (dd_st t n k 1) (dd_st t n k 2) (dd_lk t n k) = (x0, y0, z0)) (r1 : dd_ru (t k) 1 k (dd_st t n k 1) (dd_st t n k 2) (dd_lk t n k) = (x1, y1, z1)) : dd_XL t n (k + 1) (upd (upd wt (dd_st t n k 0) (nI x0)) (dd_st t n k 1) (nI x1)) (upd (upd wf (dd_st t n k 0) (nI y0)) (dd_st t n k 1) (nI y1)) (upd (upd bk (dd_st t n k 0) (nI z0)) (dd_st t n k 1) (nI z1)) := by
  have D : ∀ i i', i < dd_wn (t k) → i' < dd_wn (t k) → i ≠ i' → dd_st t n k i ≠ dd_st t n k i' := fun i i' hi hi' h => dd_st_ne hn hk hi hi' h
  refine dd_XL_s hn hk X (fun j hj => ?_) (fun i hi => ?_)
  · rw [w] at hj
    have j0 := hj 0 (by omega)
    have j1 := hj 1 (by omega)
    exact ⟨by rw [pk_un j1, pk_un j0], by rw [pk_un j1, pk_un j0], by rw [pk_un j1, pk_un j0]⟩
  · rw [w] at hi D
    match i, hi with
    | 0, _ => exact ⟨by rw [pk_un (D 0 1 (by omega) (by omega) (by omega)), pk_us, r0], by rw [pk_un (D 0 1 (by omega) (by omega) (by omega)), pk_us, r0], by rw [pk_un (D 0 1 (by omega) (by omega) (by omega)), pk_us, r0]⟩
    | 1, _ => exact ⟨by rw [pk_us, r1], by rw [pk_us, r1], by rw [pk_us, r1]⟩
theorem dd_XL3 {t : Nat → Nat} {n k x0 y0 z0 x1 y1 z1 x2 y2 z2 : Nat} (hn : dd_ob t n = []) (hk : k < n) (w : dd_wn (t k) = 3) (X : dd_XL t n k wt wf bk) (r0 : dd_ru (t k) 0 k (dd_st t n k 1) (dd_st t n k 2) (dd_lk t n k) = (x0, y0, z0)) (r1 : dd_ru (t k) 1 k (dd_st t n k 1) (dd_st t n k 2) (dd_lk t n k) = (x1, y1, z1)) (r2 : dd_ru (t k) 2 k (dd_st t n k 1) (dd_st t n k 2) (dd_lk t n k) = (x2, y2, z2)) : dd_XL t n (k + 1) (upd (upd (upd wt (dd_st t n k 0) (nI x0)) (dd_st t n k 1) (nI x1)) (dd_st t n k 2) (nI x2)) (upd (upd (upd wf (dd_st t n k 0) (nI y0)) (dd_st t n k 1) (nI y1)) (dd_st t n k 2) (nI y2)) (upd (upd (upd bk (dd_st t n k 0) (nI z0)) (dd_st t n k 1) (nI z1)) (dd_st t n k 2) (nI z2)) := by
  have D : ∀ i i', i < dd_wn (t k) → i' < dd_wn (t k) → i ≠ i' → dd_st t n k i ≠ dd_st t n k i' := fun i i' hi hi' h => dd_st_ne hn hk hi hi' h
  refine dd_XL_s hn hk X (fun j hj => ?_) (fun i hi => ?_)
  · rw [w] at hj
    have j0 := hj 0 (by omega)
    have j1 := hj 1 (by omega)
    have j2 := hj 2 (by omega)
    exact ⟨by rw [pk_un j2, pk_un j1, pk_un j0], by rw [pk_un j2, pk_un j1, pk_un j0], by rw [pk_un j2, pk_un j1, pk_un j0]⟩
  · rw [w] at hi D
    match i, hi with
    | 0, _ => exact ⟨by rw [pk_un (D 0 2 (by omega) (by omega) (by omega)), pk_un (D 0 1 (by omega) (by omega) (by omega)), pk_us, r0], by rw [pk_un (D 0 2 (by omega) (by omega) (by omega)), pk_un (D 0 1 (by omega) (by omega) (by omega)), pk_us, r0], by rw [pk_un (D 0 2 (by omega) (by omega) (by omega)), pk_un (D 0 1 (by omega) (by omega) (by omega)), pk_us, r0]⟩
    | 1, _ => exact ⟨by rw [pk_un (D 1 2 (by omega) (by omega) (by omega)), pk_us, r1], by rw [pk_un (D 1 2 (by omega) (by omega) (by omega)), pk_us, r1], by rw [pk_un (D 1 2 (by omega) (by omega) (by omega)), pk_us, r1]⟩
    | 2, _ => exact ⟨by rw [pk_us, r2], by rw [pk_us, r2], by rw [pk_us, r2]⟩
theorem dd_XL3b {t : Nat → Nat} {n k x0 y0 z0 x1 y1 z1 x2 y2 z2 : Nat} (hn : dd_ob t n = []) (hk : k < n) (w : dd_wn (t k) = 3) (X : dd_XL t n k wt wf bk) (r0 : dd_ru (t k) 0 k (dd_st t n k 1) (dd_st t n k 2) (dd_lk t n k) = (x0, y0, z0)) (r1 : dd_ru (t k) 1 k (dd_st t n k 1) (dd_st t n k 2) (dd_lk t n k) = (x1, y1, z1)) (r2 : dd_ru (t k) 2 k (dd_st t n k 1) (dd_st t n k 2) (dd_lk t n k) = (x2, y2, z2)) : dd_XL t n (k + 1) (upd (upd (upd wt (dd_st t n k 0) (nI x0)) (dd_st t n k 2) (nI x2)) (dd_st t n k 1) (nI x1)) (upd (upd (upd wf (dd_st t n k 0) (nI y0)) (dd_st t n k 2) (nI y2)) (dd_st t n k 1) (nI y1)) (upd (upd (upd bk (dd_st t n k 0) (nI z0)) (dd_st t n k 2) (nI z2)) (dd_st t n k 1) (nI z1)) := by
  have D : ∀ i i', i < dd_wn (t k) → i' < dd_wn (t k) → i ≠ i' → dd_st t n k i ≠ dd_st t n k i' := fun i i' hi hi' h => dd_st_ne hn hk hi hi' h
  refine dd_XL_s hn hk X (fun j hj => ?_) (fun i hi => ?_)
  · rw [w] at hj
    have j0 := hj 0 (by omega)
    have j1 := hj 1 (by omega)
    have j2 := hj 2 (by omega)
    exact ⟨by rw [pk_un j1, pk_un j2, pk_un j0], by rw [pk_un j1, pk_un j2, pk_un j0], by rw [pk_un j1, pk_un j2, pk_un j0]⟩
  · rw [w] at hi D
    match i, hi with
    | 0, _ => exact ⟨by rw [pk_un (D 0 1 (by omega) (by omega) (by omega)), pk_un (D 0 2 (by omega) (by omega) (by omega)), pk_us, r0], by rw [pk_un (D 0 1 (by omega) (by omega) (by omega)), pk_un (D 0 2 (by omega) (by omega) (by omega)), pk_us, r0], by rw [pk_un (D 0 1 (by omega) (by omega) (by omega)), pk_un (D 0 2 (by omega) (by omega) (by omega)), pk_us, r0]⟩
    | 1, _ => exact ⟨by rw [pk_us, r1], by rw [pk_us, r1], by rw [pk_us, r1]⟩
    | 2, _ => exact ⟨by rw [pk_un (D 2 1 (by omega) (by omega) (by omega)), pk_us, r2], by rw [pk_un (D 2 1 (by omega) (by omega) (by omega)), pk_us, r2], by rw [pk_un (D 2 1 (by omega) (by omega) (by omega)), pk_us, r2]⟩
theorem dd_XLz {t : Nat → Nat} {n k : Nat} (hn : dd_ob t n = []) (hk : k < n) (w : dd_wn (t k) = 0) (X : dd_XL t n k wt wf bk) : dd_XL t n (k + 1) wt wf bk :=
  dd_XL_s hn hk X (fun j hj => ⟨rfl, rfl, rfl⟩) (fun i hi => absurd hi (by omega))
theorem dx_lc138 {post : SX → Prop} {t : Nat → Nat} {n k b : Nat} {p1 : Int32} (h22 : n ≤ 22) (hk : k < n) (e1 : p1 = nI b) (hb : b < 22) (hT : dd_T t n k ≤ 22) (hF : dd_F t n k ≤ 22) (k3 : wt k = nI (dd_T t n k)) (k4 : wf k = nI (dd_F t n k))
    (H : post (sz, oc, li, wa, sr, vr, fr, T, ot, oh, pa, upd wt b (nI (dd_T t n k)), upd wf b (nI (dd_F t n k)), upd bk b (nI 22), me, al, so)) : wX_linkCondition_138 post (nI k) p1 sz oc li wa sr vr fr T ot oh pa wt wf bk me al so := by
  have v : vp_in (nI k) 22 := vp_in_nI (by omega) (by omega)
  have c : (nI k).toNatClampNeg = k := nI_clamp (by omega)
  exact ⟨v, v, dx_lead b (dd_T t n k) (dd_F t n k) 22 e1 (by rw [c, k3]) (by rw [c, k4]) rfl hb (by omega) (by omega) (by omega) H⟩
theorem dx_linkC {post : SX → Prop} {t : Nat → Nat} {n k : Nat} (hn : dd_ob t n = []) (h22 : n ≤ 22) (hk : k < n) (ht : t k < 32) (c1 : 19 ≤ t k) (c2 : t k ≤ 22) (K : dd_K t n k pa wt wf bk) (X : dd_XL t n k wt wf bk)
    (H : ∀ wt' wf' bk', dd_XL t n (k + 1) wt' wf' bk' → post (sz, oc, li, wa, sr, vr, fr, T, ot, oh, pa, wt', wf', bk', me, al, so)) : wpX_linkCondition post (sz, oc, li, wa, sr, vr, fr, T, ot, oh, pa, wt, wf, bk, me, al, so) (nI k) (nI (t k)) := by
  obtain ⟨k1, k2, ⟨k3, k4, k5⟩, k6, k7, k8⟩ := K
  have v : vp_in (nI k) 22 := vp_in_nI (by omega) (by omega)
  have c : (nI k).toNatClampNeg = k := nI_clamp (by omega)
  have e3 : nI k * 3 = nI (3 * k) := by
    show nI k * nI 3 = _
    rw [pk_mul, Nat.mul_comm]
  have e4 : nI k * 3 + 1 = nI (3 * k + 1) := by rw [e3, nI_1]
  have e5 : nI k * 3 + 2 = nI (3 * k + 2) := by rw [e3]; exact nI_add (3 * k) 2
  refine ⟨by rw [e3]; exact vp_in_nI (by omega) (by omega), nm_r (e' := pa (3 * k)) (by rw [e3, nI_clamp (by omega)]) ⟨by rw [e4]; exact vp_in_nI (by omega) (by omega), nm_r (e' := pa (3 * k + 1)) (by rw [e4, nI_clamp (by omega)]) ⟨by rw [e5]; exact vp_in_nI (by omega) (by omega), nm_r (e' := pa (3 * k + 2)) (by rw [e5, nI_clamp (by omega)]) ?_⟩⟩⟩
  refine pk_eq (t k) 19 (fun e => ?_) (fun f1 => pk_eq (t k) 20 (fun e => ?_) (fun f2 => pk_eq (t k) 21 (fun e => ?_) (fun f3 => ?_)))
  · have w : dd_wn (t k) = 1 := by rw [e]; rfl
    rw [w] at k1 k2
    obtain ⟨a1, a2, a3⟩ := k1 0 (by omega)
    refine ⟨v, v, dx_lead (dd_st t n k 0) (dd_F t n k) (dd_T t n k) 22 a1 (by rw [c, k4]) (by rw [c, k3]) rfl (by omega) (by omega) (by omega) (by omega) (H _ _ _ (dd_XL1 hn hk w X ?_))⟩
    rw [e]; rfl
  · have w : dd_wn (t k) = 2 := by rw [e]; rfl
    rw [w] at k1 k2
    obtain ⟨a1, a2, a3⟩ := k1 0 (by omega)
    obtain ⟨b1, b2, b3⟩ := k1 1 (by omega)
    refine ⟨v, dx_lead (dd_st t n k 0) (dd_st t n k 1) (dd_F t n k) 22 a1 b1 (by rw [c, k4]) rfl (by omega) (by omega) (by omega) (by omega) ?_⟩
    refine dx_lc138 h22 hk b1 (by omega) k6 k7 (by rw [pk_un (by omega), k3]) (by rw [pk_un (by omega), k4]) (H _ _ _ (dd_XL2 hn hk w X ?_ ?_))
    · rw [e]; rfl
    · rw [e]; rfl
  · have w : dd_wn (t k) = 2 := by rw [e]; rfl
    rw [w] at k1 k2
    obtain ⟨a1, a2, a3⟩ := k1 0 (by omega)
    obtain ⟨b1, b2, b3⟩ := k1 1 (by omega)
    refine ⟨v, dx_lead (dd_st t n k 0) (dd_T t n k) (dd_st t n k 1) 22 a1 (by rw [c, k3]) b1 rfl (by omega) (by omega) (by omega) (by omega) ?_⟩
    refine dx_lc138 h22 hk b1 (by omega) k6 k7 (by rw [pk_un (by omega), k3]) (by rw [pk_un (by omega), k4]) (H _ _ _ (dd_XL2 hn hk w X ?_ ?_))
    · rw [e]; rfl
    · rw [e]; rfl
  · have e : t k = 22 := by omega
    have w : dd_wn (t k) = 3 := by rw [e]; rfl
    rw [w] at k1 k2
    obtain ⟨a1, a2, a3⟩ := k1 0 (by omega)
    obtain ⟨b1, b2, b3⟩ := k1 1 (by omega)
    obtain ⟨d1, d2, d3⟩ := k1 2 (by omega)
    refine dx_lead (dd_st t n k 0) (dd_st t n k 1) (dd_st t n k 2) 22 a1 b1 d1 rfl (by omega) (by omega) (by omega) (by omega) ?_
    refine ⟨v, v, dx_lead (dd_st t n k 2) (dd_T t n k) (dd_F t n k) 22 d1 (by rw [c, pk_un (by omega), k3]) (by rw [c, pk_un (by omega), k4]) rfl (by omega) (by omega) (by omega) (by omega) ?_⟩
    refine dx_lc138 h22 hk b1 (by omega) k6 k7 (by rw [pk_un (by omega), pk_un (by omega), k3]) (by rw [pk_un (by omega), pk_un (by omega), k4]) (H _ _ _ (dd_XL3b hn hk w X ?_ ?_ ?_))
    · rw [e]; rfl
    · rw [e]; rfl
    · rw [e]; rfl
theorem dx_link13 {post : SX → Prop} {t : Nat → Nat} {n : Nat} (ht : ∀ j, t j < 32) (h22 : n ≤ 22) (W : dd_WF t n) (hn : dd_ob t n = []) (P : dd_PT t pa n)
    (H : ∀ wt wf bk, dd_XF t n wt wf bk → post (nI n, oc, li, wa, sr, vr, fr, dd_tk t, ot, oh, pa, wt, wf, bk, me, al, so)) : ∀ (N k : Nat) (wt wf bk : Nat → Int32), n < N + k → k ≤ n → dd_XL t n k wt wf bk → wX_link_13 post N (nI k) (nI n) oc li wa sr vr fr (dd_tk t) ot oh pa wt wf bk me al so := by
  intro N
  induction N with
  | zero => intro k wt wf bk h1 h2; omega
  | succ N ih =>
    intro k wt wf bk h1 h2 X
    rw [wX_link_13]
    by_cases hk : k = n
    · subst hk
      exact br_t (nI_le (Nat.le_refl _) (by omega)) (H wt wf bk (dd_XL_n W X))
    · have hk : k < n := by omega
      have K := dd_K_of W hn h22 hk P X
      have KK := K
      have htk := ht k
      obtain ⟨k1, k2, ⟨k3, k4, k5⟩, k6, k7, k8⟩ := KK
      have v : vp_in (nI k) 22 := vp_in_nI (by omega) (by omega)
      have c : (nI k).toNatClampNeg = k := nI_clamp (by omega)
      have e3 : nI k * 3 = nI (3 * k) := by
        show nI k * nI 3 = _
        rw [pk_mul, Nat.mul_comm]
      have e4 : nI k * 3 + 1 = nI (3 * k + 1) := by rw [e3, nI_1]
      have e5 : nI k * 3 + 2 = nI (3 * k + 2) := by rw [e3]; exact nI_add (3 * k) 2
      have I : ∀ wt' wf' bk', dd_XL t n (k + 1) wt' wf' bk' → wX_link_13 post N (nI (k + 1)) (nI n) oc li wa sr vr fr (dd_tk t) ot oh pa wt' wf' bk' me al so := fun wt' wf' bk' X' => ih (k + 1) wt' wf' bk' (by omega) (by omega) X'
      refine br_f (nI_ge hk (by omega)) ⟨by rw [e3]; exact vp_in_nI (by omega) (by omega), nm_r (e' := pa (3 * k)) (by rw [e3, nI_clamp (by omega)]) ⟨by rw [e4]; exact vp_in_nI (by omega) (by omega), nm_r (e' := pa (3 * k + 1)) (by rw [e4, nI_clamp (by omega)]) ⟨by rw [e5]; exact vp_in_nI (by omega) (by omega), nm_r (e' := pa (3 * k + 2)) (by rw [e5, nI_clamp (by omega)]) ⟨v, nm_r (e' := nI (t k)) (dd_tk_c (by omega)) ⟨v, nm_r (e' := nI (dd_B t n k)) (by rw [c, k5]) ?_⟩⟩⟩⟩⟩
      refine pk_eq (t k) 4 (fun e => ?_) (fun f1 => pk_eq (t k) 5 (fun e => ?_) (fun f2 => pk_eq (t k) 6 (fun e => ?_) (fun f3 => pk_lt (t k) 19 (fun e => nm_r (nI_1 k) (I _ _ _ (dd_XLz hn hk ?_ X))) (fun f4 => pk_lt 22 (t k) (fun e => nm_r (nI_1 k) (I _ _ _ (dd_XLz hn hk ?_ X))) (fun f5 => ?_)))))
      · have w : dd_wn (t k) = 2 := by rw [e]; rfl
        rw [w] at k1 k2
        obtain ⟨a1, a2, a3⟩ := k1 0 (by omega)
        obtain ⟨b1, b2, b3⟩ := k1 1 (by omega)
        refine dx_lead (dd_st t n k 0) (dd_st t n k 1) (dd_st t n k 1) (dd_B t n k) a1 b1 b1 rfl (by omega) (by omega) (by omega) (by omega) ?_
        refine ⟨v, v, dx_lead (dd_st t n k 1) (dd_T t n k) (dd_T t n k) (dd_B t n k) b1 (by rw [c, pk_un (by omega), k3]) (by rw [c, pk_un (by omega), k3]) rfl (by omega) (by omega) (by omega) (by omega) (nm_r (nI_1 k) (I _ _ _ (dd_XL2 hn hk w X ?_ ?_)))⟩
        · rw [e]; rfl
        · rw [e]; rfl
      · have w : dd_wn (t k) = 3 := by rw [e]; rfl
        rw [w] at k1 k2
        obtain ⟨a1, a2, a3⟩ := k1 0 (by omega)
        obtain ⟨b1, b2, b3⟩ := k1 1 (by omega)
        obtain ⟨d1, d2, d3⟩ := k1 2 (by omega)
        refine dx_lead (dd_st t n k 0) (dd_st t n k 1) (dd_st t n k 2) (dd_B t n k) a1 b1 d1 rfl (by omega) (by omega) (by omega) (by omega) ?_
        refine ⟨v, v, dx_lead (dd_st t n k 1) (dd_T t n k) (dd_T t n k) (dd_B t n k) b1 (by rw [c, pk_un (by omega), k3]) (by rw [c, pk_un (by omega), k3]) rfl (by omega) (by omega) (by omega) (by omega) ?_⟩
        refine ⟨v, v, dx_lead (dd_st t n k 2) (dd_T t n k) (dd_T t n k) (dd_B t n k) d1 (by rw [c, pk_un (by omega), pk_un (by omega), k3]) (by rw [c, pk_un (by omega), pk_un (by omega), k3]) rfl (by omega) (by omega) (by omega) (by omega) (nm_r (nI_1 k) (I _ _ _ (dd_XL3 hn hk w X ?_ ?_ ?_)))⟩
        · rw [e]; rfl
        · rw [e]; rfl
        · rw [e]; rfl
      · have w : dd_wn (t k) = 2 := by rw [e]; rfl
        rw [w] at k1 k2
        obtain ⟨a1, a2, a3⟩ := k1 0 (by omega)
        obtain ⟨b1, b2, b3⟩ := k1 1 (by omega)
        refine ⟨v, dx_lead (dd_st t n k 0) (dd_st t n k 1) (dd_T t n k) (dd_B t n k) a1 b1 (by rw [c, k3]) rfl (by omega) (by omega) (by omega) (by omega) ?_⟩
        refine ⟨v, dx_lead (dd_st t n k 1) k k (dd_T t n k) b1 rfl rfl (by rw [c, pk_un (by omega), k3]) (by omega) (by omega) (by omega) (by omega) (nm_r (nI_1 k) (I _ _ _ (dd_XL2 hn hk w X ?_ ?_)))⟩
        · rw [e]; rfl
        · rw [e]; rfl
      · rcases Nat.eq_zero_or_pos (dd_wn (t k)) with z | z
        · exact z
        · have := dd_wn_pos z; omega
      · rcases Nat.eq_zero_or_pos (dd_wn (t k)) with z | z
        · exact z
        · have := dd_wn_pos z; omega
      · exact dx_linkC hn h22 hk htk f4 f5 K X (fun wt' wf' bk' X' => nm_r (nI_1 k) (I _ _ _ X'))
theorem dx_link {post : SX → Prop} {t : Nat → Nat} {n : Nat} (ht : ∀ j, t j < 32) (h22 : n ≤ 22) (W : dd_WF t n) (hn : dd_ob t n = []) (P : dd_PT t pa n)
    (H : ∀ wt wf bk, dd_XF t n wt wf bk → post (nI n, oc, li, wa, sr, vr, fr, dd_tk t, ot, oh, pa, wt, wf, bk, me, al, so)) : wpX_link post (nI n, oc, li, wa, sr, vr, fr, dd_tk t, ot, oh, pa, wt, wf, bk, me, al, so) := by
  unfold wpX_link
  dsimp only
  refine dx_lead 0 22 22 22 rfl rfl rfl rfl (by omega) (by omega) (by omega) (by omega) ?_
  exact ⟨n + 1, dx_link13 ht h22 W hn P H (n + 1) 0 (upd wt 0 (nI 22)) (upd wf 0 (nI 22)) (upd bk 0 (nI 22)) (by omega) (by omega) (dd_XL_0 ⟨pk_us, pk_us, pk_us⟩)⟩
end
end
section
/-! ===== the reference links its tokens ===== -/
def dd_YL (t : Nat → Nat) (n k : Nat) (nx ye no ou : Nat → Int32) : Prop := ∀ j x R, j < n → dd_ob t j = x :: R → x.1 ≤ k → (dd_kd t x = 1 → nx j = nI (dd_T t n j) ∧ ou j = nI (dd_B t n j)) ∧ (dd_kd t x = 2 → ye j = nI (dd_T t n j) ∧ no j = nI (dd_F t n j))
def dd_YF (t : Nat → Nat) (n : Nat) (nx ye no ou : Nat → Int32) : Prop := ∀ j, j < n → (t j < 16 → nx j = nI (dd_T t n j) ∧ ou j = nI (dd_B t n j)) ∧ (16 ≤ t j → ye j = nI (dd_T t n j) ∧ no j = nI (dd_F t n j))
theorem dd_YL_s {t : Nat → Nat} {n k : Nat} {nx ye no ou nx' ye' no' ou' : Nat → Int32} (hn : dd_ob t n = []) (hk : k < n) (X : dd_YL t n k nx ye no ou)
    (h1 : ∀ j, (∀ i, i < dd_wn (t k) → j ≠ dd_st t n k i) → nx' j = nx j ∧ ye' j = ye j ∧ no' j = no j ∧ ou' j = ou j)
    (h2 : ∀ i, i < dd_wn (t k) → (dd_pk (t k) i = 1 → nx' (dd_st t n k i) = nI (dd_ru (t k) i k (dd_st t n k 1) (dd_st t n k 2) (dd_lk t n k)).1 ∧ ou' (dd_st t n k i) = nI (dd_ru (t k) i k (dd_st t n k 1) (dd_st t n k 2) (dd_lk t n k)).2.2) ∧ (dd_pk (t k) i = 2 → ye' (dd_st t n k i) = nI (dd_ru (t k) i k (dd_st t n k 1) (dd_st t n k 2) (dd_lk t n k)).1 ∧ no' (dd_st t n k i) = nI (dd_ru (t k) i k (dd_st t n k 1) (dd_st t n k 2) (dd_lk t n k)).2.1)) : dd_YL t n (k + 1) nx' ye' no' ou' := by
  intro j x R hj e hx
  by_cases hx2 : x.1 ≤ k
  · have hne : ∀ i, i < dd_wn (t k) → j ≠ dd_st t n k i := by
      intro i hi ej
      obtain ⟨_, _, R', e'⟩ := dd_child hn hk hi
      rw [← ej, e] at e'
      cases e'
      simp only at hx2
      omega
    obtain ⟨a, b, c, d⟩ := h1 j hne
    rw [a, b, c, d]
    exact X j x R hj e hx2
  · obtain ⟨q, i⟩ := x
    have eq : q = k + 1 := by simp only at hx hx2; omega
    subst eq
    have hi := (dd_hd e).2
    have es : dd_st t n k i = j := dd_fs_eq e n hj
    have h2 := h2 i hi
    rw [es] at h2
    unfold dd_T dd_F dd_B
    rw [dd_lk_s e]
    exact h2
theorem dd_YL_0 {t : Nat → Nat} {n : Nat} {nx ye no ou : Nat → Int32} (h : nx 0 = nI 22 ∧ ou 0 = nI 22) : dd_YL t n 0 nx ye no ou := by
  intro j x R hj e hx
  obtain ⟨q, i⟩ := x
  have eq : q = 0 := by simp only at hx; omega
  subst eq
  unfold dd_T dd_F dd_B
  rw [dd_lk_0 e]
  have ei : i = 0 := by
    rcases dd_ob_mem j (0, i) (by rw [e]; exact List.mem_cons_self) with g | ⟨p, i', g, _, _⟩
    · cases g; rfl
    · cases g
  subst ei
  have ej : j = 0 := dd_ob_inj (t := t) (k := 0) (S := []) e rfl
  subst ej
  exact ⟨fun _ => h, fun z => by cases z⟩
theorem dd_YL_k {t : Nat → Nat} {n k : Nat} {nx ye no ou : Nat → Int32} (W : dd_WF t n) (hk : k < n) (X : dd_YL t n k nx ye no ou) : (t k < 16 → nx k = nI (dd_T t n k) ∧ ou k = nI (dd_B t n k)) ∧ (16 ≤ t k → ye k = nI (dd_T t n k) ∧ no k = nI (dd_F t n k)) := by
  obtain ⟨x, R, e, -⟩ := W k hk
  have h := X k x R hk e (dd_ob_le (by rw [e]; exact List.mem_cons_self))
  rcases dd_kind W hk e with g | g
  · exact ⟨fun _ => h.1 g.1, fun z => by have := g.2; omega⟩
  · exact ⟨fun z => by have := g.2; omega, fun _ => h.2 g.1⟩
theorem dd_YL_n {t : Nat → Nat} {n : Nat} {nx ye no ou : Nat → Int32} (W : dd_WF t n) (X : dd_YL t n n nx ye no ou) : dd_YF t n nx ye no ou := by
  intro j hj
  obtain ⟨x, R, e, -⟩ := W j hj
  have := dd_ob_le (t := t) (k := j) (x := x) (by rw [e]; exact List.mem_cons_self)
  have h := X j x R hj e (by omega)
  rcases dd_kind W hj e with g | g
  · exact ⟨fun _ => h.1 g.1, fun z => by have := g.2; omega⟩
  · exact ⟨fun z => by have := g.2; omega, fun _ => h.2 g.1⟩
section
variable {sz rs rv rf : Int32} {T nx ye no ou co pl : Nat → Int32}
theorem dd_YL4 {t : Nat → Nat} {n k : Nat} (hn : dd_ob t n = []) (hk : k < n) (e : t k = 4) (X : dd_YL t n k nx ye no ou) : dd_YL t n (k + 1) (upd (upd nx (dd_st t n k 0) (nI (dd_st t n k 1))) (dd_st t n k 1) (nI (dd_T t n k))) ye no (upd (upd ou (dd_st t n k 0) (nI (dd_B t n k))) (dd_st t n k 1) (nI (dd_B t n k))) := by
  have w : dd_wn (t k) = 2 := by rw [e]; rfl
  have D : ∀ i i', i < dd_wn (t k) → i' < dd_wn (t k) → i ≠ i' → dd_st t n k i ≠ dd_st t n k i' := fun i i' hi hi' h => dd_st_ne hn hk hi hi' h
  refine dd_YL_s hn hk X (fun j hj => ?_) (fun i hi => ?_)
  · rw [w] at hj
    have j0 := hj 0 (by omega)
    have j1 := hj 1 (by omega)
    exact ⟨by rw [pk_un j1, pk_un j0], rfl, rfl, by rw [pk_un j1, pk_un j0]⟩
  · rw [w] at hi D
    rw [e]
    match i, hi with
    | 0, _ => exact ⟨fun _ => ⟨by rw [pk_un (D 0 1 (by omega) (by omega) (by omega)), pk_us]; rfl, by rw [pk_un (D 0 1 (by omega) (by omega) (by omega)), pk_us]; rfl⟩, fun z => absurd z (by decide)⟩
    | 1, _ => exact ⟨fun _ => ⟨by rw [pk_us]; rfl, by rw [pk_us]; rfl⟩, fun z => absurd z (by decide)⟩
theorem dd_YL5 {t : Nat → Nat} {n k : Nat} (hn : dd_ob t n = []) (hk : k < n) (e : t k = 5) (X : dd_YL t n k nx ye no ou) : dd_YL t n (k + 1) (upd (upd nx (dd_st t n k 1) (nI (dd_T t n k))) (dd_st t n k 2) (nI (dd_T t n k))) (upd ye (dd_st t n k 0) (nI (dd_st t n k 1))) (upd no (dd_st t n k 0) (nI (dd_st t n k 2))) (upd (upd ou (dd_st t n k 1) (nI (dd_B t n k))) (dd_st t n k 2) (nI (dd_B t n k))) := by
  have w : dd_wn (t k) = 3 := by rw [e]; rfl
  have D : ∀ i i', i < dd_wn (t k) → i' < dd_wn (t k) → i ≠ i' → dd_st t n k i ≠ dd_st t n k i' := fun i i' hi hi' h => dd_st_ne hn hk hi hi' h
  refine dd_YL_s hn hk X (fun j hj => ?_) (fun i hi => ?_)
  · rw [w] at hj
    have j0 := hj 0 (by omega)
    have j1 := hj 1 (by omega)
    have j2 := hj 2 (by omega)
    exact ⟨by rw [pk_un j2, pk_un j1], by rw [pk_un j0], by rw [pk_un j0], by rw [pk_un j2, pk_un j1]⟩
  · rw [w] at hi D
    rw [e]
    match i, hi with
    | 0, _ => exact ⟨fun z => absurd z (by decide), fun _ => ⟨by rw [pk_us]; rfl, by rw [pk_us]; rfl⟩⟩
    | 1, _ => exact ⟨fun _ => ⟨by rw [pk_un (D 1 2 (by omega) (by omega) (by omega)), pk_us]; rfl, by rw [pk_un (D 1 2 (by omega) (by omega) (by omega)), pk_us]; rfl⟩, fun z => absurd z (by decide)⟩
    | 2, _ => exact ⟨fun _ => ⟨by rw [pk_us]; rfl, by rw [pk_us]; rfl⟩, fun z => absurd z (by decide)⟩
theorem dd_YL6 {t : Nat → Nat} {n k : Nat} (hn : dd_ob t n = []) (hk : k < n) (e : t k = 6) (X : dd_YL t n k nx ye no ou) : dd_YL t n (k + 1) (upd nx (dd_st t n k 1) (nI k)) (upd ye (dd_st t n k 0) (nI (dd_st t n k 1))) (upd no (dd_st t n k 0) (nI (dd_T t n k))) (upd ou (dd_st t n k 1) (nI (dd_T t n k))) := by
  have w : dd_wn (t k) = 2 := by rw [e]; rfl
  have D : ∀ i i', i < dd_wn (t k) → i' < dd_wn (t k) → i ≠ i' → dd_st t n k i ≠ dd_st t n k i' := fun i i' hi hi' h => dd_st_ne hn hk hi hi' h
  refine dd_YL_s hn hk X (fun j hj => ?_) (fun i hi => ?_)
  · rw [w] at hj
    have j0 := hj 0 (by omega)
    have j1 := hj 1 (by omega)
    exact ⟨by rw [pk_un j1], by rw [pk_un j0], by rw [pk_un j0], by rw [pk_un j1]⟩
  · rw [w] at hi D
    rw [e]
    match i, hi with
    | 0, _ => exact ⟨fun z => absurd z (by decide), fun _ => ⟨by rw [pk_us]; rfl, by rw [pk_us]; rfl⟩⟩
    | 1, _ => exact ⟨fun _ => ⟨by rw [pk_us]; rfl, by rw [pk_us]; rfl⟩, fun z => absurd z (by decide)⟩
theorem dd_YL19 {t : Nat → Nat} {n k : Nat} (hn : dd_ob t n = []) (hk : k < n) (e : t k = 19) (X : dd_YL t n k nx ye no ou) : dd_YL t n (k + 1) nx (upd ye (dd_st t n k 0) (nI (dd_F t n k))) (upd no (dd_st t n k 0) (nI (dd_T t n k))) ou := by
  have w : dd_wn (t k) = 1 := by rw [e]; rfl
  have D : ∀ i i', i < dd_wn (t k) → i' < dd_wn (t k) → i ≠ i' → dd_st t n k i ≠ dd_st t n k i' := fun i i' hi hi' h => dd_st_ne hn hk hi hi' h
  refine dd_YL_s hn hk X (fun j hj => ?_) (fun i hi => ?_)
  · rw [w] at hj
    have j0 := hj 0 (by omega)
    exact ⟨rfl, by rw [pk_un j0], by rw [pk_un j0], rfl⟩
  · rw [w] at hi D
    rw [e]
    match i, hi with
    | 0, _ => exact ⟨fun z => absurd z (by decide), fun _ => ⟨by rw [pk_us]; rfl, by rw [pk_us]; rfl⟩⟩
theorem dd_YL20 {t : Nat → Nat} {n k : Nat} (hn : dd_ob t n = []) (hk : k < n) (e : t k = 20) (X : dd_YL t n k nx ye no ou) : dd_YL t n (k + 1) nx (upd (upd ye (dd_st t n k 0) (nI (dd_st t n k 1))) (dd_st t n k 1) (nI (dd_T t n k))) (upd (upd no (dd_st t n k 0) (nI (dd_F t n k))) (dd_st t n k 1) (nI (dd_F t n k))) ou := by
  have w : dd_wn (t k) = 2 := by rw [e]; rfl
  have D : ∀ i i', i < dd_wn (t k) → i' < dd_wn (t k) → i ≠ i' → dd_st t n k i ≠ dd_st t n k i' := fun i i' hi hi' h => dd_st_ne hn hk hi hi' h
  refine dd_YL_s hn hk X (fun j hj => ?_) (fun i hi => ?_)
  · rw [w] at hj
    have j0 := hj 0 (by omega)
    have j1 := hj 1 (by omega)
    exact ⟨rfl, by rw [pk_un j1, pk_un j0], by rw [pk_un j1, pk_un j0], rfl⟩
  · rw [w] at hi D
    rw [e]
    match i, hi with
    | 0, _ => exact ⟨fun z => absurd z (by decide), fun _ => ⟨by rw [pk_un (D 0 1 (by omega) (by omega) (by omega)), pk_us]; rfl, by rw [pk_un (D 0 1 (by omega) (by omega) (by omega)), pk_us]; rfl⟩⟩
    | 1, _ => exact ⟨fun z => absurd z (by decide), fun _ => ⟨by rw [pk_us]; rfl, by rw [pk_us]; rfl⟩⟩
theorem dd_YL21 {t : Nat → Nat} {n k : Nat} (hn : dd_ob t n = []) (hk : k < n) (e : t k = 21) (X : dd_YL t n k nx ye no ou) : dd_YL t n (k + 1) nx (upd (upd ye (dd_st t n k 0) (nI (dd_T t n k))) (dd_st t n k 1) (nI (dd_T t n k))) (upd (upd no (dd_st t n k 0) (nI (dd_st t n k 1))) (dd_st t n k 1) (nI (dd_F t n k))) ou := by
  have w : dd_wn (t k) = 2 := by rw [e]; rfl
  have D : ∀ i i', i < dd_wn (t k) → i' < dd_wn (t k) → i ≠ i' → dd_st t n k i ≠ dd_st t n k i' := fun i i' hi hi' h => dd_st_ne hn hk hi hi' h
  refine dd_YL_s hn hk X (fun j hj => ?_) (fun i hi => ?_)
  · rw [w] at hj
    have j0 := hj 0 (by omega)
    have j1 := hj 1 (by omega)
    exact ⟨rfl, by rw [pk_un j1, pk_un j0], by rw [pk_un j1, pk_un j0], rfl⟩
  · rw [w] at hi D
    rw [e]
    match i, hi with
    | 0, _ => exact ⟨fun z => absurd z (by decide), fun _ => ⟨by rw [pk_un (D 0 1 (by omega) (by omega) (by omega)), pk_us]; rfl, by rw [pk_un (D 0 1 (by omega) (by omega) (by omega)), pk_us]; rfl⟩⟩
    | 1, _ => exact ⟨fun z => absurd z (by decide), fun _ => ⟨by rw [pk_us]; rfl, by rw [pk_us]; rfl⟩⟩
theorem dd_YL22 {t : Nat → Nat} {n k : Nat} (hn : dd_ob t n = []) (hk : k < n) (e : t k = 22) (X : dd_YL t n k nx ye no ou) : dd_YL t n (k + 1) nx (upd (upd (upd ye (dd_st t n k 0) (nI (dd_st t n k 1))) (dd_st t n k 1) (nI (dd_T t n k))) (dd_st t n k 2) (nI (dd_T t n k))) (upd (upd (upd no (dd_st t n k 0) (nI (dd_st t n k 2))) (dd_st t n k 1) (nI (dd_F t n k))) (dd_st t n k 2) (nI (dd_F t n k))) ou := by
  have w : dd_wn (t k) = 3 := by rw [e]; rfl
  have D : ∀ i i', i < dd_wn (t k) → i' < dd_wn (t k) → i ≠ i' → dd_st t n k i ≠ dd_st t n k i' := fun i i' hi hi' h => dd_st_ne hn hk hi hi' h
  refine dd_YL_s hn hk X (fun j hj => ?_) (fun i hi => ?_)
  · rw [w] at hj
    have j0 := hj 0 (by omega)
    have j1 := hj 1 (by omega)
    have j2 := hj 2 (by omega)
    exact ⟨rfl, by rw [pk_un j2, pk_un j1, pk_un j0], by rw [pk_un j2, pk_un j1, pk_un j0], rfl⟩
  · rw [w] at hi D
    rw [e]
    match i, hi with
    | 0, _ => exact ⟨fun z => absurd z (by decide), fun _ => ⟨by rw [pk_un (D 0 2 (by omega) (by omega) (by omega)), pk_un (D 0 1 (by omega) (by omega) (by omega)), pk_us]; rfl, by rw [pk_un (D 0 2 (by omega) (by omega) (by omega)), pk_un (D 0 1 (by omega) (by omega) (by omega)), pk_us]; rfl⟩⟩
    | 1, _ => exact ⟨fun z => absurd z (by decide), fun _ => ⟨by rw [pk_un (D 1 2 (by omega) (by omega) (by omega)), pk_us]; rfl, by rw [pk_un (D 1 2 (by omega) (by omega) (by omega)), pk_us]; rfl⟩⟩
    | 2, _ => exact ⟨fun z => absurd z (by decide), fun _ => ⟨by rw [pk_us]; rfl, by rw [pk_us]; rfl⟩⟩
theorem dd_YLz {t : Nat → Nat} {n k : Nat} (hn : dd_ob t n = []) (hk : k < n) (w : dd_wn (t k) = 0) (X : dd_YL t n k nx ye no ou) : dd_YL t n (k + 1) nx ye no ou :=
  dd_YL_s hn hk X (fun j hj => ⟨rfl, rfl, rfl, rfl⟩) (fun i hi => absurd hi (by omega))
theorem dy_beh37 {post : Int32 → Prop} {p : Nat} (hp : p ≤ 22) (h : post (nI (if 22 ≤ p then 21 else p))) : wY_behind_37 post (nI p) sz rs rv rf T nx ye no ou co pl := by
  refine pk_le 22 p (fun e => ?_) (fun e => ?_)
  · rw [if_pos e] at h; exact h
  · rw [if_neg (by omega)] at h; exact h
theorem dy_beh4 {post : Int32 → Prop} {t : Nat → Nat} {n : Nat} {G : Prop} {R : List (Nat × Nat)} (ht : ∀ j, t j < 32) (h22 : n ≤ 22) (hn : dd_ob t n = [])
    (H : ∀ p, p ≤ 22 → (G → p ≤ n ∧ dd_ob t p = R) → post (nI (if 22 ≤ p then 21 else p))) :
    ∀ N o p, 0 < N → n < N + p → p ≤ 22 → o ≤ 1 + 3 * p → (G → p ≤ n ∧ ∃ S, S.length = o ∧ dd_ob t p = S ++ R) → wY_behind_4 post (nI n) rs rv rf (dd_tk t) nx ye no ou co pl N (nI o) (nI p) := by
  intro N
  induction N with
  | zero => intro o p h0; omega
  | succ N ih =>
    intro o p h0 h1 hp ho hG
    have hw := dd_wn_le (t p)
    rw [wY_behind_4]
    refine pk_le o 0 (fun e => dy_beh37 hp (H p hp (fun g => ?_))) (fun e => pk_le n p (fun e2 => dy_beh37 hp (H p hp (fun g => ?_))) (fun e2 => ?_))
    · obtain ⟨g1, S, g2, g3⟩ := hG g
      have : S = [] := List.eq_nil_of_length_eq_zero (by omega)
      rw [this] at g3
      exact ⟨g1, g3⟩
    · obtain ⟨g1, S, g2, g3⟩ := hG g
      have ep : p = n := by omega
      rw [ep, hn] at g3
      have h2 := List.append_eq_nil_iff.mp g3.symm
      exact ⟨g1, by rw [ep, hn, h2.2]⟩
    · refine ⟨vp_in_nI (by omega) (by omega), dy_parts (t p) (dd_tk_c (by omega)) (ht p) (nm_r (e' := nI (o - 1 + dd_wn (t p))) ?_ (nm_r (nI_1 p) (ih _ (p + 1) (by omega) (by omega) (by omega) (by omega) (fun g => ?_))))⟩
      · have : nI o - 1 = nI (o - 1) := pk_sub (b := 1) (by omega)
        rw [this, nI_add]
      · obtain ⟨g1, S, g2, g3⟩ := hG g
        match S, g2, g3 with
        | [], g2, _ => simp at g2; omega
        | x :: S, g2, g3 =>
          rw [List.length_cons] at g2
          exact ⟨by omega, dd_sg (p + 1) (dd_wn (t p)) 0 ++ S, by rw [List.length_append, dd_sg_len]; omega, dd_ob_st g3⟩
theorem dy_behind {post : Int32 → Prop} {t : Nat → Nat} {n b : Nat} {x : Int32} (ht : ∀ j, t j < 32) (h22 : n ≤ 22) (hn : dd_ob t n = []) (hx : x = nI b) (hb : b ≤ 22)
    (H : ∀ p, p ≤ 22 → ((b ≤ n ∧ dd_ob t b ≠ []) → p ≤ n ∧ dd_ob t p = (dd_ob t b).tail) → post (nI (if 22 ≤ p then 21 else p))) : wpY_behind post (nI n, rs, rv, rf, dd_tk t, nx, ye, no, ou, co, pl) x := by
  subst hx
  refine Exists.intro (n + 1) (dy_beh4 (G := b ≤ n ∧ dd_ob t b ≠ []) (R := (dd_ob t b).tail) ht h22 hn H (n + 1) 1 b (by omega) (by omega) hb (by omega) (fun g => ⟨g.1, ?_⟩))
  match hL : dd_ob t b with
  | [] => exact absurd hL g.2
  | x :: R => exact ⟨[x], rfl, rfl⟩
theorem dy_beh2 {post : Int32 → Int32 → Prop} {t : Nat → Nat} {n k : Nat} {x : Int32} (ht : ∀ j, t j < 32) (h22 : n ≤ 22) (hn : dd_ob t n = []) (hk : k < n) (hw : 0 < dd_wn (t k)) (hx : x = nI (k + 1))
    (H : ∀ b c, b < 22 → c < 22 → (2 ≤ dd_wn (t k) → b = dd_st t n k 1) → (3 ≤ dd_wn (t k) → c = dd_st t n k 2) → post (nI b) (nI c)) : wpY_behind (fun r => wpY_behind (fun r' => post r r') (nI n, rs, rv, rf, dd_tk t, nx, ye, no, ou, co, pl) r) (nI n, rs, rv, rf, dd_tk t, nx, ye, no, ou, co, pl) x := by
  have eo : dd_ob t (k + 1) = (k + 1, 0) :: (dd_sg (k + 1) (dd_wn (t k) - 1) 1 ++ (dd_ob t k).tail) := by
    rw [dd_ob, dd_sg_pos hw]
    rfl
  refine dy_behind ht h22 hn hx (by omega) (fun p hp hP => ?_)
  have hP := hP ⟨by omega, by rw [eo]; intro z; cases z⟩
  rw [eo, List.tail_cons] at hP
  have E1 : 2 ≤ dd_wn (t k) → p < n ∧ dd_ob t p = (k + 1, 1) :: (dd_sg (k + 1) (dd_wn (t k) - 2) 2 ++ (dd_ob t k).tail) := by
    intro h2
    have h := hP.2
    rw [dd_sg_pos (by omega)] at h
    refine ⟨?_, h⟩
    rcases Nat.lt_or_ge p n with l | l
    · exact l
    · have ep : p = n := by omega
      rw [ep, hn] at h
      cases h
  have eb : 2 ≤ dd_wn (t k) → (if 22 ≤ p then 21 else p) = p := fun h2 => if_neg (by have := (E1 h2).1; omega)
  have hb : (if 22 ≤ p then 21 else p) < 22 := by split <;> omega
  refine dy_behind ht h22 hn rfl (by omega) (fun q hq hQ => ?_)
  have hc : (if 22 ≤ q then 21 else q) < 22 := by split <;> omega
  refine H _ _ hb hc (fun h2 => ?_) (fun h3 => ?_)
  · rw [eb h2]
    exact (dd_fs_eq (E1 h2).2 n (E1 h2).1).symm
  · obtain ⟨f1, f2⟩ := E1 (by omega)
    rw [eb (by omega)] at hQ
    have hQ := hQ ⟨by omega, by rw [f2]; intro z; cases z⟩
    rw [f2, List.tail_cons, dd_sg_pos (by omega), List.cons_append] at hQ
    have ql : q < n := by
      rcases Nat.lt_or_ge q n with l | l
      · exact l
      · have ep : q = n := by omega
        rw [ep, hn] at hQ
        cases hQ.2
    rw [if_neg (by omega)]
    exact (dd_fs_eq hQ.2 n ql).symm
theorem dy_follow {post : SY → Prop} {p0 p1 p2 : Int32} (a x y : Nat) (e0 : p0 = nI a) (e1 : p1 = nI x) (e2 : p2 = nI y) (ha : a < 23) (h : post (sz, rs, rv, rf, T, upd nx a (nI x), ye, no, upd ou a (nI y), co, pl)) : wpY_follow post (sz, rs, rv, rf, T, nx, ye, no, ou, co, pl) p0 p1 p2 := by
  subst e0 e1 e2
  have v : vp_in (nI a) 23 := vp_in_nI ha (by omega)
  have c : (nI a).toNatClampNeg = a := nI_clamp (by omega)
  exact ⟨v, nm_r (e' := upd nx a (nI x)) (by rw [c]) ⟨v, nm_r (e' := upd ou a (nI y)) (by rw [c]) h⟩⟩
theorem dy_branch {post : SY → Prop} {p0 p1 p2 : Int32} (a x y : Nat) (e0 : p0 = nI a) (e1 : p1 = nI x) (e2 : p2 = nI y) (ha : a < 23) (h : post (sz, rs, rv, rf, T, nx, upd ye a (nI x), upd no a (nI y), ou, co, pl)) : wpY_branch post (sz, rs, rv, rf, T, nx, ye, no, ou, co, pl) p0 p1 p2 := by
  subst e0 e1 e2
  have v : vp_in (nI a) 23 := vp_in_nI ha (by omega)
  have c : (nI a).toNatClampNeg = a := nI_clamp (by omega)
  exact ⟨v, nm_r (e' := upd ye a (nI x)) (by rw [c]) ⟨v, nm_r (e' := upd no a (nI y)) (by rw [c]) h⟩⟩
theorem dy_link {post : SY → Prop} {t : Nat → Nat} {n k : Nat} (ht : ∀ j, t j < 32) (h22 : n ≤ 22) (W : dd_WF t n) (hn : dd_ob t n = []) (hk : k < n) (hw : 0 < dd_wn (t k)) (X : dd_YL t n k nx ye no ou)
    (H : ∀ nx' ye' no' ou', dd_YL t n (k + 1) nx' ye' no' ou' → post (nI n, rs, rv, rf, dd_tk t, nx', ye', no', ou', co, pl)) : wpY_link post (nI n, rs, rv, rf, dd_tk t, nx, ye, no, ou, co, pl) (nI k) := by
  have htk := ht k
  have v : vp_in (nI k) 23 := vp_in_nI (by omega) (by omega)
  have c : (nI k).toNatClampNeg = k := nI_clamp (by omega)
  have XK := dd_YL_k W hk X
  refine ⟨vp_in_nI (by omega) (by omega), nm_r (e' := nI (t k)) (dd_tk_c (by omega)) (nm_r (nI_1 k) (dy_beh2 ht h22 hn hk hw rfl (fun b d hb hd EB ED => ?_)))⟩
  have C : ∀ i, i < dd_wn (t k) → k < dd_st t n k i ∧ dd_st t n k i < n := fun i hi => ⟨(dd_child hn hk hi).1, (dd_child hn hk hi).2.1⟩
  have c0 := dd_child0 hn hk hw
  refine pk_eq (t k) 4 (fun e => ?_) (fun f1 => pk_eq (t k) 5 (fun e => ?_) (fun f2 => pk_eq (t k) 6 (fun e => ?_) (fun f3 => pk_eq (t k) 19 (fun e => ?_) (fun f4 => pk_eq (t k) 20 (fun e => ?_) (fun f5 => pk_eq (t k) 21 (fun e => ?_) (fun f6 => pk_eq (t k) 22 (fun e => ?_) (fun f7 => ?_)))))))
  · have w : dd_wn (t k) = 2 := by rw [e]; rfl
    rw [w] at C
    have C1 := C 1 (by omega)
    have XS := XK.1 (by omega)
    have eb := EB (by omega)
    subst eb
    refine ⟨v, dy_follow (dd_st t n k 0) (dd_st t n k 1) (dd_B t n k) (by rw [c0]) rfl (by rw [c, XS.2]) (by omega) ?_⟩
    refine ⟨v, v, dy_follow (dd_st t n k 1) (dd_T t n k) (dd_B t n k) rfl (by rw [c, pk_un (by omega), XS.1]) (by rw [c, pk_un (by omega), XS.2]) (by omega) (H _ _ _ _ (dd_YL4 hn hk e X))⟩
  · have w : dd_wn (t k) = 3 := by rw [e]; rfl
    rw [w] at C
    have C1 := C 1 (by omega)
    have C2 := C 2 (by omega)
    have XS := XK.1 (by omega)
    have eb := EB (by omega)
    have ed := ED (by omega)
    subst eb ed
    refine dy_branch (dd_st t n k 0) (dd_st t n k 1) (dd_st t n k 2) (by rw [c0]) rfl rfl (by omega) ?_
    refine ⟨v, v, dy_follow (dd_st t n k 1) (dd_T t n k) (dd_B t n k) rfl (by rw [c, XS.1]) (by rw [c, XS.2]) (by omega) ?_⟩
    refine ⟨v, v, dy_follow (dd_st t n k 2) (dd_T t n k) (dd_B t n k) rfl (by rw [c, pk_un (by omega), XS.1]) (by rw [c, pk_un (by omega), XS.2]) (by omega) (H _ _ _ _ (dd_YL5 hn hk e X))⟩
  · have w : dd_wn (t k) = 2 := by rw [e]; rfl
    rw [w] at C
    have C1 := C 1 (by omega)
    have XS := XK.1 (by omega)
    have eb := EB (by omega)
    subst eb
    refine ⟨v, dy_branch (dd_st t n k 0) (dd_st t n k 1) (dd_T t n k) (by rw [c0]) rfl (by rw [c, XS.1]) (by omega) ?_⟩
    refine ⟨v, dy_follow (dd_st t n k 1) k (dd_T t n k) rfl rfl (by rw [c, XS.1]) (by omega) (H _ _ _ _ (dd_YL6 hn hk e X))⟩
  · have XS := XK.2 (by omega)
    refine ⟨v, v, dy_branch (dd_st t n k 0) (dd_F t n k) (dd_T t n k) (by rw [c0]) (by rw [c, XS.2]) (by rw [c, XS.1]) (by omega) (H _ _ _ _ (dd_YL19 hn hk e X))⟩
  · have w : dd_wn (t k) = 2 := by rw [e]; rfl
    rw [w] at C
    have C1 := C 1 (by omega)
    have XS := XK.2 (by omega)
    have eb := EB (by omega)
    subst eb
    refine ⟨v, dy_branch (dd_st t n k 0) (dd_st t n k 1) (dd_F t n k) (by rw [c0]) rfl (by rw [c, XS.2]) (by omega) ?_⟩
    refine ⟨v, v, dy_branch (dd_st t n k 1) (dd_T t n k) (dd_F t n k) rfl (by rw [c, pk_un (by omega), XS.1]) (by rw [c, pk_un (by omega), XS.2]) (by omega) (H _ _ _ _ (dd_YL20 hn hk e X))⟩
  · have w : dd_wn (t k) = 2 := by rw [e]; rfl
    rw [w] at C
    have C1 := C 1 (by omega)
    have XS := XK.2 (by omega)
    have eb := EB (by omega)
    subst eb
    refine ⟨v, dy_branch (dd_st t n k 0) (dd_T t n k) (dd_st t n k 1) (by rw [c0]) (by rw [c, XS.1]) rfl (by omega) ?_⟩
    refine ⟨v, v, dy_branch (dd_st t n k 1) (dd_T t n k) (dd_F t n k) rfl (by rw [c, pk_un (by omega), XS.1]) (by rw [c, pk_un (by omega), XS.2]) (by omega) (H _ _ _ _ (dd_YL21 hn hk e X))⟩
  · have w : dd_wn (t k) = 3 := by rw [e]; rfl
    rw [w] at C
    have C1 := C 1 (by omega)
    have C2 := C 2 (by omega)
    have XS := XK.2 (by omega)
    have eb := EB (by omega)
    have ed := ED (by omega)
    subst eb ed
    refine dy_branch (dd_st t n k 0) (dd_st t n k 1) (dd_st t n k 2) (by rw [c0]) rfl rfl (by omega) ?_
    refine ⟨v, v, dy_branch (dd_st t n k 1) (dd_T t n k) (dd_F t n k) rfl (by rw [c, pk_un (by omega), XS.1]) (by rw [c, pk_un (by omega), XS.2]) (by omega) ?_⟩
    refine ⟨v, v, dy_branch (dd_st t n k 2) (dd_T t n k) (dd_F t n k) rfl (by rw [c, pk_un (by omega), pk_un (by omega), XS.1]) (by rw [c, pk_un (by omega), pk_un (by omega), XS.2]) (by omega) (H _ _ _ _ (dd_YL22 hn hk e X))⟩
  · have := dd_wn_pos hw
    omega
theorem dy_prep20 {post : Int32 → SY → Prop} {t : Nat → Nat} {n : Nat} (ht : ∀ j, t j < 32) (h22 : n ≤ 22) (W : dd_WF t n) (hn : dd_ob t n = [])
    (H : ∀ nx ye no ou, dd_YF t n nx ye no ou → post 1 (nI n, rs, rv, rf, dd_tk t, nx, ye, no, ou, co, pl)) : ∀ (N k : Nat) (nx ye no ou : Nat → Int32), n < N + k → k ≤ n → dd_YL t n k nx ye no ou → wY_prepare_20 post N (nI k) (nI n) rs rv rf (dd_tk t) nx ye no ou co pl := by
  intro N
  induction N with
  | zero => intro k nx ye no ou h1 h2; omega
  | succ N ih =>
    intro k nx ye no ou h1 h2 X
    have hw := dd_wn_le (t k)
    rw [wY_prepare_20]
    by_cases hk : k = n
    · subst hk
      exact br_t (nI_le (Nat.le_refl _) (by omega)) (H nx ye no ou (dd_YL_n W X))
    · have hk : k < n := by omega
      refine br_f (nI_ge hk (by omega)) ⟨vp_in_nI (by omega) (by omega), dy_parts (t k) (dd_tk_c (by omega)) (ht k) ?_⟩
      refine pk_le (dd_wn (t k)) 0 (fun e => nm_r (nI_1 k) (ih (k + 1) nx ye no ou (by omega) (by omega) (dd_YLz hn hk (by omega) X))) (fun e => ?_)
      exact dy_link ht h22 W hn hk e X (fun nx' ye' no' ou' X' => nm_r (nI_1 k) (ih (k + 1) nx' ye' no' ou' (by omega) (by omega) X'))
theorem dy_prepare {post : Int32 → SY → Prop} {t : Nat → Nat} {n : Nat} (ht : ∀ j, t j < 32) (h22 : n ≤ 22) (W : dd_WF t n)
    (H1 : dd_ob t n = [] → ∀ nx ye no ou pl, dd_YF t n nx ye no ou → post 1 (nI n, rs, rv, rf, dd_tk t, nx, ye, no, ou, co, pl)) (H0 : dd_ob t n ≠ [] → ∀ pl, post 0 (nI n, rs, rv, rf, dd_tk t, nx, ye, no, ou, co, pl)) : wpY_prepare post (nI n, rs, rv, rf, dd_tk t, nx, ye, no, ou, co, pl) := by
  unfold wpY_prepare
  dsimp only
  refine dy_complete ht h22 W (fun hn pl => ?_) (fun hn pl => ?_)
  · refine br_f (by decide) (dy_follow 0 22 22 rfl rfl rfl (by omega) ?_)
    exact ⟨n + 1, dy_prep20 ht h22 W hn (fun nx ye no ou F => H1 hn nx ye no ou pl F) (n + 1) 0 (upd nx 0 (nI 22)) ye no (upd ou 0 (nI 22)) (by omega) (by omega) (dd_YL_0 ⟨pk_us, pk_us⟩)⟩
  · exact br_t rfl (H0 hn pl)
end
end
section
/-! ===== the component works its sets out ===== -/
theorem dd_rep_cm {c : dd_C} {k x y : Nat} {wa : Int32} {me al so : Nat → Int32} (hk : k ≤ 22) (r : dd_rep c wa me al so) (h : ¬ (c.1 k = true ∧ (c.2.1 k &&& x) = c.2.1 k ∧ (c.2.2.1 k ||| y) = c.2.2.1 k)) (wa' : Int32)
    (hw : (k = 22 ∧ wa' = wa) ∨ (k ≠ 22 ∧ wa' = wa ||| ((1 : Int32) <<< (nI k &&& 31)))) : dd_rep (dd_cm k x y c) wa' (upd me k 1) (upd al k (nI (c.2.1 k &&& x))) (upd so k (nI (c.2.2.1 k ||| y))) := by
  refine ⟨fun j hj => ?_, fun i hi => ?_⟩
  · rw [dd_cm_M, dd_cm_A, dd_cm_S]
    by_cases e : j = k
    · subst e
      rw [pk_us, pk_us, pk_us, if_pos rfl, if_pos rfl, if_pos rfl, if_pos rfl]
      exact ⟨rfl, rfl, rfl⟩
    · rw [pk_un e, pk_un e, pk_un e, if_neg e, if_neg e, if_neg e]
      exact r.1 j hj
  · have hb := r.2 i hi
    unfold dd_cm
    rw [if_neg h]
    show bt wa' i = (decide (i < 22) && (if i = k ∧ k ≠ 22 then true else c.2.2.2 i))
    rcases hw with ⟨e, ew⟩ | ⟨e, ew⟩
    · rw [if_neg (fun z => z.2 e), ew, hb]
    · rw [ew, b_or, rw_sh1 (by omega) hi, hb]
      by_cases ei : i = k
      · rw [if_pos ⟨ei, e⟩, decide_eq_true ei, Bool.or_true, decide_eq_true (by omega)]
        rfl
      · rw [if_neg (fun z => ei z.1), decide_eq_false ei, Bool.or_false]
theorem dd_rep_rm {c : dd_C} {k : Nat} {wa : Int32} {me al so : Nat → Int32} (hk : k < 22) (r : dd_rep c wa me al so) : dd_rep (dd_rm k c) (wa &&& (((1 : Int32) <<< (nI k &&& 31)) ^^^ (-1))) me al so := by
  refine ⟨r.1, fun i hi => ?_⟩
  show _ = (decide (i < 22) && (if i = k then false else c.2.2.2 i))
  rw [b_and, b_xor, rw_sh1 (by omega) hi, b_m1 i hi, r.2 i hi]
  by_cases e : i = k
  · rw [if_pos e, decide_eq_true e]; simp
  · rw [if_neg e, decide_eq_false e]; simp
theorem dd_rep_0 {c : dd_C} {me al so : Nat → Int32} (r : dd_rep c 0 me al so) : ∀ j, j < 22 → c.2.2.2 j = false := by
  intro j hj
  have h := r.2 j (by omega)
  rw [b_0, decide_eq_true hj, Bool.true_and] at h
  exact h.symm
theorem dd_rep_n0 {c : dd_C} {wa : Int32} {me al so : Nat → Int32} (r : dd_rep c wa me al so) (h : ¬ wa = 0) : ∃ i, i < 22 ∧ bt wa i = true := by
  refine Classical.byContradiction (fun g => h (b_ext (fun i hi => ?_)))
  rw [b_0]
  cases hb : bt wa i
  · rfl
  · refine absurd ⟨i, ?_, hb⟩ g
    have h2 := r.2 i hi
    rw [hb] at h2
    have h3 := h2.symm
    rw [Bool.and_eq_true, decide_eq_true_eq] at h3
    exact h3.1
theorem dx_sets {post : Int32 → Prop} {x : Int32} (c : Nat) (hx : x = nI c) (hc : c < 32) (h1 : dd_se c → post 1) (h0 : ¬ dd_se c → post 0) : wpX_sets post x := by
  subst hx
  have K : ¬ (8 ≤ c ∧ c < 12) → wX_sets_12 post (nI c) := fun h => pk_lt c 24 (fun e => h0 (by unfold dd_se; omega)) (fun e => pk_le 28 c (fun e => h0 (by unfold dd_se; omega)) (fun e => h1 (by unfold dd_se; omega)))
  exact pk_lt c 8 (fun e => K (by omega)) (fun e => pk_lt c 12 (fun e => h1 (by unfold dd_se; omega)) (fun e => K (by omega)))
theorem dx_uses {post : Int32 → Prop} {x : Int32} (c : Nat) (hx : x = nI c) (hc : c < 32) (h1 : dd_us c → post 1) (h0 : ¬ dd_us c → post 0) : wpX_uses post x := by
  subst hx
  have K : ¬ (12 ≤ c ∧ c < 16) → wX_uses_12 post (nI c) := fun h => pk_lt c 28 (fun e => h0 (by unfold dd_us; omega)) (fun e => h1 (by unfold dd_us; omega))
  exact pk_lt c 12 (fun e => K (by omega)) (fun e => pk_lt c 16 (fun e => h1 (by unfold dd_us; omega)) (fun e => K (by omega)))
section
variable {sz oc li wa sr vr fr : Int32} {T ot oh pa wt wf bk me al so : Nat → Int32}
theorem dx_comp {post : Int32 → Prop} {t : Nat → Nat} {k : Nat} (ht : ∀ j, t j < 32) (hk : k < 22) (h1 : 0 < dd_wn (t k) → post 1) (h0 : dd_wn (t k) = 0 → post 0) : wpX_composite post (sz, oc, li, wa, sr, vr, fr, dd_tk t, ot, oh, pa, wt, wf, bk, me, al, so) (nI k) := by
  have hw := dd_wn_le (t k)
  exact ⟨vp_in_nI hk (by omega), dx_wants (t k) (dd_tk_c (by omega)) (ht k) (pk_le (dd_wn (t k)) 0 (fun e => h0 (by omega)) (fun e => h1 e))⟩
theorem dx_goes1 {post : Int32 → Prop} {c : Nat} (hc : c < 32) (h0 : c = 17 → post 0) (h1 : c ≠ 17 → post 1) : wpX_goes post (sz, oc, li, wa, sr, vr, fr, T, ot, oh, pa, wt, wf, bk, me, al, so) (nI c) 1 :=
  pk_eq c 16 (fun e => ⟨rfl, h1 (by omega)⟩) (fun e => pk_eq c 17 (fun g => br_f (by decide) (h0 g)) (fun g => h1 g))
theorem dx_goes0 {post : Int32 → Prop} {c : Nat} (hc : c < 32) (h0 : c = 16 → post 0) (h1 : c ≠ 16 → post 1) : wpX_goes post (sz, oc, li, wa, sr, vr, fr, T, ot, oh, pa, wt, wf, bk, me, al, so) (nI c) 0 :=
  pk_eq c 16 (fun e => ⟨rfl, h0 e⟩) (fun e => pk_eq c 17 (fun g => br_t rfl (h1 e)) (fun g => h1 e))
theorem dx_come {post : SX → Prop} {c : dd_C} {p0 p1 p2 : Int32} (k x y : Nat) (e0 : p0 = nI k) (e1 : p1 = nI x) (e2 : p2 = nI y) (hk : k ≤ 22) (hx : x < 16) (hy : y < 16) (hA : c.2.1 k < 16) (hS : c.2.2.1 k < 16) (r : dd_rep c wa me al so)
    (H : ∀ wa me al so, dd_rep (dd_cm k x y c) wa me al so → post (sz, oc, li, wa, sr, vr, fr, T, ot, oh, pa, wt, wf, bk, me, al, so)) : wpX_come post (sz, oc, li, wa, sr, vr, fr, T, ot, oh, pa, wt, wf, bk, me, al, so) p0 p1 p2 := by
  subst e0 e1 e2
  have v : vp_in (nI k) 23 := vp_in_nI (by omega) (by omega)
  have cl : (nI k).toNatClampNeg = k := nI_clamp (by omega)
  obtain ⟨r1, r2, r3⟩ := r.1 k hk
  have ha := dd_and16 (b := x) hA
  have ho := dd_or16 hS hy
  have K : ¬ (c.1 k = true ∧ (c.2.1 k &&& x) = c.2.1 k ∧ (c.2.2.1 k ||| y) = c.2.2.1 k) → wX_come_51 post (nI k) (nI (c.2.1 k &&& x)) (nI (c.2.2.1 k ||| y)) sz oc li wa sr vr fr T ot oh pa wt wf bk me al so := by
    intro h
    refine ⟨v, nm_r (e' := upd me k 1) (by rw [cl, rw_z1]) ⟨v, nm_r (e' := upd al k (nI (c.2.1 k &&& x))) (by rw [cl, rw_by _ (by omega)]) ⟨v, nm_r (e' := upd so k (nI (c.2.2.1 k ||| y))) (by rw [cl, rw_by _ (by omega)]) ?_⟩⟩⟩
    exact pk_eq k 22 (fun e => H _ _ _ _ (dd_rep_cm hk r h _ (Or.inl ⟨e, rfl⟩))) (fun e => nm_e (H _ _ _ _ (dd_rep_cm hk r h _ (Or.inr ⟨e, rfl⟩))))
  refine ⟨v, nm_r (e' := nI (c.2.1 k &&& x)) (by rw [cl, r2, nx_and]) ⟨v, nm_r (e' := nI (c.2.2.1 k ||| y)) (by rw [cl, r3, nx_or]) ⟨v, ?_⟩⟩⟩
  rw [cl, r1, r2, r3]
  by_cases hM : c.1 k = true
  · rw [if_pos hM]
    refine br_f (by decide) ⟨v, pk_eq (c.2.1 k &&& x) (c.2.1 k) (fun g1 => ⟨v, pk_eq (c.2.2.1 k ||| y) (c.2.2.1 k) (fun g2 => ?_) (fun g2 => K (fun z => g2 z.2.2))⟩) (fun g1 => K (fun z => g1 z.2.1))⟩
    refine H _ _ _ _ ?_
    rw [dd_cm, if_pos ⟨hM, g1, g2⟩]
    exact r
  · rw [if_neg hM]
    exact br_t rfl (K (fun z => hM z.1))
theorem dx_comeQ {post : SX → Prop} {t : Nat → Nat} {n k A0 S0 x : Nat} {c : dd_C} {dn : List Nat} {p0 p1 p2 : Int32} (W : dd_WF t n) (hn : dd_ob t n = []) (h22 : n ≤ 22) (hk : k < n) (hS : dd_So t n k A0 S0) (hx : x ∈ dd_sc t n k)
    (e0 : p0 = nI x) (e1 : p1 = nI (A0 ||| dd_gn t k)) (e2 : p2 = nI (S0 ||| dd_gn t k)) (q : dd_Q t n k A0 S0 c dn) (r : dd_rep c wa me al so)
    (H : ∀ c' wa me al so, dd_Q t n k A0 S0 c' (dn ++ [x]) → dd_ph c' ≤ dd_ph c → dd_rep c' wa me al so → post (sz, oc, li, wa, sr, vr, fr, T, ot, oh, pa, wt, wf, bk, me, al, so)) : wpX_come post (sz, oc, li, wa, sr, vr, fr, T, ot, oh, pa, wt, wf, bk, me, al, so) p0 p1 p2 := by
  have hg := dd_gn_lt t k
  have b1 := dd_or16 hS.1 hg
  have b2 := dd_or16 hS.2.1 hg
  exact dx_come x _ _ e0 e1 e2 (dd_gd_le (dd_sc_gd W hn hk hx) h22) b1 b2 (q.1.1 x).1 (q.1.1 x).2 r (fun wa me al so r' => H _ _ _ _ _ (dd_Q_s W hn h22 hk hS hx q) (dd_cm_ph q.1 b1 b2) r')
theorem dx_spread {post : SX → Prop} {t : Nat → Nat} {n k A0 S0 : Nat} {c : dd_C} (ht : ∀ j, t j < 32) (W : dd_WF t n) (hn : dd_ob t n = []) (h22 : n ≤ 22) (hk : k < n) (hS : dd_So t n k A0 S0) (hA0 : c.2.1 k = A0) (hS0 : c.2.2.1 k = S0)
    (F : dd_XF t n wt wf bk) (q : dd_Q t n k A0 S0 c []) (r : dd_rep c wa me al so)
    (H : ∀ c' wa me al so, dd_Q t n k A0 S0 c' (dd_sc t n k) → dd_ph c' ≤ dd_ph c → dd_rep c' wa me al so → post (sz, oc, li, wa, sr, vr, fr, dd_tk t, ot, oh, pa, wt, wf, bk, me, al, so)) : wpX_spread post (sz, oc, li, wa, sr, vr, fr, dd_tk t, ot, oh, pa, wt, wf, bk, me, al, so) (nI k) := by
  have htk := ht k
  have v : vp_in (nI k) 22 := vp_in_nI (by omega) (by omega)
  have v3 : vp_in (nI k) 23 := vp_in_nI (by omega) (by omega)
  have cl : (nI k).toNatClampNeg = k := nI_clamp (by omega)
  obtain ⟨F1, F2, F3⟩ := F k hk
  obtain ⟨r1, r2, r3⟩ := r.1 k (by omega)
  rw [hA0] at r2
  rw [hS0] at r3
  refine ⟨v, nm_r (e' := nI (t k)) (dd_tk_c (by omega)) (dx_comp ht (by omega) (fun hw => ?_) (fun hw => ?_))⟩
  · have es : dd_sc t n k = [k + 1] := by rw [dd_sc, if_pos hw]
    have eg : dd_gn t k = 0 := by
      have := dd_wn_pos hw
      rw [dd_gn, if_neg (by unfold dd_se; omega)]
    refine br_f (by decide) ⟨v3, v3, dx_comeQ W hn h22 hk hS (x := k + 1) (by rw [es]; exact List.mem_cons_self) (nI_1 k) (by rw [cl, r2, eg, Nat.or_zero]) (by rw [cl, r3, eg, Nat.or_zero]) q r (fun c' wa me al so q' h' r' => H c' wa me al so (by rw [es]; exact q') h' r')⟩
  · refine br_t rfl (pk_eq (t k) 1 (fun e => ?_) (fun f1 => ?_))
    · have es : dd_sc t n k = [dd_B t n k] := by rw [dd_sc, if_neg (by omega), if_pos e]
      have eg : dd_gn t k = 0 := by rw [dd_gn, if_neg (by unfold dd_se; omega)]
      exact ⟨v, v3, v3, dx_comeQ W hn h22 hk hS (x := dd_B t n k) (by rw [es]; exact List.mem_cons_self) (by rw [cl, F3]) (by rw [cl, r2, eg, Nat.or_zero]) (by rw [cl, r3, eg, Nat.or_zero]) q r (fun c' wa me al so q' h' r' => H c' wa me al so (by rw [es]; exact q') h' r')⟩
    · have K : ∀ z : Int32, z = nI (dd_gn t k) → wX_spread_79 post (nI k) (nI (t k)) z sz oc li wa sr vr fr (dd_tk t) ot oh pa wt wf bk me al so := by
        intro z ez
        subst ez
        have K2 : ∀ c' wa me al so, t k = 16 ∧ dd_Q t n k A0 S0 c' (dd_sc t n k) ∨ (t k ≠ 16 ∧ dd_F t n k ∈ dd_sc t n k ∧ ∃ dn, dd_sc t n k = dn ++ [dd_F t n k] ∧ dd_Q t n k A0 S0 c' dn) → dd_ph c' ≤ dd_ph c → dd_rep c' wa me al so → wX_spread_123 post (nI k) (nI (t k)) (nI (A0 ||| dd_gn t k)) (nI (S0 ||| dd_gn t k)) sz oc li wa sr vr fr (dd_tk t) ot oh pa wt wf bk me al so := by
          intro c' wa me al so hq hp r'
          rcases hq with ⟨e16, q'⟩ | ⟨e16, hm, dn, es, q'⟩
          · exact dx_goes0 htk (fun _ => br_t rfl (H c' wa me al so q' hp r')) (fun z => absurd e16 z)
          · refine dx_goes0 htk (fun z => absurd z e16) (fun _ => br_f (by decide) ⟨v, ?_⟩)
            exact dx_comeQ W hn h22 hk hS hm (by rw [cl, F2]) rfl rfl q' r' (fun c'' wa me al so q'' h'' r'' => H c'' wa me al so (by rw [es]; exact q'') (by omega) r'')
        refine ⟨v3, nm_r (e' := nI (A0 ||| dd_gn t k)) (by rw [cl, r2, nx_or]) ⟨v3, nm_r (e' := nI (S0 ||| dd_gn t k)) (by rw [cl, r3, nx_or]) (dx_goes1 htk (fun e17 => ?_) (fun e17 => ?_))⟩⟩
        · have es : dd_sc t n k = [dd_F t n k] := by rw [dd_sc, if_neg (by omega), if_neg f1, if_neg (by omega), if_pos e17]
          exact br_t rfl (K2 c wa me al so (Or.inr ⟨by omega, by rw [es]; exact List.mem_cons_self, [], es, q⟩) (Nat.le_refl _) r)
        · refine br_f (by decide) ⟨v, ?_⟩
          by_cases e16 : t k = 16
          · have es : dd_sc t n k = [dd_T t n k] := by rw [dd_sc, if_neg (by omega), if_neg f1, if_pos e16]
            exact dx_comeQ W hn h22 hk hS (x := dd_T t n k) (by rw [es]; exact List.mem_cons_self) (by rw [cl, F1]) rfl rfl q r (fun c' wa me al so q' h' r' => K2 c' wa me al so (Or.inl ⟨e16, by rw [es]; exact q'⟩) h' r')
          · have es : dd_sc t n k = [dd_T t n k, dd_F t n k] := by rw [dd_sc, if_neg (by omega), if_neg f1, if_neg e16, if_neg e17]
            exact dx_comeQ W hn h22 hk hS (x := dd_T t n k) (by rw [es]; exact List.mem_cons_self) (by rw [cl, F1]) rfl rfl q r (fun c' wa me al so q' h' r' => K2 c' wa me al so (Or.inr ⟨e16, by rw [es]; simp, [dd_T t n k], es, q'⟩) h' r')
      refine dx_sets (t k) rfl htk (fun g => br_f (by decide) (K _ ?_)) (fun g => br_t rfl (K _ ?_))
      · rw [rw_a3 _ htk, rw_p2 _ (by omega), dd_gn, if_pos g]
      · rw [dd_gn, if_neg g]; rfl
theorem dx_least2 {post : Int32 → Prop} (H : ∀ k, k < 22 → bt wa k = true → post (nI k)) : ∀ N k, 22 < N + k → k ≤ 22 → (∃ i, k ≤ i ∧ i < 22 ∧ bt wa i = true) → wX_leastWaiting_2 post sz oc li wa sr vr fr T ot oh pa wt wf bk me al so N (nI k) := by
  intro N
  induction N with
  | zero => intro k h1 h2; omega
  | succ N ih =>
    intro k h1 h2 ⟨i, i1, i2, i3⟩
    rw [wX_leastWaiting_2]
    refine br_f (nI_ge (a := k) (b := 22) (by omega) (by decide)) ?_
    cases hb : bt wa k
    · refine br_t ((rw_bit0 wa (by omega)).mpr hb) (nm_r (nI_1 k) (ih (k + 1) (by omega) (by omega) ⟨i, ?_, i2, i3⟩))
      rcases Nat.lt_or_ge k i with l | l
      · exact l
      · have e : i = k := by omega
        rw [e, hb] at i3
        cases i3
    · refine br_f (fun z => ?_) (H k (by omega) hb)
      rw [rw_bit0 wa (by omega), hb] at z
      cases z
theorem dx_learn77 {post : Int32 → SX → Prop} {t : Nat → Nat} {n : Nat} (ht : ∀ j, t j < 32) (W : dd_WF t n) (hn : dd_ob t n = []) (h22 : n ≤ 22) (F : dd_XF t n wt wf bk)
    (H : ∀ wa me al so, dd_An t n me al so → post 1 (nI n, oc, li, wa, sr, vr, fr, dd_tk t, ot, oh, pa, wt, wf, bk, me, al, so)) :
    ∀ (N i : Nat) (c : dd_C) (wa : Int32) (me al so : Nat → Int32), dd_G t n c → dd_rep c wa me al so → dd_ph c < N → i + dd_ph c ≤ 198 → wX_learn_77 post N (nI i) (nI n) oc li wa sr vr fr (dd_tk t) ot oh pa wt wf bk me al so := by
  intro N
  induction N with
  | zero => intro i c wa me al so g r h1; omega
  | succ N ih =>
    intro i c wa me al so g r h1 h2
    rw [wX_learn_77]
    refine br_f (nI_ge (a := i) (b := 256) (by omega) (by decide)) ?_
    by_cases hw : wa = 0
    · refine br_t hw (H wa me al so ?_)
      subst hw
      exact dd_rep_An g (fun j hj => dd_rep_0 r j (by omega)) r
    · refine br_f hw ?_
      obtain ⟨i0, j1, j2⟩ := dd_rep_n0 r hw
      refine Exists.intro 23 (dx_least2 (fun k hk hb => ?_) 23 0 (by omega) (by omega) ⟨i0, by omega, j1, j2⟩)
      have hwk : c.2.2.2 k = true := by
        have h := r.2 k (by omega)
        rw [hb, decide_eq_true hk, Bool.true_and] at h
        exact h.symm
      obtain ⟨kn, So, q⟩ := dd_G_q g hwk
      have hr := dd_rm_ph hk hwk
      refine nm_e (dx_spread (c := dd_rm k c) ht W hn h22 kn So rfl rfl F q (dd_rep_rm hk r) (fun c' wa me al so q' h' r' => nm_r (nI_1 i) (ih (i + 1) c' wa me al so (dd_q_G (fun x hx => hx) q') r' (by omega) (by omega))))
theorem dx_learn29 {post : Int32 → SX → Prop} {t : Nat → Nat} {n : Nat} (ht : ∀ j, t j < 32) (W : dd_WF t n) (hn : dd_ob t n = []) (h22 : n ≤ 22) (h0 : 0 < n) (F : dd_XF t n wt wf bk)
    (H : ∀ wa me al so, dd_An t n me al so → post 1 (nI n, oc, li, wa, sr, vr, fr, dd_tk t, ot, oh, pa, wt, wf, bk, me, al, so)) :
    ∀ (N k : Nat) (me al so : Nat → Int32), 23 < N + k → k ≤ 23 → (∀ j, j < k → me j = 0 ∧ al j = nI 15 ∧ so j = nI 0) → wX_learn_29 post (nI n) oc li wa sr vr fr N (nI k) (dd_tk t) ot oh pa wt wf bk me al so := by
  intro N
  induction N with
  | zero => intro k me al so h1 h2; omega
  | succ N ih =>
    intro k me al so h1 h2 h3
    rw [wX_learn_29]
    by_cases hk : k = 23
    · subst hk
      refine br_t (nI_lt (a := 22) (b := 23) (by omega) (by decide)) ?_
      have r0 : dd_rep dd_c0 0 me al so := ⟨fun j hj => h3 j (by omega), fun i hi => by rw [b_0]; exact (Bool.and_false _).symm⟩
      refine dx_come (c := dd_c0) 0 0 0 rfl rfl rfl (by omega) (by omega) (by omega) (by decide) (by decide) r0 (fun wa me al so r' => ⟨200, ?_⟩)
      have hp := dd_c1_ph
      exact dx_learn77 ht W hn h22 F H 200 0 _ wa me al so (dd_c1_G h0) r' (by omega) (by omega)
    · have v : vp_in (nI k) 23 := vp_in_nI (by omega) (by omega)
      have cl : (nI k).toNatClampNeg = k := nI_clamp (by omega)
      refine br_f (nI_nlt (a := 22) (b := k) (by omega) (by decide)) ⟨v, nm_r (e' := upd me k 0) (by rw [cl, rw_z0]) ⟨v, nm_r (e' := upd al k (nI 15)) (by rw [cl, rw_b15]) ⟨v, nm_r (e' := upd so k (nI 0)) (by rw [cl, rw_b0]; rfl) (nm_r (nI_1 k) (ih (k + 1) _ _ _ (by omega) (by omega) (fun j hj => ?_)))⟩⟩⟩
      by_cases e : j = k
      · subst e; exact ⟨pk_us, pk_us, pk_us⟩
      · rw [pk_un e, pk_un e, pk_un e]; exact h3 j (by omega)
theorem dx_learn {post : Int32 → SX → Prop} {t : Nat → Nat} {n : Nat} (ht : ∀ j, t j < 32) (h22 : n ≤ 22) (W : dd_WF t n) (hl : li = 0 ∨ (li = 1 ∧ dd_XF t n wt wf bk ∧ dd_An t n me al so))
    (H1 : dd_ob t n = [] → 0 < n → ∀ oc wa ot oh pa wt wf bk me al so, dd_XF t n wt wf bk → dd_An t n me al so → post 1 (nI n, oc, 1, wa, sr, vr, fr, dd_tk t, ot, oh, pa, wt, wf, bk, me, al, so))
    (H0 : dd_ob t n ≠ [] → ∀ oc ot oh pa, post 0 (nI n, oc, li, wa, sr, vr, fr, dd_tk t, ot, oh, pa, wt, wf, bk, me, al, so)) : wpX_learn post (nI n, oc, li, wa, sr, vr, fr, dd_tk t, ot, oh, pa, wt, wf, bk, me, al, so) := by
  unfold wpX_learn
  dsimp only
  refine dx_complete ht h22 W (fun hn h0 oc ot oh pa P => ?_) (fun hn oc ot oh pa => br_t rfl (H0 hn oc ot oh pa))
  refine br_f (by decide) ?_
  rcases hl with e | ⟨e, F, A⟩
  · refine br_t e ?_
    refine dx_link ht h22 W hn P (fun wt wf bk F => ⟨24, ?_⟩)
    exact dx_learn29 ht W hn h22 h0 F (fun wa me al so A => H1 hn h0 oc wa ot oh pa wt wf bk me al so F A) 24 0 me al so (by omega) (by omega) (fun j hj => absurd hj (by omega))
  · subst e
    have n10 : ¬ (1 : Int32) = 0 := by decide
    exact br_f n10 (H1 hn h0 oc wa ot oh pa wt wf bk me al so F A)
end
end
section
/-! ===== the reference finds its pairs ===== -/
def dd_Yn (t : Nat → Nat) (n : Nat) (co : Nat → Int32) : Prop := ∀ j, j ≤ 22 → ∀ m, m < 32 → (bt (co j) m = true ↔ dd_R t n j m)
def dd_ca (t : Nat → Nat) (n : Nat) (co : Nat → Int32) (j m : Nat) : Prop := ∀ x, x ∈ dd_sc t n j → bt (co x) (m ||| dd_gn t j) = true
def dd_sd (t : Nat → Nat) (n : Nat) (co : Nat → Int32) : Prop := (∀ j, j ≤ 22 → ∀ i, i < 32 → bt (co j) i = true → dd_R t n j i) ∧ bt (co 0) 0 = true
def dd_cn (co : Nat → Int32) : Nat := dd_sm (fun i => dd_bn (bt (co (i / 16)) (i % 16))) 368
theorem dd_sm_b {f : Nat → Nat} (h : ∀ i, f i ≤ 1) : ∀ m, dd_sm f m ≤ m := by
  intro m
  induction m with
  | zero => exact Nat.le_refl _
  | succ m ih =>
    have := h m
    show dd_sm f m + f m ≤ m + 1
    omega
theorem dd_sm_0 : ∀ m, dd_sm (fun _ => 0) m = 0 := by
  intro m
  induction m with
  | zero => rfl
  | succ m ih => show dd_sm (fun _ => 0) m + 0 = 0; rw [ih]
theorem dd_cn_le (co : Nat → Int32) : dd_cn co ≤ 368 := dd_sm_b (fun i => dd_bn_le _) 368
theorem dd_bn_mo {a b : Bool} (h : a = true → b = true) : dd_bn a ≤ dd_bn b := by
  cases a
  · exact Nat.zero_le _
  · rw [h rfl]; exact Nat.le_refl _
theorem dd_cn_mo {co co' : Nat → Int32} (h : ∀ j, j ≤ 22 → ∀ i, i < 16 → bt (co j) i = true → bt (co' j) i = true) : dd_cn co ≤ dd_cn co' :=
  dd_sm_le 368 (fun i hi => dd_bn_mo (h (i / 16) (by omega) (i % 16) (by omega)))
theorem dd_cn_lt {co co' : Nat → Int32} (h : ∀ j, j ≤ 22 → ∀ i, i < 16 → bt (co j) i = true → bt (co' j) i = true) {a m : Nat} (ha : a ≤ 22) (hm : m < 16) (h0 : bt (co a) m = false) (h1 : bt (co' a) m = true) : dd_cn co < dd_cn co' := by
  refine dd_sm_lt (k := 16 * a + m) 368 (fun i hi => dd_bn_mo (h (i / 16) (by omega) (i % 16) (by omega))) (by omega) ?_
  have e1 : (16 * a + m) / 16 = a := by omega
  have e2 : (16 * a + m) % 16 = m := by omega
  show dd_bn (bt (co ((16 * a + m) / 16)) ((16 * a + m) % 16)) < dd_bn (bt (co' ((16 * a + m) / 16)) ((16 * a + m) % 16))
  rw [e1, e2, h0, h1]
  decide
theorem dd_cn_1 {co : Nat → Int32} (h : bt (co 0) 0 = true) : 1 ≤ dd_cn co := by
  have g : dd_sm (fun _ => 0) 368 < dd_cn co := by
    refine dd_sm_lt (k := 0) 368 (fun i hi => Nat.zero_le _) (by omega) ?_
    show 0 < dd_bn (bt (co 0) 0)
    rw [h]; decide
  omega
def dd_Y1 (co : Nat → Int32) (a b m : Nat) : Nat → Int32 := upd (upd co a (co a ||| ((1 : Int32) <<< (nI m &&& 31)))) b ((upd co a (co a ||| ((1 : Int32) <<< (nI m &&& 31)))) b ||| ((1 : Int32) <<< (nI m &&& 31)))
theorem dd_up_b {co : Nat → Int32} {a m j i : Nat} (hm : m < 32) (hi : i < 32) : bt (upd co a (co a ||| ((1 : Int32) <<< (nI m &&& 31))) j) i = (bt (co j) i || (decide (j = a) && decide (i = m))) := by
  by_cases e : j = a
  · subst e
    rw [pk_us, b_or, rw_sh1 hm hi, decide_eq_true rfl, Bool.true_and]
  · rw [pk_un e, decide_eq_false e, Bool.false_and, Bool.or_false]
theorem dd_Y1_b {co : Nat → Int32} {a b m j i : Nat} (hm : m < 32) (hi : i < 32) : bt (dd_Y1 co a b m j) i = true ↔ (bt (co j) i = true ∨ ((j = a ∨ j = b) ∧ i = m)) := by
  unfold dd_Y1
  rw [dd_up_b hm hi, dd_up_b hm hi]
  simp only [Bool.or_eq_true, Bool.and_eq_true, decide_eq_true_eq]
  constructor
  · rintro ((h | ⟨h1, h2⟩) | ⟨h1, h2⟩)
    · exact Or.inl h
    · exact Or.inr ⟨Or.inl h1, h2⟩
    · exact Or.inr ⟨Or.inr h1, h2⟩
  · rintro (h | ⟨h1 | h1, h2⟩)
    · exact Or.inl (Or.inl h)
    · exact Or.inl (Or.inr ⟨h1, h2⟩)
    · exact Or.inr ⟨h1, h2⟩
theorem dd_up_id {co : Nat → Int32} {a m : Nat} (hm : m < 32) (h : bt (co a) m = true) : upd co a (co a ||| ((1 : Int32) <<< (nI m &&& 31))) = co := by
  funext j
  apply b_ext
  intro i hi
  rw [dd_up_b hm hi]
  by_cases e : j = a ∧ i = m
  · rw [e.1, e.2, h]; rfl
  · have : (decide (j = a) && decide (i = m)) = false := by
      cases hb : (decide (j = a) && decide (i = m))
      · rfl
      · rw [Bool.and_eq_true, decide_eq_true_eq, decide_eq_true_eq] at hb
        exact absurd hb e
    rw [this, Bool.or_false]
theorem dd_Y1_id {co : Nat → Int32} {a b m : Nat} (hm : m < 32) (ha : bt (co a) m = true) (hb : bt (co b) m = true) : dd_Y1 co a b m = co := by
  unfold dd_Y1
  rw [dd_up_id hm ha, dd_up_id hm hb]
theorem dd_n16 : ¬ (16 : Int32) = 0 := by decide
section
variable {sz rs rv rf : Int32} {T nx ye no ou co pl : Nat → Int32}
theorem dy_after {post : Int32 → Prop} {t : Nat → Nat} {k : Nat} {p1 : Int32} (ht : ∀ j, t j < 32) (hk : k < 22) (h1 : dd_se (t k) → post (p1 ||| ((1 : Int32) <<< ((nI (t k) &&& 3) &&& 31)))) (h0 : ¬ dd_se (t k) → post p1) : wpY_after post (sz, rs, rv, rf, dd_tk t, nx, ye, no, ou, co, pl) (nI k) p1 := by
  have htk := ht k
  have K : ¬ (8 ≤ t k ∧ t k < 12) → wY_after_19 post p1 (nI (t k)) sz rs rv rf (dd_tk t) nx ye no ou co pl := fun h => pk_lt (t k) 24 (fun e => h0 (by unfold dd_se; omega)) (fun e => pk_lt 27 (t k) (fun e => h0 (by unfold dd_se; omega)) (fun e => h1 (by unfold dd_se; omega)))
  exact ⟨vp_in_nI hk (by omega), nm_r (e' := nI (t k)) (dd_tk_c (by omega)) (pk_lt (t k) 8 (fun e => K (by omega)) (fun e => pk_le (t k) 11 (fun e => h1 (by unfold dd_se; omega)) (fun e => K (by omega))))⟩
theorem dy_open {post : Int32 → Prop} {x : Int32} (c : Nat) (hx : x = nI c) (hc : c < 32) (h1 : dd_op c → post 1) (h0 : ¬ dd_op c → post 0) : wpY_open post (sz, rs, rv, rf, T, nx, ye, no, ou, co, pl) x := by
  subst hx
  exact pk_eq c 18 (fun e => h1 (Or.inl e)) (fun e => pk_lt c 24 (fun g => h0 (by unfold dd_op; omega)) (fun g => h1 (Or.inr g)))
theorem dy_on {post : Int32 → Prop} {t : Nat → Nat} {n k : Nat} {p1 : Int32} (b : Bool) (ht : ∀ j, t j < 32) (h22 : n ≤ 22) (hk : k < n) (F : dd_YF t n nx ye no ou) (e1 : p1 = if b = true then 1 else 0) (h : post (nI (dd_on t n k b))) : wpY_onwards post (sz, rs, rv, rf, dd_tk t, nx, ye, no, ou, co, pl) (nI k) p1 := by
  have htk := ht k
  have hw := dd_wn_le (t k)
  have v3 : vp_in (nI k) 23 := vp_in_nI (by omega) (by omega)
  have cl : (nI k).toNatClampNeg = k := nI_clamp (by omega)
  obtain ⟨F1, F2⟩ := F k hk
  refine ⟨vp_in_nI (by omega) (by omega), nm_r (e' := nI (t k)) (dd_tk_c (by omega)) (dy_parts (t k) rfl htk (pk_le (dd_wn (t k)) 0 (fun w0 => pk_le 16 (t k) (fun g => ?_) (fun g => ?_)) (fun w => ?_)))⟩
  · obtain ⟨F3, F4⟩ := F2 g
    unfold dd_on at h
    rw [if_neg (by omega), if_neg (by omega)] at h
    refine pk_eq (t k) 16 (fun e => ⟨v3, ?_⟩) (fun e => dy_open (t k) rfl htk (fun o => br_f (by decide) ?_) (fun o => br_t rfl ⟨v3, ?_⟩))
    · rw [if_pos e] at h; rw [cl, F3]; exact h
    · rw [if_neg e] at h
      cases b
      · rw [if_neg (fun z => by cases z.2)] at h
        exact br_t (by rw [e1]; rfl) ⟨v3, by rw [cl, F4]; exact h⟩
      · rw [if_pos ⟨o, rfl⟩] at h
        exact br_f (by rw [e1]; decide) ⟨v3, by rw [cl, F3]; exact h⟩
    · rw [if_neg e, if_neg (fun z => o z.1)] at h
      rw [cl, F4]; exact h
  · obtain ⟨F3, F4⟩ := F1 g
    unfold dd_on at h
    rw [if_neg (by omega), if_pos g] at h
    refine pk_eq (t k) 1 (fun e => ⟨v3, ?_⟩) (fun e => ⟨v3, ?_⟩)
    · rw [if_pos e] at h; rw [cl, F4]; exact h
    · rw [if_neg e] at h; rw [cl, F3]; exact h
  · unfold dd_on at h
    rw [if_pos w] at h
    rw [nI_1]; exact h
theorem dy_spr54 {post : Int32 → SY → Prop} {a b m : Nat} {z : Int32} (ha : a ≤ 22) (hb : b ≤ 22) (hz : z = 0 ∨ z = 1) (h : post z (sz, rs, rv, rf, T, nx, ye, no, ou, dd_Y1 co a b m, pl)) : wY_spread_54 post ((1 : Int32) <<< (nI m &&& 31)) (nI a) (nI b) z sz rs rv rf T nx ye no ou co pl := by
  have va : vp_in (nI a) 23 := vp_in_nI (by omega) (by omega)
  have vb : vp_in (nI b) 23 := vp_in_nI (by omega) (by omega)
  have ca : (nI a).toNatClampNeg = a := nI_clamp (by omega)
  have cb : (nI b).toNatClampNeg = b := nI_clamp (by omega)
  refine ⟨va, va, nm_r (e' := upd co a (co a ||| ((1 : Int32) <<< (nI m &&& 31)))) (by rw [ca]) ⟨vb, vb, nm_r (e' := dd_Y1 co a b m) (by rw [cb]; rfl) ⟨?_, h⟩⟩⟩
  rcases hz with e | e <;> subst e <;> rfl
theorem dy_spread {post : Int32 → SY → Prop} {t : Nat → Nat} {n k m : Nat} (ht : ∀ j, t j < 32) (h22 : n ≤ 22) (W : dd_WF t n) (hn : dd_ob t n = []) (hk : k < n) (hm : m < 16) (F : dd_YF t n nx ye no ou)
    (H1 : bt (co (dd_on t n k true)) (m ||| dd_gn t k) = false ∨ bt (co (dd_on t n k false)) (m ||| dd_gn t k) = false → post 1 (sz, rs, rv, rf, dd_tk t, nx, ye, no, ou, dd_Y1 co (dd_on t n k true) (dd_on t n k false) (m ||| dd_gn t k), pl))
    (H0 : bt (co (dd_on t n k true)) (m ||| dd_gn t k) = true → bt (co (dd_on t n k false)) (m ||| dd_gn t k) = true → post 0 (sz, rs, rv, rf, dd_tk t, nx, ye, no, ou, co, pl)) : wpY_spread post (sz, rs, rv, rf, dd_tk t, nx, ye, no, ou, co, pl) (nI k) (nI m) := by
  have htk := ht k
  have hg := dd_gn_lt t k
  have ho := dd_or16 hm hg
  have ga := dd_gd_le (dd_on_gd W hn hk true) h22
  have gb := dd_gd_le (dd_on_gd W hn hk false) h22
  have va : vp_in (nI (dd_on t n k true)) 23 := vp_in_nI (by omega) (by omega)
  have vb : vp_in (nI (dd_on t n k false)) 23 := vp_in_nI (by omega) (by omega)
  have ca : (nI (dd_on t n k true)).toNatClampNeg = dd_on t n k true := nI_clamp (by omega)
  have cb : (nI (dd_on t n k false)).toNatClampNeg = dd_on t n k false := nI_clamp (by omega)
  have K : ∀ r : Int32, r = nI (m ||| dd_gn t k) → (∀ x3_13 : Int32, x3_13 = (1 : Int32) <<< (r &&& 31) → wpY_onwards (fun r_14 => wpY_onwards (fun r_26 => vp_in r_14 23 ∧ ((((co r_14.toNatClampNeg) &&& x3_13) = 0 → wY_spread_49 post x3_13 r_14 r_26 sz rs rv rf (dd_tk t) nx ye no ou co pl) ∧ (¬ ((co r_14.toNatClampNeg) &&& x3_13) = 0 → (vp_in r_26 23 ∧ ((((co r_26.toNatClampNeg) &&& x3_13) = 0 → wY_spread_49 post x3_13 r_14 r_26 sz rs rv rf (dd_tk t) nx ye no ou co pl) ∧ (¬ ((co r_26.toNatClampNeg) &&& x3_13) = 0 → wY_spread_54 post x3_13 r_14 r_26 0 sz rs rv rf (dd_tk t) nx ye no ou co pl)))))) (sz, rs, rv, rf, dd_tk t, nx, ye, no, ou, co, pl) (nI k) 0) (sz, rs, rv, rf, dd_tk t, nx, ye, no, ou, co, pl) (nI k) 1) := by
    intro r er
    subst er
    refine nm_e (dy_on true ht h22 hk F rfl (dy_on false ht h22 hk F rfl ⟨va, ?_⟩))
    rw [ca, cb, rw_and0 _ (by omega), rw_and0 _ (by omega)]
    refine br_c (fun e => dy_spr54 ga gb (Or.inr rfl) (H1 (Or.inl e))) (fun e => ⟨vb, br_c (fun e2 => dy_spr54 ga gb (Or.inr rfl) (H1 (Or.inr e2))) (fun e2 => ?_)⟩)
    have e' : bt (co (dd_on t n k true)) (m ||| dd_gn t k) = true := by
      cases hb : bt (co (dd_on t n k true)) (m ||| dd_gn t k)
      · exact absurd hb e
      · rfl
    have e2' : bt (co (dd_on t n k false)) (m ||| dd_gn t k) = true := by
      cases hb : bt (co (dd_on t n k false)) (m ||| dd_gn t k)
      · exact absurd hb e2
      · rfl
    refine dy_spr54 ga gb (Or.inl rfl) ?_
    rw [dd_Y1_id (by omega) e' e2']
    exact H0 e' e2'
  unfold wpY_spread
  dsimp only
  refine dy_after ht (by omega) (fun g => K _ ?_) (fun g => K _ ?_)
  · rw [rw_a3 _ htk, rw_p2 _ (by omega), nx_or, dd_gn, if_pos g]
  · rw [dd_gn, if_neg g, Nat.or_zero]
/-- what a pass keeps: up to cell c, at pass p, the flag f -/
def dd_IP (t : Nat → Nat) (n p c : Nat) (f : Int32) (co : Nat → Int32) : Prop := dd_sd t n co ∧ ((f = 0 ∧ p + 1 ≤ dd_cn co ∧ ∀ c', c' < c → bt (co (c' / 16)) (c' % 16) = true → dd_ca t n co (c' / 16) (c' % 16)) ∨ (f = 1 ∧ p + 2 ≤ dd_cn co))
theorem dy_exp57 {post : Int32 → SY → Prop} {J42 : Int32 → Int32 → Int32 → Int32 → Int32 → Int32 → (Nat → Int32) → (Nat → Int32) → (Nat → Int32) → (Nat → Int32) → (Nat → Int32) → (Nat → Int32) → (Nat → Int32) → Prop}
    {t : Nat → Nat} {n p : Nat} (ht : ∀ j, t j < 32) (h22 : n ≤ 22) (W : dd_WF t n) (hn : dd_ob t n = []) (F : dd_YF t n nx ye no ou)
    (H : ∀ f co, dd_IP t n p (16 * n) f co → J42 f (nI (p + 1)) (nI n) rs rv rf (dd_tk t) nx ye no ou co pl) :
    ∀ (N c : Nat) (f : Int32) (co : Nat → Int32), 16 * n < N + c → c ≤ 16 * n → dd_IP t n p c f co → wY_explore_57 post J42 (nI p) N f (nI c) (nI n) rs rv rf (dd_tk t) nx ye no ou co pl := by
  intro N
  induction N with
  | zero => intro c f co h1 h2; omega
  | succ N ih =>
    intro c f co h1 h2 I
    have en : (16 : Int32) * nI n = nI (16 * n) := pk_mul 16 n
    have ed : nI c / 16 = nI (c / 16) := pk_div (d := 16) (by omega) (by omega) (by omega)
    have er : nI c - nI c / 16 * 16 = nI (c % 16) := pk_rem (d := 16) (by omega) (by omega) (by omega)
    rw [wY_explore_57]
    dsimp only
    rw [en, er, ed, nI_clamp (by omega : c / 16 < 2 ^ 31)]
    by_cases hc : c = 16 * n
    · subst hc
      exact br_t (nI_le (Nat.le_refl _) (by omega)) (nm_r (nI_1 p) (H f co I))
    · refine br_f (nI_ge (by omega) (by omega)) ⟨dd_n16, vp_in_nI (by omega) (by omega), dd_n16, ?_⟩
      have hk : c / 16 < n := by omega
      have hm : c % 16 < 16 := by omega
      obtain ⟨I1, I2⟩ := I
      have hf : f = 0 ∨ f = 1 := by
        rcases I2 with g | g
        · exact Or.inl g.1
        · exact Or.inr g.1
      rw [rw_bit1 _ (by omega)]
      refine br_c (fun hb => ⟨dd_n16, dd_n16, ?_⟩) (fun hb => ?_)
      · refine dy_spread ht h22 W hn hk hm F (fun g => ?_) (fun g1 g2 => ?_)
        · refine br_f (by decide) (nm_r (nI_1 c) (ih (c + 1) 1 _ (by omega) (by omega) ?_))
          have ho := dd_or16 hm (dd_gn_lt t (c / 16))
          have ga := dd_gd_le (dd_on_gd W hn hk true) h22
          have gb := dd_gd_le (dd_on_gd W hn hk false) h22
          have hR := I1.1 (c / 16) (by omega) (c % 16) (by omega) hb
          have mo : ∀ j, j ≤ 22 → ∀ i, i < 16 → bt (co j) i = true → bt (dd_Y1 co (dd_on t n (c / 16) true) (dd_on t n (c / 16) false) (c % 16 ||| dd_gn t (c / 16)) j) i = true := fun j _ i hi h => (dd_Y1_b (by omega) (by omega)).mpr (Or.inl h)
          have lt : dd_cn co < dd_cn (dd_Y1 co (dd_on t n (c / 16) true) (dd_on t n (c / 16) false) (c % 16 ||| dd_gn t (c / 16))) := by
            rcases g with g | g
            · exact dd_cn_lt mo ga ho g ((dd_Y1_b (by omega) (by omega)).mpr (Or.inr ⟨Or.inl rfl, rfl⟩))
            · exact dd_cn_lt mo gb ho g ((dd_Y1_b (by omega) (by omega)).mpr (Or.inr ⟨Or.inr rfl, rfl⟩))
          refine ⟨⟨fun j hj i hi h => ?_, (dd_Y1_b (by omega) (by omega)).mpr (Or.inl I1.2)⟩, Or.inr ⟨rfl, ?_⟩⟩
          · rcases (dd_Y1_b (by omega) hi).mp h with h | ⟨h, e⟩
            · exact I1.1 j hj i hi h
            · rw [e]
              exact dd_Rs hk hR ((dd_sc_on W hk j).mpr h)
          · refine Nat.le_trans ?_ lt
            rcases I2 with ⟨_, l, _⟩ | ⟨_, l⟩ <;> omega
        · refine br_t rfl ?_
          have hca : dd_ca t n co (c / 16) (c % 16) := by
            intro x hx
            rcases (dd_sc_on W hk x).mp hx with e | e
            · rw [e]; exact g1
            · rw [e]; exact g2
          have I' : dd_IP t n p (c + 1) f co := by
            refine ⟨I1, ?_⟩
            rcases I2 with ⟨e, l, cl⟩ | h
            · refine Or.inl ⟨e, l, fun c' hc' hb' => ?_⟩
              by_cases ec : c' = c
              · rw [ec]; exact hca
              · exact cl c' (by omega) hb'
            · exact Or.inr h
          rcases hf with e | e
          · subst e
            exact br_t rfl (nm_r (nI_1 c) (ih (c + 1) 0 co (by omega) (by omega) I'))
          · subst e
            exact br_f (by decide) (nm_r (nI_1 c) (ih (c + 1) 1 co (by omega) (by omega) I'))
      · refine nm_r (nI_1 c) (ih (c + 1) f co (by omega) (by omega) ⟨I1, ?_⟩)
        rcases I2 with ⟨e, l, cl⟩ | h
        · refine Or.inl ⟨e, l, fun c' hc' hb' => ?_⟩
          by_cases ec : c' = c
          · rw [ec] at hb'; exact absurd hb' hb
          · exact cl c' (by omega) hb'
        · exact Or.inr h
def dd_IQ (t : Nat → Nat) (n p : Nat) (f : Int32) (co : Nat → Int32) : Prop := dd_sd t n co ∧ ((f = 0 ∧ ∀ c', c' < 16 * n → bt (co (c' / 16)) (c' % 16) = true → dd_ca t n co (c' / 16) (c' % 16)) ∨ (f = 1 ∧ p + 1 ≤ dd_cn co))
theorem dd_IQ_Yn {t : Nat → Nat} {n : Nat} {co : Nat → Int32} (h22 : n ≤ 22) (W : dd_WF t n) (hn : dd_ob t n = []) (s : dd_sd t n co) (cl : ∀ c', c' < 16 * n → bt (co (c' / 16)) (c' % 16) = true → dd_ca t n co (c' / 16) (c' % 16)) : dd_Yn t n co := by
  intro j hj m hm
  refine ⟨fun h => s.1 j hj m hm h, fun r => ?_⟩
  have := r (fun j m => m < 16 ∧ bt (co j) m = true) ⟨by decide, s.2⟩ (fun j m hj h x hx => ?_)
  · exact this.2
  · have e1 : (16 * j + m) / 16 = j := by omega
    have e2 : (16 * j + m) % 16 = m := by omega
    have c := cl (16 * j + m) (by omega)
    rw [e1, e2] at c
    exact ⟨dd_or16 h.1 (dd_gn_lt t j), c h.2 x hx⟩
theorem dy_exp42 {post : Int32 → SY → Prop} {t : Nat → Nat} {n : Nat} (ht : ∀ j, t j < 32) (h22 : n ≤ 22) (W : dd_WF t n) (hn : dd_ob t n = []) (F : dd_YF t n nx ye no ou)
    (H : ∀ co, dd_Yn t n co → post 1 (nI n, rs, rv, rf, dd_tk t, nx, ye, no, ou, co, pl)) :
    ∀ (N p : Nat) (f : Int32) (co : Nat → Int32), 369 < N + p → p ≤ 369 → dd_IQ t n p f co → wY_explore_42 post N f (nI p) (nI n) rs rv rf (dd_tk t) nx ye no ou co pl := by
  intro N
  induction N with
  | zero => intro p f co h1 h2; omega
  | succ N ih =>
    intro p f co h1 h2 ⟨I1, I2⟩
    rw [wY_explore_42]
    rcases I2 with ⟨e, cl⟩ | ⟨e, l⟩
    · have K := H co (dd_IQ_Yn h22 W hn I1 cl)
      exact pk_le 369 p (fun _ => K) (fun _ => br_t e K)
    · have hl := dd_cn_le co
      refine br_f (nI_ge (a := p) (b := 369) (by omega) (by decide)) (br_f (by rw [e]; decide) ⟨16 * n + 1, ?_⟩)
      refine dy_exp57 ht h22 W hn F (fun f' co' I' => ?_) (16 * n + 1) 0 0 co (by omega) (by omega) ⟨I1, Or.inl ⟨rfl, l, fun c' hc' => absurd hc' (by omega)⟩⟩
      refine ih (p + 1) f' co' (by omega) (by omega) ⟨I'.1, ?_⟩
      rcases I'.2 with ⟨g1, _, g2⟩ | ⟨g1, g2⟩
      · exact Or.inl ⟨g1, g2⟩
      · exact Or.inr ⟨g1, g2⟩
theorem dy_exp11 {post : Int32 → SY → Prop} {t : Nat → Nat} {n : Nat} (ht : ∀ j, t j < 32) (h22 : n ≤ 22) (W : dd_WF t n) (hn : dd_ob t n = []) (F : dd_YF t n nx ye no ou)
    (H : ∀ co, dd_Yn t n co → post 1 (nI n, rs, rv, rf, dd_tk t, nx, ye, no, ou, co, pl)) :
    ∀ (N k : Nat) (co : Nat → Int32), 23 < N + k → k ≤ 23 → (∀ j, j < k → co j = if j = 0 then 1 else 0) → wY_explore_11 post (nI n) rs rv rf N (nI k) (dd_tk t) nx ye no ou co pl := by
  intro N
  induction N with
  | zero => intro k co h1 h2; omega
  | succ N ih =>
    intro k co h1 h2 h3
    rw [wY_explore_11]
    by_cases hk : k = 23
    · subst hk
      refine br_t (nI_le (a := 23) (b := 23) (by omega) (by decide)) ⟨370, ?_⟩
      have b0 : bt (co 0) 0 = true := by rw [h3 0 (by omega), if_pos rfl]; decide
      refine dy_exp42 ht h22 W hn F H 370 0 1 co (by omega) (by omega) ⟨⟨fun j hj i hi hb => ?_, b0⟩, Or.inr ⟨rfl, dd_cn_1 b0⟩⟩
      rw [h3 j (by omega)] at hb
      by_cases e : j = 0
      · rw [if_pos e, rw_b1, decide_eq_true_eq] at hb
        rw [e, hb]
        exact dd_R0 t n
      · rw [if_neg e, b_0] at hb
        cases hb
    · have v : vp_in (nI k) 23 := vp_in_nI (by omega) (by omega)
      have cl : (nI k).toNatClampNeg = k := nI_clamp (by omega)
      have U : ∀ z : Int32, z = (if k = 0 then 1 else 0) → ∀ j, j < k + 1 → upd co k z j = if j = 0 then 1 else 0 := by
        intro z ez j hj
        by_cases e : j = k
        · subst e; rw [pk_us, ez]
        · rw [pk_un e]; exact h3 j (by omega)
      refine br_f (nI_ge (a := k) (b := 23) (by omega) (by decide)) (pk_eq k 0 (fun e => ⟨v, nm_r (e' := upd co k 1) (by rw [cl]) (nm_r (nI_1 k) (ih (k + 1) _ (by omega) (by omega) (U 1 (by rw [if_pos e]))))⟩) (fun e => ⟨v, nm_r (e' := upd co k 0) (by rw [cl]) (nm_r (nI_1 k) (ih (k + 1) _ (by omega) (by omega) (U 0 (by rw [if_neg e]))))⟩))
theorem dy_explore {post : Int32 → SY → Prop} {t : Nat → Nat} {n : Nat} (ht : ∀ j, t j < 32) (h22 : n ≤ 22) (W : dd_WF t n)
    (H1 : dd_ob t n = [] → ∀ nx ye no ou co pl, dd_Yn t n co → post 1 (nI n, rs, rv, rf, dd_tk t, nx, ye, no, ou, co, pl)) (H0 : dd_ob t n ≠ [] → ∀ pl, post 0 (nI n, rs, rv, rf, dd_tk t, nx, ye, no, ou, co, pl)) : wpY_explore post (nI n, rs, rv, rf, dd_tk t, nx, ye, no, ou, co, pl) := by
  unfold wpY_explore
  dsimp only
  refine dy_prepare ht h22 W (fun hn nx ye no ou pl F => br_f (by decide) ⟨24, ?_⟩) (fun hn pl => br_t rfl (H0 hn pl))
  exact dy_exp11 ht h22 W hn F (fun co Y => H1 hn nx ye no ou co pl Y) 24 0 co (by omega) (by omega) (fun j hj => absurd hj (by omega))
end
end
section
/-! ===== the answers, each side against the walks ===== -/
def dd_msk (n : Nat) (P : Nat → Prop) (r : Int32) : Prop := ∀ i, i < 32 → (bt r i = true ↔ i < n ∧ P i)
theorem dd_msk_un {n : Nat} {P : Nat → Prop} {r r' : Int32} (h : dd_msk n P r) (h' : dd_msk n P r') : r' = r := by
  apply b_ext
  intro i hi
  rw [Bool.eq_iff_iff, h i hi, h' i hi]
theorem dd_msk_0 (P : Nat → Prop) : dd_msk 0 P 0 := by
  intro i hi
  rw [b_0]
  exact ⟨fun z => (by cases z), fun z => absurd z.1 (by omega)⟩
theorem dd_msk_t {k : Nat} {P : Nat → Prop} {x : Int32} (hk : k < 32) (h : dd_msk k P x) (hP : P k) : dd_msk (k + 1) P (x ||| ((1 : Int32) <<< (nI k &&& 31))) := by
  intro i hi
  rw [b_or, rw_sh1 hk hi, Bool.or_eq_true_iff, h i hi, decide_eq_true_eq]
  constructor
  · rintro (⟨a, b⟩ | e)
    · exact ⟨by omega, b⟩
    · subst e; exact ⟨by omega, hP⟩
  · rintro ⟨a, b⟩
    by_cases e : i = k
    · exact Or.inr e
    · exact Or.inl ⟨by omega, b⟩
theorem dd_msk_f {k : Nat} {P : Nat → Prop} {x : Int32} (h : dd_msk k P x) (hP : ¬ P k) : dd_msk (k + 1) P x := by
  intro i hi
  rw [h i hi]
  constructor
  · rintro ⟨a, b⟩
    exact ⟨by omega, b⟩
  · rintro ⟨a, b⟩
    by_cases e : i = k
    · subst e; exact absurd b hP
    · exact ⟨by omega, b⟩
def dd_Pv (t : Nat → Nat) (n i : Nat) : Prop := ∃ m, dd_R t n i m
def dd_Pb (t : Nat → Nat) (n i : Nat) : Prop := dd_us (t i) ∧ ∃ m, dd_R t n i m ∧ m.testBit (t i % 4) = false
def dd_Ps (t : Nat → Nat) (n i : Nat) : Prop := dd_se (t i) ∧ ∃ m, dd_R t n i m ∧ m.testBit (t i % 4) = true
def dd_al (t : Nat → Nat) (n j : Nat) (r : Int32) : Prop := ∃ a, a < 16 ∧ r = nI a ∧ ∀ v, v < 4 → (a.testBit v = true ↔ ∀ m, dd_R t n j m → m.testBit v = true)
def dd_so (t : Nat → Nat) (n j : Nat) (r : Int32) : Prop := ∃ a, a < 16 ∧ r = nI a ∧ ∀ v, v < 4 → (a.testBit v = true ↔ ∃ m, dd_R t n j m ∧ m.testBit v = true)
theorem dd_e4 {a b : Nat} (ha : a < 16) (hb : b < 16) (h : ∀ v, v < 4 → (a.testBit v = true ↔ b.testBit v = true)) : a = b := by
  apply Nat.eq_of_testBit_eq
  intro v
  by_cases hv : v < 4
  · rw [Bool.eq_iff_iff]; exact h v hv
  · have hp : 2 ^ 4 ≤ 2 ^ v := Nat.pow_le_pow_right (by decide) (by omega)
    rw [Nat.testBit_lt_two_pow (by omega : a < 2 ^ v), Nat.testBit_lt_two_pow (by omega : b < 2 ^ v)]
theorem dd_al_un {t : Nat → Nat} {n j : Nat} {r r' : Int32} (h : dd_al t n j r) (h' : dd_al t n j r') : r' = r := by
  obtain ⟨a, a1, a2, a3⟩ := h
  obtain ⟨b, b1, b2, b3⟩ := h'
  rw [a2, b2, dd_e4 b1 a1 (fun v hv => by rw [a3 v hv, b3 v hv])]
theorem dd_so_un {t : Nat → Nat} {n j : Nat} {r r' : Int32} (h : dd_so t n j r) (h' : dd_so t n j r') : r' = r := by
  obtain ⟨a, a1, a2, a3⟩ := h
  obtain ⟨b, b1, b2, b3⟩ := h'
  rw [a2, b2, dd_e4 b1 a1 (fun v hv => by rw [a3 v hv, b3 v hv])]
theorem dd_An_al {t : Nat → Nat} {n j : Nat} {me al so : Nat → Int32} (A : dd_An t n me al so) (hj : j ≤ 22) : dd_al t n j (al j) ∧ dd_so t n j (so j) ∧ (¬ me j = 0 ↔ dd_Pv t n j) := by
  obtain ⟨a, s, h1, h2, h3, h4, h5, h6, h7, h8⟩ := A j hj
  exact ⟨⟨a, h1, h3, h7⟩, ⟨s, h2, h4, h8⟩, h6⟩
section
variable {sz oc li wa sr vr fr : Int32} {T ot oh pa wt wf bk me al so : Nat → Int32}
theorem dx_vis13 {post : Int32 → SX → Prop} {t : Nat → Nat} {n : Nat} (h22 : n ≤ 22) (A : dd_An t n me al so) (H : ∀ r, dd_msk n (dd_Pv t n) r → post r (nI n, oc, li, wa, sr, vr, fr, dd_tk t, ot, oh, pa, wt, wf, bk, me, al, so)) :
    ∀ (N k : Nat) (x : Int32), n < N + k → k ≤ n → dd_msk k (dd_Pv t n) x → wX_visited_13 post (nI n) oc li wa sr vr fr (dd_tk t) ot oh pa wt wf bk me al so N x (nI k) := by
  intro N
  induction N with
  | zero => intro k x h1 h2; omega
  | succ N ih =>
    intro k x h1 h2 h3
    rw [wX_visited_13]
    by_cases hk : k = n
    · subst hk
      exact br_t (nI_le (Nat.le_refl _) (by omega)) (H x h3)
    · have cl : (nI k).toNatClampNeg = k := nI_clamp (by omega)
      obtain ⟨_, _, A3⟩ := dd_An_al A (j := k) (by omega)
      refine br_f (nI_ge (by omega) (by omega)) ⟨vp_in_nI (by omega) (by omega), br_c (fun e => nm_r (e' := x) (Int32.or_zero) (nm_r (nI_1 k) (ih (k + 1) x (by omega) (by omega) (dd_msk_f h3 (fun z => ?_))))) (fun e => nm_e (nm_r (nI_1 k) (ih (k + 1) _ (by omega) (by omega) (dd_msk_t (by omega) h3 ?_))))⟩
      · rw [cl] at e; exact (A3.mpr z) e
      · rw [cl] at e; exact A3.mp e
theorem dx_bad13 {post : Int32 → SX → Prop} {t : Nat → Nat} {n : Nat} (ht : ∀ j, t j < 32) (h22 : n ≤ 22) (A : dd_An t n me al so) (H : ∀ r, dd_msk n (dd_Pb t n) r → post r (nI n, oc, li, wa, sr, vr, fr, dd_tk t, ot, oh, pa, wt, wf, bk, me, al, so)) :
    ∀ (N k : Nat) (x : Int32), n < N + k → k ≤ n → dd_msk k (dd_Pb t n) x → wX_badUses_13 post (nI n) oc li wa sr vr fr (dd_tk t) ot oh pa wt wf bk me al so N x (nI k) := by
  intro N
  induction N with
  | zero => intro k x h1 h2; omega
  | succ N ih =>
    intro k x h1 h2 h3
    rw [wX_badUses_13]
    by_cases hk : k = n
    · subst hk
      exact br_t (nI_le (Nat.le_refl _) (by omega)) (H x h3)
    · have cl : (nI k).toNatClampNeg = k := nI_clamp (by omega)
      have v3 : vp_in (nI k) 23 := vp_in_nI (by omega) (by omega)
      have htk := ht k
      obtain ⟨a, s, g1, g2, g3, g4, g5, g6, g7, g8⟩ := A k (by omega)
      have hv : t k % 4 < 4 := Nat.mod_lt _ (by decide)
      have KF : ¬ dd_Pb t n k → wX_badUses_13 post (nI n) oc li wa sr vr fr (dd_tk t) ot oh pa wt wf bk me al so N x (nI (k + 1)) := fun z => ih (k + 1) x (by omega) (by omega) (dd_msk_f h3 z)
      refine br_f (nI_ge (by omega) (by omega)) ⟨vp_in_nI (by omega) (by omega), nm_r (e' := nI (t k)) (dd_tk_c (by omega)) ⟨v3, br_c (fun e => nm_r (nI_1 k) (KF (fun z => ?_))) (fun e => dx_uses (t k) rfl htk (fun u => br_f (by decide) ⟨v3, ?_⟩) (fun u => br_t rfl (nm_r (nI_1 k) (KF (fun z => u z.1)))))⟩⟩
      · obtain ⟨_, m, r, _⟩ := z
        rw [cl] at e
        exact (g6.mpr ⟨m, r⟩) e
      · have hb : bt (al k) (t k % 4) = a.testBit (t k % 4) := by rw [g3, rw_bn _ _ (by omega)]
        rw [cl, rw_a3 _ htk, rw_bit0 _ (by omega), hb]
        rw [cl, g6] at e
        refine br_c (fun b => nm_e (nm_r (nI_1 k) (ih (k + 1) _ (by omega) (by omega) (dd_msk_t (by omega) h3 ⟨u, ?_⟩)))) (fun b => nm_r (nI_1 k) (KF (fun z => ?_)))
        · refine Classical.byContradiction (fun c => ?_)
          have : a.testBit (t k % 4) = true := (g7 _ hv).mpr (fun m r => by
            cases hm : m.testBit (t k % 4)
            · exact absurd ⟨m, r, hm⟩ c
            · rfl)
          rw [this] at b
          cases b
        · obtain ⟨_, m, r, hm⟩ := z
          have b' : a.testBit (t k % 4) = true := by
            cases ha : a.testBit (t k % 4)
            · exact absurd ha b
            · rfl
          have := (g7 _ hv).mp b' m r
          rw [hm] at this
          cases this
theorem dx_sec13 {post : Int32 → SX → Prop} {t : Nat → Nat} {n : Nat} (ht : ∀ j, t j < 32) (h22 : n ≤ 22) (A : dd_An t n me al so) (H : ∀ r, dd_msk n (dd_Ps t n) r → post r (nI n, oc, li, wa, sr, vr, fr, dd_tk t, ot, oh, pa, wt, wf, bk, me, al, so)) :
    ∀ (N k : Nat) (x : Int32), n < N + k → k ≤ n → dd_msk k (dd_Ps t n) x → wX_secondSets_13 post (nI n) oc li wa sr vr fr (dd_tk t) ot oh pa wt wf bk me al so N x (nI k) := by
  intro N
  induction N with
  | zero => intro k x h1 h2; omega
  | succ N ih =>
    intro k x h1 h2 h3
    rw [wX_secondSets_13]
    by_cases hk : k = n
    · subst hk
      exact br_t (nI_le (Nat.le_refl _) (by omega)) (H x h3)
    · have cl : (nI k).toNatClampNeg = k := nI_clamp (by omega)
      have v3 : vp_in (nI k) 23 := vp_in_nI (by omega) (by omega)
      have htk := ht k
      obtain ⟨a, s, g1, g2, g3, g4, g5, g6, g7, g8⟩ := A k (by omega)
      have hv : t k % 4 < 4 := Nat.mod_lt _ (by decide)
      have KF : ¬ dd_Ps t n k → wX_secondSets_13 post (nI n) oc li wa sr vr fr (dd_tk t) ot oh pa wt wf bk me al so N x (nI (k + 1)) := fun z => ih (k + 1) x (by omega) (by omega) (dd_msk_f h3 z)
      refine br_f (nI_ge (by omega) (by omega)) ⟨vp_in_nI (by omega) (by omega), nm_r (e' := nI (t k)) (dd_tk_c (by omega)) ⟨v3, br_c (fun e => nm_r (nI_1 k) (KF (fun z => ?_))) (fun e => dx_sets (t k) rfl htk (fun u => br_f (by decide) ⟨v3, ?_⟩) (fun u => br_t rfl (nm_r (nI_1 k) (KF (fun z => u z.1)))))⟩⟩
      · obtain ⟨_, m, r, _⟩ := z
        rw [cl] at e
        exact (g6.mpr ⟨m, r⟩) e
      · have hb : bt (so k) (t k % 4) = s.testBit (t k % 4) := by rw [g4, rw_bn _ _ (by omega)]
        rw [cl, rw_a3 _ htk, rw_bit0 _ (by omega), hb]
        refine br_c (fun b => nm_r (nI_1 k) (KF (fun z => ?_))) (fun b => nm_e (nm_r (nI_1 k) (ih (k + 1) _ (by omega) (by omega) (dd_msk_t (by omega) h3 ⟨u, ?_⟩))))
        · have := (g8 _ hv).mpr z.2
          rw [this] at b
          cases b
        · refine (g8 _ hv).mp ?_
          cases ha : s.testBit (t k % 4)
          · exact absurd ha b
          · rfl
end
theorem dd_Yn_v {t : Nat → Nat} {n j : Nat} {co : Nat → Int32} (Y : dd_Yn t n co) (hj : j ≤ 22) : ¬ co j = 0 ↔ dd_Pv t n j := by
  constructor
  · intro h
    refine Classical.byContradiction (fun g => h (b_ext (fun i hi => ?_)))
    rw [b_0]
    cases hb : bt (co j) i
    · rfl
    · exact absurd ⟨i, (Y j hj i hi).mp hb⟩ g
  · rintro ⟨m, r⟩ e
    have := (Y j hj m (by have := dd_R16 r; omega)).mpr r
    rw [e, b_0] at this
    cases this
section
variable {sz rs rv rf : Int32} {T nx ye no ou co pl : Nat → Int32}
theorem dy_uses {post : Int32 → Prop} {x : Int32} (c : Nat) (hx : x = nI c) (hc : c < 32) (h1 : dd_us c → post 1) (h0 : ¬ dd_us c → post 0) : wpY_uses post (sz, rs, rv, rf, T, nx, ye, no, ou, co, pl) x := by
  subst hx
  have K : ¬ (12 ≤ c ∧ c < 16) → wY_uses_12 post (nI c) sz rs rv rf T nx ye no ou co pl := fun h => pk_lt c 28 (fun e => h0 (by unfold dd_us; omega)) (fun e => h1 (by unfold dd_us; omega))
  exact pk_lt c 12 (fun e => K (by omega)) (fun e => pk_le c 15 (fun e => h1 (by unfold dd_us; omega)) (fun e => K (by omega)))
theorem dy_sets {post : Int32 → Prop} {x : Int32} (c : Nat) (hx : x = nI c) (hc : c < 32) (h1 : dd_se c → post 1) (h0 : ¬ dd_se c → post 0) : wpY_sets post (sz, rs, rv, rf, T, nx, ye, no, ou, co, pl) x := by
  subst hx
  have K : ¬ (8 ≤ c ∧ c < 12) → wY_sets_12 post (nI c) sz rs rv rf T nx ye no ou co pl := fun h => pk_lt c 24 (fun e => h0 (by unfold dd_se; omega)) (fun e => pk_lt 27 c (fun e => h0 (by unfold dd_se; omega)) (fun e => h1 (by unfold dd_se; omega)))
  exact pk_lt c 8 (fun e => K (by omega)) (fun e => pk_le c 11 (fun e => h1 (by unfold dd_se; omega)) (fun e => K (by omega)))
theorem dy_vis13 {post : Int32 → SY → Prop} {t : Nat → Nat} {n : Nat} (h22 : n ≤ 22) (Y : dd_Yn t n co) (H : ∀ r, dd_msk n (dd_Pv t n) r → post r (nI n, rs, rv, rf, dd_tk t, nx, ye, no, ou, co, pl)) :
    ∀ (N k : Nat) (x : Int32), n < N + k → k ≤ n → dd_msk k (dd_Pv t n) x → wY_visited_13 post (nI n) rs rv rf (dd_tk t) nx ye no ou co pl N x (nI k) := by
  intro N
  induction N with
  | zero => intro k x h1 h2; omega
  | succ N ih =>
    intro k x h1 h2 h3
    rw [wY_visited_13]
    by_cases hk : k = n
    · subst hk
      exact br_t (nI_le (Nat.le_refl _) (by omega)) (H x h3)
    · have cl : (nI k).toNatClampNeg = k := nI_clamp (by omega)
      have A3 := dd_Yn_v Y (j := k) (by omega)
      refine br_f (nI_ge (by omega) (by omega)) ⟨vp_in_nI (by omega) (by omega), br_c (fun e => nm_r (e' := x) (Int32.or_zero) (nm_r (nI_1 k) (ih (k + 1) x (by omega) (by omega) (dd_msk_f h3 (fun z => ?_))))) (fun e => nm_e (nm_r (nI_1 k) (ih (k + 1) _ (by omega) (by omega) (dd_msk_t (by omega) h3 ?_))))⟩
      · rw [cl] at e; exact (A3.mpr z) e
      · rw [cl] at e; exact A3.mp e
/-- the mask that the pairs below cell c give -/
def dd_mc (B : Nat → Prop) (c : Nat) (r : Int32) : Prop := ∀ i, i < 32 → (bt r i = true ↔ ∃ c', c' < c ∧ c' / 16 = i ∧ B c')
theorem dd_mc_t {B : Nat → Prop} {c : Nat} {x : Int32} (hc : c / 16 < 32) (h : dd_mc B c x) (hB : B c) : dd_mc B (c + 1) (x ||| ((1 : Int32) <<< (nI (c / 16) &&& 31))) := by
  intro i hi
  rw [b_or, rw_sh1 hc hi, Bool.or_eq_true_iff, h i hi, decide_eq_true_eq]
  constructor
  · rintro (⟨c', a, b, d⟩ | e)
    · exact ⟨c', by omega, b, d⟩
    · exact ⟨c, by omega, e.symm, hB⟩
  · rintro ⟨c', a, b, d⟩
    by_cases e : c' = c
    · subst e; exact Or.inr b.symm
    · exact Or.inl ⟨c', by omega, b, d⟩
theorem dd_mc_f {B : Nat → Prop} {c : Nat} {x : Int32} (h : dd_mc B c x) (hB : ¬ B c) : dd_mc B (c + 1) x := by
  intro i hi
  rw [h i hi]
  constructor
  · rintro ⟨c', a, b, d⟩
    exact ⟨c', by omega, b, d⟩
  · rintro ⟨c', a, b, d⟩
    by_cases e : c' = c
    · subst e; exact absurd d hB
    · exact ⟨c', by omega, b, d⟩
def dd_Bb (t : Nat → Nat) (co : Nat → Int32) (c : Nat) : Prop := dd_us (t (c / 16)) ∧ (c % 16).testBit (t (c / 16) % 4) = false ∧ bt (co (c / 16)) (c % 16) = true
def dd_Bs (t : Nat → Nat) (co : Nat → Int32) (c : Nat) : Prop := dd_se (t (c / 16)) ∧ (c % 16).testBit (t (c / 16) % 4) = true ∧ bt (co (c / 16)) (c % 16) = true
theorem dd_mc_b {t : Nat → Nat} {n : Nat} {r : Int32} (h22 : n ≤ 22) (Y : dd_Yn t n co) (h : dd_mc (dd_Bb t co) (16 * n) r) : dd_msk n (dd_Pb t n) r := by
  intro i hi
  rw [h i hi]
  constructor
  · rintro ⟨c, a, b, d1, d2, d3⟩
    subst b
    exact ⟨by omega, d1, c % 16, (Y _ (by omega) _ (by omega)).mp d3, d2⟩
  · rintro ⟨a, b, m, r, d⟩
    have hm := dd_R16 r
    have e1 : (16 * i + m) / 16 = i := by omega
    have e2 : (16 * i + m) % 16 = m := by omega
    refine ⟨16 * i + m, by omega, e1, ?_⟩
    unfold dd_Bb
    rw [e1, e2]
    exact ⟨b, d, (Y i (by omega) m (by omega)).mpr r⟩
theorem dd_mc_s {t : Nat → Nat} {n : Nat} {r : Int32} (h22 : n ≤ 22) (Y : dd_Yn t n co) (h : dd_mc (dd_Bs t co) (16 * n) r) : dd_msk n (dd_Ps t n) r := by
  intro i hi
  rw [h i hi]
  constructor
  · rintro ⟨c, a, b, d1, d2, d3⟩
    subst b
    exact ⟨by omega, d1, c % 16, (Y _ (by omega) _ (by omega)).mp d3, d2⟩
  · rintro ⟨a, b, m, r, d⟩
    have hm := dd_R16 r
    have e1 : (16 * i + m) / 16 = i := by omega
    have e2 : (16 * i + m) % 16 = m := by omega
    refine ⟨16 * i + m, by omega, e1, ?_⟩
    unfold dd_Bs
    rw [e1, e2]
    exact ⟨b, d, (Y i (by omega) m (by omega)).mpr r⟩
theorem dy_bad9 {post : Int32 → SY → Prop} {t : Nat → Nat} {n : Nat} {x2 : Int32} (hx2 : ¬ x2 = 0) (ht : ∀ j, t j < 32) (h22 : n ≤ 22) (H : ∀ r, dd_mc (dd_Bb t co) (16 * n) r → post r (nI n, rs, rv, rf, dd_tk t, nx, ye, no, ou, co, pl)) :
    ∀ (N c : Nat) (x : Int32), 16 * n < N + c → c ≤ 16 * n → dd_mc (dd_Bb t co) c x → wY_badUses_9 post x2 (nI n) rs rv rf (dd_tk t) nx ye no ou co pl N x (nI c) := by
  intro N
  induction N with
  | zero => intro c x h1 h2; omega
  | succ N ih =>
    intro c x h1 h2 h3
    have en : (16 : Int32) * nI n = nI (16 * n) := pk_mul 16 n
    have ed : nI c / 16 = nI (c / 16) := pk_div (d := 16) (by omega) (by omega) (by omega)
    have er : nI c - nI c / 16 * 16 = nI (c % 16) := pk_rem (d := 16) (by omega) (by omega) (by omega)
    rw [wY_badUses_9]
    dsimp only
    rw [en]
    by_cases hc : c = 16 * n
    · subst hc
      exact br_t (nI_le (Nat.le_refl _) (by omega)) (H x h3)
    · have htk := ht (c / 16)
      have cl : (nI (c / 16)).toNatClampNeg = c / 16 := nI_clamp (by omega)
      have v : vp_in (nI (c / 16)) 22 := vp_in_nI (by omega) (by omega)
      have v3 : vp_in (nI (c / 16)) 23 := vp_in_nI (by omega) (by omega)
      have KF : ¬ dd_Bb t co c → wY_badUses_9 post x2 (nI n) rs rv rf (dd_tk t) nx ye no ou co pl N x (nI (c + 1)) := fun z => ih (c + 1) x (by omega) (by omega) (dd_mc_f h3 z)
      have K0 : ¬ dd_Bb t co c → wY_badUses_67 post (wY_badUses_9 post x2 (nI n) rs rv rf (dd_tk t) nx ye no ou co pl N) x x2 (nI c) (nI (c / 16)) (nI n) rs rv rf (dd_tk t) nx ye no ou co pl := fun z => br_t rfl (nm_r (nI_1 c) (KF z))
      refine br_f (nI_ge (by omega) (by omega)) (br_f hx2 ⟨dd_n16, nm_r ed ⟨v, dy_uses (t (c / 16)) (dd_tk_c (by omega)) htk (fun u => br_f (by decide) ⟨dd_n16, v, ?_⟩) (fun u => br_t rfl (K0 (fun z => u z.1)))⟩⟩)
      rw [er, dd_tk_c (by omega), rw_a3 _ htk, rw_bit0 _ (by omega), rw_bn _ _ (by omega)]
      refine br_c (fun b => br_f (by decide) ⟨v3, dd_n16, ?_⟩) (fun b => K0 (fun z => b z.2.1))
      rw [er, cl, rw_bit1 _ (by omega)]
      exact br_c (fun g => nm_e (nm_r (nI_1 c) (ih (c + 1) _ (by omega) (by omega) (dd_mc_t (by omega) h3 ⟨u, b, g⟩)))) (fun g => nm_r (nI_1 c) (KF (fun z => g z.2.2)))
theorem dy_sec9 {post : Int32 → SY → Prop} {t : Nat → Nat} {n : Nat} {x2 : Int32} (hx2 : ¬ x2 = 0) (ht : ∀ j, t j < 32) (h22 : n ≤ 22) (H : ∀ r, dd_mc (dd_Bs t co) (16 * n) r → post r (nI n, rs, rv, rf, dd_tk t, nx, ye, no, ou, co, pl)) :
    ∀ (N c : Nat) (x : Int32), 16 * n < N + c → c ≤ 16 * n → dd_mc (dd_Bs t co) c x → wY_secondSets_9 post x2 (nI n) rs rv rf (dd_tk t) nx ye no ou co pl N x (nI c) := by
  intro N
  induction N with
  | zero => intro c x h1 h2; omega
  | succ N ih =>
    intro c x h1 h2 h3
    have en : (16 : Int32) * nI n = nI (16 * n) := pk_mul 16 n
    have ed : nI c / 16 = nI (c / 16) := pk_div (d := 16) (by omega) (by omega) (by omega)
    have er : nI c - nI c / 16 * 16 = nI (c % 16) := pk_rem (d := 16) (by omega) (by omega) (by omega)
    rw [wY_secondSets_9]
    dsimp only
    rw [en]
    by_cases hc : c = 16 * n
    · subst hc
      exact br_t (nI_le (Nat.le_refl _) (by omega)) (H x h3)
    · have htk := ht (c / 16)
      have cl : (nI (c / 16)).toNatClampNeg = c / 16 := nI_clamp (by omega)
      have v : vp_in (nI (c / 16)) 22 := vp_in_nI (by omega) (by omega)
      have v3 : vp_in (nI (c / 16)) 23 := vp_in_nI (by omega) (by omega)
      have KF : ¬ dd_Bs t co c → wY_secondSets_9 post x2 (nI n) rs rv rf (dd_tk t) nx ye no ou co pl N x (nI (c + 1)) := fun z => ih (c + 1) x (by omega) (by omega) (dd_mc_f h3 z)
      have K0 : ¬ dd_Bs t co c → wY_secondSets_68 post (wY_secondSets_9 post x2 (nI n) rs rv rf (dd_tk t) nx ye no ou co pl N) x x2 (nI c) (nI (c / 16)) (nI n) rs rv rf (dd_tk t) nx ye no ou co pl := fun z => br_t rfl (nm_r (nI_1 c) (KF z))
      refine br_f (nI_ge (by omega) (by omega)) (br_f hx2 ⟨dd_n16, nm_r ed ⟨v, dy_sets (t (c / 16)) (dd_tk_c (by omega)) htk (fun u => br_f (by decide) ⟨dd_n16, v, ?_⟩) (fun u => br_t rfl (K0 (fun z => u z.1)))⟩⟩)
      rw [er, dd_tk_c (by omega), rw_a3 _ htk, rw_bit1 _ (by omega), rw_bn _ _ (by omega)]
      refine br_c (fun b => br_f (by decide) ⟨v3, dd_n16, ?_⟩) (fun b => K0 (fun z => b z.2.1))
      rw [er, cl, rw_bit1 _ (by omega)]
      exact br_c (fun g => nm_e (nm_r (nI_1 c) (ih (c + 1) _ (by omega) (by omega) (dd_mc_t (by omega) h3 ⟨u, b, g⟩)))) (fun g => nm_r (nI_1 c) (KF (fun z => g z.2.2)))
theorem dy_over1 {post : Int32 → Prop} {t : Nat → Nat} {n j : Nat} {x2 : Int32} (hx2 : ¬ x2 = 0) (hj : j ≤ 22) (Y : dd_Yn t n co) (H : ∀ r, dd_al t n j r → post r) :
    ∀ (N s a : Nat), 16 < N + s → s ≤ 16 → a < 16 → (∀ v, v < 4 → (a.testBit v = true ↔ ∀ m, m < s → dd_R t n j m → m.testBit v = true)) → wY_over_14 post (nI j) x2 sz rs rv rf T nx ye no ou co pl N (nI a) (nI s) := by
  intro N
  induction N with
  | zero => intro s a h1 h2; omega
  | succ N ih =>
    intro s a h1 h2 h3 h4
    rw [wY_over_14]
    by_cases hs : s = 16
    · subst hs
      refine br_t (nI_le (a := 16) (b := 16) (by omega) (by decide)) (H _ ⟨a, h3, rfl, fun v hv => ?_⟩)
      rw [h4 v hv]
      exact ⟨fun h m r => h m (dd_R16 r) r, fun h m _ r => h m r⟩
    · have cl : (nI j).toNatClampNeg = j := nI_clamp (by omega)
      refine br_f (nI_ge (a := s) (b := 16) (by omega) (by decide)) ⟨vp_in_nI (by omega) (by omega), ?_⟩
      rw [cl, rw_bit1 _ (by omega), Y j hj s (by omega)]
      refine br_c (fun g => br_f hx2 (nm_r (nx_and a s) (nm_r (nI_1 s) (ih (s + 1) _ (by omega) (by omega) (dd_and16 h3) (fun v hv => ?_))))) (fun g => nm_r (nI_1 s) (ih (s + 1) a (by omega) (by omega) h3 (fun v hv => ?_)))
      · rw [Nat.testBit_and, Bool.and_eq_true, h4 v hv]
        constructor
        · rintro ⟨b1, b2⟩ m hm r
          by_cases e : m = s
          · rw [e]; exact b2
          · exact b1 m (by omega) r
        · intro h
          exact ⟨fun m hm r => h m (by omega) r, h s (by omega) g⟩
      · rw [h4 v hv]
        constructor
        · intro h m hm r
          by_cases e : m = s
          · subst e; exact absurd r g
          · exact h m (by omega) r
        · intro h m hm r
          exact h m (by omega) r
theorem dy_over0 {post : Int32 → Prop} {t : Nat → Nat} {n j : Nat} (hj : j ≤ 22) (Y : dd_Yn t n co) (H : ∀ r, dd_so t n j r → post r) :
    ∀ (N s a : Nat), 16 < N + s → s ≤ 16 → a < 16 → (∀ v, v < 4 → (a.testBit v = true ↔ ∃ m, m < s ∧ dd_R t n j m ∧ m.testBit v = true)) → wY_over_14 post (nI j) 0 sz rs rv rf T nx ye no ou co pl N (nI a) (nI s) := by
  intro N
  induction N with
  | zero => intro s a h1 h2; omega
  | succ N ih =>
    intro s a h1 h2 h3 h4
    rw [wY_over_14]
    by_cases hs : s = 16
    · subst hs
      refine br_t (nI_le (a := 16) (b := 16) (by omega) (by decide)) (H _ ⟨a, h3, rfl, fun v hv => ?_⟩)
      rw [h4 v hv]
      exact ⟨fun ⟨m, _, r⟩ => ⟨m, r⟩, fun ⟨m, r⟩ => ⟨m, dd_R16 r.1, r⟩⟩
    · have cl : (nI j).toNatClampNeg = j := nI_clamp (by omega)
      refine br_f (nI_ge (a := s) (b := 16) (by omega) (by decide)) ⟨vp_in_nI (by omega) (by omega), ?_⟩
      rw [cl, rw_bit1 _ (by omega), Y j hj s (by omega)]
      refine br_c (fun g => br_t rfl (nm_r (nx_or a s) (nm_r (nI_1 s) (ih (s + 1) _ (by omega) (by omega) (dd_or16 h3 (by omega)) (fun v hv => ?_))))) (fun g => nm_r (nI_1 s) (ih (s + 1) a (by omega) (by omega) h3 (fun v hv => ?_)))
      · rw [Nat.testBit_or, Bool.or_eq_true_iff, h4 v hv]
        constructor
        · rintro (⟨m, hm, r⟩ | b)
          · exact ⟨m, by omega, r⟩
          · exact ⟨s, by omega, g, b⟩
        · rintro ⟨m, hm, r⟩
          by_cases e : m = s
          · subst e; exact Or.inr r.2
          · exact Or.inl ⟨m, by omega, r⟩
      · rw [h4 v hv]
        constructor
        · rintro ⟨m, hm, r⟩
          exact ⟨m, by omega, r⟩
        · rintro ⟨m, hm, r⟩
          by_cases e : m = s
          · subst e; exact absurd r.1 g
          · exact ⟨m, by omega, r⟩
theorem dd_b15 : ∀ v, v < 4 → (15 : Nat).testBit v = true := by decide
theorem dy_overA {post : Int32 → Prop} {t : Nat → Nat} {n j : Nat} {x : Int32} (hx : x = nI j) (hj : j ≤ 22) (Y : dd_Yn t n co) (H : ∀ r, dd_al t n j r → post r) : wpY_over post (sz, rs, rv, rf, T, nx, ye, no, ou, co, pl) x 1 := by
  subst hx
  refine br_f (by decide) ⟨17, dy_over1 (by decide) hj Y H 17 0 15 (by omega) (by omega) (by omega) (fun v hv => ⟨fun _ m hm => absurd hm (by omega), fun _ => dd_b15 v hv⟩)⟩
theorem dy_overS {post : Int32 → Prop} {t : Nat → Nat} {n j : Nat} {x : Int32} (hx : x = nI j) (hj : j ≤ 22) (Y : dd_Yn t n co) (H : ∀ r, dd_so t n j r → post r) : wpY_over post (sz, rs, rv, rf, T, nx, ye, no, ou, co, pl) x 0 := by
  subst hx
  refine br_t rfl ⟨17, dy_over0 hj Y H 17 0 0 (by omega) (by omega) (by omega) (fun v hv => ⟨fun z => ?_, fun ⟨m, hm, _⟩ => absurd hm (by omega)⟩)⟩
  rw [Nat.zero_testBit] at z
  cases z
end
end
section
/-! ===== runs: both sides against one pure run ===== -/
def dd_ns (t : Nat → Nat) (k : Nat) (s : Int32) : Int32 := if dd_se (t k) then s ||| ((1 : Int32) <<< ((nI (t k) &&& 3) &&& 31)) else s
def dd_nf (t : Nat → Nat) (k : Nat) (s f : Int32) : Int32 := if dd_us (t k) ∧ bt s (t k % 4) = false then f + 1 else f
def dd_na (t : Nat → Nat) (k a : Nat) : Nat := if dd_op (t k) then a + 1 else a
def dd_nv (k : Nat) (v : Int32) : Int32 := v ||| ((1 : Int32) <<< (nI k &&& 31))
def dd_rn (t : Nat → Nat) (n : Nat) (dec : Int32) : Nat → Nat → Nat → Int32 → Int32 → Int32 → Nat × Int32 × Int32 × Int32
  | 0, _, _, s, v, f => (0, s, v, f)
  | d + 1, k, a, s, v, f => if k = 22 then (0, s, v, f) else
      ((dd_rn t n dec d (dd_on t n k (bt dec (a % 32))) (dd_na t k a) (dd_ns t k s) (dd_nv k v) (dd_nf t k s f)).1 + 1, (dd_rn t n dec d (dd_on t n k (bt dec (a % 32))) (dd_na t k a) (dd_ns t k s) (dd_nv k v) (dd_nf t k s f)).2)
theorem dd_na_le (t : Nat → Nat) (k a : Nat) : dd_na t k a ≤ a + 1 := by
  unfold dd_na
  split <;> omega
section
variable {sz oc li wa sr vr fr : Int32} {T ot oh pa wt wf bk me al so : Nat → Int32}
theorem dx_act {post : SX → Prop} {t : Nat → Nat} {k : Nat} (ht : ∀ j, t j < 32) (h : post (sz, oc, li, wa, dd_ns t k sr, vr, dd_nf t k sr fr, T, ot, oh, pa, wt, wf, bk, me, al, so)) : wpX_act post (sz, oc, li, wa, sr, vr, fr, T, ot, oh, pa, wt, wf, bk, me, al, so) (nI (t k)) := by
  have htk := ht k
  have K : ∀ f, f = dd_nf t k sr fr → wX_act_32 post (nI (t k)) ((1 : Int32) <<< ((nI (t k) &&& 3) &&& 31)) sz oc li wa sr vr f T ot oh pa wt wf bk me al so := by
    intro f ef
    subst ef
    unfold dd_ns at h
    refine dx_sets (t k) rfl htk (fun g => br_f (by decide) (nm_e ?_)) (fun g => br_t rfl ?_)
    · rw [if_pos g] at h; exact h
    · rw [if_neg g] at h; exact h
  have eb : (sr &&& ((1 : Int32) <<< ((nI (t k) &&& 3) &&& 31))) = 0 ↔ bt sr (t k % 4) = false := by
    rw [rw_a3 _ htk]
    exact rw_and0 _ (by omega)
  refine nm_e (dx_uses (t k) rfl htk (fun g => br_f (by decide) (br_c (fun e => nm_e (K _ ?_)) (fun e => K _ ?_))) (fun g => br_t rfl (K _ ?_)))
  · rw [dd_nf, if_pos ⟨g, eb.mp e⟩]
  · rw [dd_nf, if_neg (fun z => e (eb.mpr z.2))]
  · rw [dd_nf, if_neg (fun z => g z.1)]
theorem dx_next {post : Int32 → Prop} {t : Nat → Nat} {n k : Nat} {x7 : Int32} {b : Bool} (ht : ∀ j, t j < 32) (h22 : n ≤ 22) (W : dd_WF t n) (hk : k < n) (F : dd_XF t n wt wf bk)
    (hw : (dd_op (t k) ∧ x7 = (if b = true then 1 else 0)) ∨ (¬ dd_op (t k) ∧ x7 = (if t k = 17 then 0 else 1))) (h : post (nI (dd_on t n k b))) : wpX_nextOf post (sz, oc, li, wa, sr, vr, fr, dd_tk t, ot, oh, pa, wt, wf, bk, me, al, so) (nI k) x7 := by
  have htk := ht k
  have v : vp_in (nI k) 22 := vp_in_nI (by omega) (by omega)
  have cl : (nI k).toNatClampNeg = k := nI_clamp (by omega)
  obtain ⟨F1, F2, F3⟩ := F k hk
  have hk2 := dd_tok W hk
  unfold wpX_nextOf
  dsimp only
  refine dx_comp ht (by omega) (fun w => br_f (by decide) ?_) (fun w => br_t rfl ⟨v, ?_⟩)
  · rw [dd_on, if_pos w] at h
    rw [nI_1]; exact h
  · rw [dd_tk_c (by omega)]
    refine pk_eq (t k) 1 (fun e => ⟨v, ?_⟩) (fun e => ?_)
    · rw [dd_on, if_neg (by omega), if_pos (by omega), if_pos e] at h
      rw [cl, F3]; exact h
    · have e23 : t k ≠ 19 ∧ t k ≠ 20 ∧ t k ≠ 21 ∧ t k ≠ 22 := by
        refine ⟨fun e => ?_, fun e => ?_, fun e => ?_, fun e => ?_⟩ <;> (rw [e] at w; cases w)
      rw [dd_on, if_neg (by omega)] at h
      rw [cl, F1, F2]
      rcases hw with ⟨o, ex⟩ | ⟨o, ex⟩
      · have o' := o
        unfold dd_op at o'
        rw [if_neg (by omega), if_neg (by omega)] at h
        cases b
        · rw [if_neg (fun z => by cases z.2)] at h
          exact br_t (by rw [ex]; rfl) ⟨v, h⟩
        · rw [if_pos ⟨o, rfl⟩] at h
          exact br_f (by rw [ex]; decide) ⟨v, h⟩
      · have o' := o
        unfold dd_op at o'
        by_cases e17 : t k = 17
        · rw [if_neg (by omega), if_neg (by omega), if_neg (fun z => o z.1)] at h
          exact br_t (by rw [ex, if_pos e17]) ⟨v, h⟩
        · refine br_f (by rw [ex, if_neg e17]; decide) ⟨v, ?_⟩
          by_cases e16 : t k < 16
          · rw [if_pos e16, if_neg e] at h; exact h
          · have e16' : t k = 16 := by omega
            rw [if_neg e16, if_pos e16'] at h; exact h
theorem dx_run137 {post : Int32 → SX → Prop} {J31 : Int32 → Int32 → Int32 → Int32 → Int32 → Int32 → Int32 → Int32 → Int32 → Int32 → (Nat → Int32) → (Nat → Int32) → (Nat → Int32) → (Nat → Int32) → (Nat → Int32) → (Nat → Int32) → (Nat → Int32) → (Nat → Int32) → (Nat → Int32) → (Nat → Int32) → Prop}
    {t : Nat → Nat} {n k a : Nat} {x1 x4 x7 z0 z1 : Int32} {b : Bool} (ht : ∀ j, t j < 32) (h22 : n ≤ 22) (W : dd_WF t n) (hk : k < n) (F : dd_XF t n wt wf bk)
    (hw : (dd_op (t k) ∧ x7 = (if b = true then 1 else 0)) ∨ (¬ dd_op (t k) ∧ x7 = (if t k = 17 then 0 else 1))) (ea : z1 + z0 = nI a)
    (h : J31 (nI (dd_on t n k b)) (nI a) x4 sz oc li wa (dd_ns t k sr) vr (dd_nf t k sr fr) (dd_tk t) ot oh pa wt wf bk me al so) : wX_run_137 post J31 x1 (nI k) x4 (nI (t k)) x7 z0 z1 sz oc li wa sr vr fr (dd_tk t) ot oh pa wt wf bk me al so :=
  nm_r ea (dx_act ht (dx_next ht h22 W hk F hw h))
theorem dx_run86 {post : Int32 → SX → Prop} {J31 : Int32 → Int32 → Int32 → Int32 → Int32 → Int32 → Int32 → Int32 → Int32 → Int32 → (Nat → Int32) → (Nat → Int32) → (Nat → Int32) → (Nat → Int32) → (Nat → Int32) → (Nat → Int32) → (Nat → Int32) → (Nat → Int32) → (Nat → Int32) → (Nat → Int32) → Prop}
    {t : Nat → Nat} {n k a : Nat} {dec x4 z : Int32} (ht : ∀ j, t j < 32) (h22 : n ≤ 22) (W : dd_WF t n) (hk : k < n) (ha : a < 1000) (F : dd_XF t n wt wf bk) (hz : (dd_op (t k) ∧ z = 1) ∨ (¬ dd_op (t k) ∧ z = 0))
    (h : J31 (nI (dd_on t n k (bt dec (a % 32)))) (nI (dd_na t k a)) x4 sz oc li wa (dd_ns t k sr) vr (dd_nf t k sr fr) (dd_tk t) ot oh pa wt wf bk me al so) : wX_run_86 post J31 dec (nI k) (nI a) x4 (nI (t k)) z sz oc li wa sr vr fr (dd_tk t) ot oh pa wt wf bk me al so := by
  have htk := ht k
  unfold dd_na at h
  rcases hz with ⟨o, e⟩ | ⟨o, e⟩
  · subst e
    rw [if_pos o] at h
    refine br_f (by decide) ?_
    have e31 : nI a &&& 31 = nI (a % 32) := pk_andN (by omega) 5 (by decide)
    rw [e31, rw_ubit0 _ (by omega)]
    refine br_c (fun g => br_f (by decide) (dx_run137 (b := bt dec (a % 32)) ht h22 W hk F (Or.inl ⟨o, ?_⟩) (nI_1 a) h)) (fun g => br_f (by decide) (dx_run137 (b := bt dec (a % 32)) ht h22 W hk F (Or.inl ⟨o, ?_⟩) (nI_1 a) h))
    · rw [g]; rfl
    · rw [if_pos]
      cases hb : bt dec (a % 32)
      · exact absurd hb g
      · rfl
  · subst e
    rw [if_neg o] at h
    refine br_t rfl (pk_eq (t k) 17 (fun g => br_t rfl (dx_run137 ht h22 W hk F (Or.inr ⟨o, ?_⟩) (Int32.add_zero _) h)) (fun g => br_t rfl (dx_run137 ht h22 W hk F (Or.inr ⟨o, ?_⟩) (Int32.add_zero _) h)))
    · rw [if_pos g]
    · rw [if_neg g]
theorem dx_run31 {post : Int32 → SX → Prop} {t : Nat → Nat} {n : Nat} {dec : Int32} (ht : ∀ j, t j < 32) (h22 : n ≤ 22) (W : dd_WF t n) (hn : dd_ob t n = []) (F : dd_XF t n wt wf bk) :
    ∀ (d k a c : Nat) (sr vr fr : Int32), c + d = 100 → a ≤ c → dd_gd n k → post (nI (c + (dd_rn t n dec d k a sr vr fr).1)) (sz, oc, li, wa, (dd_rn t n dec d k a sr vr fr).2.1, (dd_rn t n dec d k a sr vr fr).2.2.1, (dd_rn t n dec d k a sr vr fr).2.2.2, dd_tk t, ot, oh, pa, wt, wf, bk, me, al, so) → wX_run_31 post dec (d + 1) (nI k) (nI a) (nI c) sz oc li wa sr vr fr (dd_tk t) ot oh pa wt wf bk me al so := by
  intro d
  induction d with
  | zero =>
    intro k a c sr vr fr h1 h2 h3 h
    rw [wX_run_31]
    have e : c = 100 := by omega
    subst e
    exact br_c (fun _ => h) (fun _ => br_t (nI_le (a := 100) (b := 100) (by omega) (by decide)) h)
  | succ d ih =>
    intro k a c sr vr fr h1 h2 h3 h
    rw [wX_run_31]
    have hk22 := dd_gd_le h3 h22
    by_cases e : k = 22
    · subst e
      rw [dd_rn, if_pos rfl] at h
      exact br_t rfl h
    · have hk : k < n := by
        rcases h3 with h3 | h3
        · exact h3
        · exact absurd h3 e
      rw [dd_rn, if_neg e] at h
      have htk := ht k
      have hna := dd_na_le t k a
      have v : vp_in (nI k) 22 := vp_in_nI (by omega) (by omega)
      have I := ih (dd_on t n k (bt dec (a % 32))) (dd_na t k a) (c + 1) (dd_ns t k sr) (dd_nv k vr) (dd_nf t k sr fr) (by omega) (by omega) (dd_on_gd W hn hk _)
      rw [show c + 1 + (dd_rn t n dec d (dd_on t n k (bt dec (a % 32))) (dd_na t k a) (dd_ns t k sr) (dd_nv k vr) (dd_nf t k sr fr)).1 = c + ((dd_rn t n dec d (dd_on t n k (bt dec (a % 32))) (dd_na t k a) (dd_ns t k sr) (dd_nv k vr) (dd_nf t k sr fr)).1 + 1) by omega] at I
      have I := I h
      refine pk_eq k 22 (fun z => absurd z e) (fun _ => br_f (nI_ge (a := c) (b := 100) (by omega) (by decide)) (nm_r (nI_1 c) (nm_r (e' := dd_nv k vr) rfl ⟨v, nm_r (e' := nI (t k)) (dd_tk_c (by omega)) ?_⟩)))
      refine pk_eq (t k) 18 (fun g => ?_) (fun g => pk_lt (t k) 24 (fun g2 => ?_) (fun g2 => ?_))
      · exact dx_run86 ht h22 W hk (by omega) F (Or.inl ⟨Or.inl g, rfl⟩) I
      · exact dx_run86 ht h22 W hk (by omega) F (Or.inr ⟨by unfold dd_op; omega, rfl⟩) I
      · exact dx_run86 ht h22 W hk (by omega) F (Or.inl ⟨Or.inr g2, rfl⟩) I
end
section
variable {sz rs rv rf : Int32} {T nx ye no ou co pl : Nat → Int32}
theorem dy_run115 {post : Int32 → SY → Prop} {J31 : Int32 → Int32 → Int32 → Int32 → Int32 → Int32 → Prop} {t : Nat → Nat} {n k a : Nat} {dec x3 z : Int32} (ht : ∀ j, t j < 32) (h22 : n ≤ 22) (hk : k < n) (ha : a < 1000) (F : dd_YF t n nx ye no ou)
    (h : J31 (nI (dd_on t n k (bt dec (a % 32)))) x3 (nI (dd_na t k a)) (dd_ns t k rs) rv z) : wY_run_115 post J31 dec (nI k) x3 (nI a) z sz rs rv rf (dd_tk t) nx ye no ou co pl := by
  have htk := ht k
  have e31 : nI a &&& 31 = nI (a % 32) := pk_andN (by omega) 5 (by decide)
  have K : ∀ s, s = dd_ns t k rs → ((((dec >>> ((nI a &&& 31) &&& 31)) &&& 1) = 1 → wY_run_149 post J31 dec (nI k) x3 (nI a) 1 sz s rv z (dd_tk t) nx ye no ou co pl) ∧ (¬ ((dec >>> ((nI a &&& 31) &&& 31)) &&& 1) = 1 → wY_run_149 post J31 dec (nI k) x3 (nI a) 0 sz s rv z (dd_tk t) nx ye no ou co pl)) := by
    intro s es
    subst es
    have K2 : ∀ w : Int32, w = (if bt dec (a % 32) = true then 1 else 0) → wY_run_149 post J31 dec (nI k) x3 (nI a) w sz (dd_ns t k rs) rv z (dd_tk t) nx ye no ou co pl := by
      intro w ew
      unfold dd_na at h
      refine ⟨vp_in_nI (by omega) (by omega), dy_open (t k) (dd_tk_c (by omega)) htk (fun o => br_f (by decide) ?_) (fun o => br_t rfl ?_)⟩
      · rw [if_pos o] at h
        unfold wY_run_173
        rw [nI_1]
        exact dy_on (bt dec (a % 32)) ht h22 hk F ew h
      · rw [if_neg o] at h
        exact dy_on (bt dec (a % 32)) ht h22 hk F ew h
    rw [e31, rw_bit1 _ (by omega)]
    refine br_c (fun g => K2 1 (by rw [if_pos g])) (fun g => K2 0 (by rw [if_neg g]))
  refine dy_after ht (by omega) (fun g => K _ ?_) (fun g => K _ ?_)
  · rw [dd_ns, if_pos g]
  · rw [dd_ns, if_neg g]
theorem dy_run31 {post : Int32 → SY → Prop} {t : Nat → Nat} {n : Nat} {dec : Int32} (ht : ∀ j, t j < 32) (h22 : n ≤ 22) (W : dd_WF t n) (hn : dd_ob t n = []) (F : dd_YF t n nx ye no ou) :
    ∀ (d k a c : Nat) (rs rv rf : Int32), c + d = 100 → a ≤ c → dd_gd n k → post (nI (c + (dd_rn t n dec d k a rs rv rf).1)) (sz, (dd_rn t n dec d k a rs rv rf).2.1, (dd_rn t n dec d k a rs rv rf).2.2.1, (dd_rn t n dec d k a rs rv rf).2.2.2, dd_tk t, nx, ye, no, ou, co, pl) → wY_run_31 post dec sz (dd_tk t) nx ye no ou co pl (d + 1) (nI k) (nI c) (nI a) rs rv rf := by
  intro d
  induction d with
  | zero =>
    intro k a c rs rv rf h1 h2 h3 h
    rw [wY_run_31]
    have e : c = 100 := by omega
    subst e
    exact br_c (fun _ => h) (fun _ => br_t (nI_le (a := 100) (b := 100) (by omega) (by decide)) h)
  | succ d ih =>
    intro k a c rs rv rf h1 h2 h3 h
    rw [wY_run_31]
    have hk22 := dd_gd_le h3 h22
    by_cases e : k = 22
    · subst e
      rw [dd_rn, if_pos rfl] at h
      exact br_t (nI_le (a := 22) (b := 22) (by omega) (by decide)) h
    · have hk : k < n := by
        rcases h3 with h3 | h3
        · exact h3
        · exact absurd h3 e
      rw [dd_rn, if_neg e] at h
      have htk := ht k
      have hna := dd_na_le t k a
      have v : vp_in (nI k) 22 := vp_in_nI (by omega) (by omega)
      have I := ih (dd_on t n k (bt dec (a % 32))) (dd_na t k a) (c + 1) (dd_ns t k rs) (dd_nv k rv) (dd_nf t k rs rf) (by omega) (by omega) (dd_on_gd W hn hk _)
      rw [show c + 1 + (dd_rn t n dec d (dd_on t n k (bt dec (a % 32))) (dd_na t k a) (dd_ns t k rs) (dd_nv k rv) (dd_nf t k rs rf)).1 = c + ((dd_rn t n dec d (dd_on t n k (bt dec (a % 32))) (dd_na t k a) (dd_ns t k rs) (dd_nv k rv) (dd_nf t k rs rf)).1 + 1) by omega] at I
      have I := I h
      have eb : ((rs >>> ((nI (t k) &&& 3) &&& 31)) &&& 1) = 0 ↔ bt rs (t k % 4) = false := by
        rw [rw_a3 _ htk]
        exact rw_bit0 _ (by omega)
      have K0 : dd_nf t k rs rf = rf → wY_run_93 post (wY_run_31 post dec sz (dd_tk t) nx ye no ou co pl (d + 1)) dec (nI k) (nI (c + 1)) (nI a) sz rs (dd_nv k rv) rf (dd_tk t) nx ye no ou co pl := fun ef => br_t rfl (dy_run115 ht h22 hk (by omega) F (by rw [ef] at I; exact I))
      have K1 : dd_nf t k rs rf = rf + 1 → wY_run_94 post (wY_run_31 post dec sz (dd_tk t) nx ye no ou co pl (d + 1)) dec (nI k) (nI (c + 1)) (nI a) 1 sz rs (dd_nv k rv) rf (dd_tk t) nx ye no ou co pl := fun ef => br_f (by decide) (dy_run115 ht h22 hk (by omega) F (by rw [ef] at I; exact I))
      refine br_f (nI_ge (a := k) (b := 22) (by omega) (by decide)) (br_f (nI_ge (a := c) (b := 100) (by omega) (by decide)) (nm_r (nI_1 c) (nm_r (e' := dd_nv k rv) rfl ⟨v, dy_uses (t k) (dd_tk_c (by omega)) htk (fun u => br_f (by decide) ⟨v, ?_⟩) (fun u => br_t rfl (K0 ?_))⟩)))
      · rw [dd_tk_c (by omega), eb]
        refine br_c (fun g => K1 ?_) (fun g => K0 ?_)
        · rw [dd_nf, if_pos ⟨u, g⟩]
        · rw [dd_nf, if_neg (fun z => g z.2)]
      · rw [dd_nf, if_neg (fun z => u z.1)]
end
end
section
/-! ===== the relation, and what is owed ===== -/
def dd_SX (t : Nat → Nat) (n : Nat) (sr vr fr : Int32) (u : SX) : Prop := ∃ oc li wa ot oh pa wt wf bk me al so, u = (nI n, oc, li, wa, sr, vr, fr, dd_tk t, ot, oh, pa, wt, wf, bk, me, al, so) ∧ (li = 0 ∨ (li = 1 ∧ dd_XF t n wt wf bk ∧ dd_An t n me al so))
def dd_SY (t : Nat → Nat) (n : Nat) (rs rv rf : Int32) (v : SY) : Prop := ∃ nx ye no ou co pl, v = (nI n, rs, rv, rf, dd_tk t, nx, ye, no, ou, co, pl)
/-- one program on both sides, well formed as far as it goes; one last run; the component's sets, if they are worked out, are those of the walks -/
def i_Rel (_ : Nat) (u : SX) (v : SY) : Prop := ∃ t n sr vr fr, (∀ j, t j < 32) ∧ n ≤ 22 ∧ dd_WF t n ∧ dd_SX t n sr vr fr u ∧ dd_SY t n sr vr fr v
theorem i_up {k : Nat} {u : SX} {v : SY} (h : i_Rel k u v) : i_Rel (k + 2) u v := h
section
variable {sz oc li wa sr vr fr : Int32} {T ot oh pa wt wf bk me al so nx ye no ou co pl : Nat → Int32}
theorem dd_mk {k : Nat} {t : Nat → Nat} {n : Nat} (ht : ∀ j, t j < 32) (hn : n ≤ 22) (W : dd_WF t n) (hl : li = 0 ∨ (li = 1 ∧ dd_XF t n wt wf bk ∧ dd_An t n me al so)) : i_Rel k (nI n, oc, li, wa, sr, vr, fr, dd_tk t, ot, oh, pa, wt, wf, bk, me, al, so) (nI n, sr, vr, fr, dd_tk t, nx, ye, no, ou, co, pl) :=
  ⟨t, n, sr, vr, fr, ht, hn, W, ⟨oc, li, wa, ot, oh, pa, wt, wf, bk, me, al, so, rfl, hl⟩, ⟨nx, ye, no, ou, co, pl, rfl⟩⟩
end
theorem dd_el {k : Nat} {u : SX} {v : SY} {P : SX → SY → Prop} (I : i_Rel k u v)
    (h : ∀ t n sr vr fr oc li wa ot oh pa wt wf bk me al so nx ye no ou co pl, (∀ j, t j < 32) → n ≤ 22 → dd_WF t n → (li = 0 ∨ (li = 1 ∧ dd_XF t n wt wf bk ∧ dd_An t n me al so)) → P (nI n, oc, li, wa, sr, vr, fr, dd_tk t, ot, oh, pa, wt, wf, bk, me, al, so) (nI n, sr, vr, fr, dd_tk t, nx, ye, no, ou, co, pl)) : P u v := by
  obtain ⟨t, n, sr, vr, fr, ht, hn, W, ⟨oc, li, wa, ot, oh, pa, wt, wf, bk, me, al, so, rfl, hl⟩, ⟨nx, ye, no, ou, co, pl, rfl⟩⟩ := I
  exact h _ _ _ _ _ _ _ _ _ _ _ _ _ _ _ _ _ _ _ _ _ _ _ ht hn W hl
theorem dd_tk0 : dd_tk (fun _ => 0) = (fun _ => 0) := rfl
theorem i_vc0 : wpX_init (fun u => wpY_init (fun v => i_Rel 0 u v)) := by
  unfold wpX_init wpY_init
  exact dd_mk (t := fun _ => 0) (n := 0) (fun _ => by decide) (by omega) (dd_WF_0 _) (Or.inl rfl)
theorem dd_rng {A B : Prop} {x : Int32} {n : Nat} (hn : n ≤ 22) (h0 : (¬ ∃ j, j < n ∧ x = nI j) → A) (h1 : ∀ j, j < n → x = nI j → B) : (x < 0 → A) ∧ (¬ x < 0 → ((nI n ≤ x → A) ∧ (¬ nI n ≤ x → B))) := by
  rcases pk_ix x (n := n) (by omega) with h | h | ⟨j, hj, e⟩
  · refine br_t h (h0 ?_)
    rintro ⟨j, hj, e⟩
    subst e
    exact nI_pos (by omega) h
  · refine br_c (fun g => h0 ?_) (fun g => br_t h (h0 ?_))
    · rintro ⟨j, hj, e⟩
      subst e
      exact nI_pos (by omega) g
    · rintro ⟨j, hj, e⟩
      subst e
      exact nI_ge hj (by omega) h
  · have B' := h1 j hj e
    subst e
    exact br_f (nI_pos (by omega)) (br_f (nI_ge hj (by omega)) B')
section
variable {sz rs rv rf : Int32} {T nx ye no ou co pl : Nat → Int32}
theorem dd_z9b {post : Int32 → SY → Prop} {x y : Int32} (h : post x (sz, rs, rv, rf, T, nx, ye, no, ou, co, pl)) : wY_badUses_9 post 0 sz rs rv rf T nx ye no ou co pl 1 x y := by
  rw [wY_badUses_9]
  exact br_c (fun _ => h) (fun _ => br_t rfl h)
theorem dd_z9s {post : Int32 → SY → Prop} {x y : Int32} (h : post x (sz, rs, rv, rf, T, nx, ye, no, ou, co, pl)) : wY_secondSets_9 post 0 sz rs rv rf T nx ye no ou co pl 1 x y := by
  rw [wY_secondSets_9]
  exact br_c (fun _ => h) (fun _ => br_t rfl h)
end
theorem i_vc_feed {k : Nat} {u : SX} {v : SY} (I : i_Rel k u v) (hk : k + 2 ≤ 1024) (v1 : Int32) : wpX_feed (fun r u' => wpY_feed (fun r' v' => r' = r ∧ i_Rel (k + 2) u' v') v v1) u v1 := by
  refine dd_el (P := fun u v => wpX_feed (fun r u' => wpY_feed (fun r' v' => r' = r ∧ i_Rel (k + 2) u' v') v v1) u v1) I ?_
  intro t n sr vr fr oc li wa ot oh pa wt wf bk me al so nx ye no ou co pl ht hn W hl
  refine dx_feed ht hn W (fun hf oc ot oh pa => ?_) (fun x R hl' hL hb oc ot oh pa => ?_) (fun x R hl' hL hb oc ot oh pa => ?_)
  · refine dy_feed ht hn W (fun _ pl => ⟨rfl, dd_mk ht hn W hl⟩) (fun x R h1 h2 _ pl => ?_) (fun x R h1 h2 _ pl => ?_)
    · exfalso
      rcases hf with e | e
      · omega
      · rw [e] at h2; cases h2
    · exfalso
      rcases hf with e | e
      · omega
      · rw [e] at h2; cases h2
  · refine dy_feed ht hn W (fun hf pl => ?_) (fun x R h1 h2 _ pl => ⟨rfl, dd_mk ht hn W hl⟩) (fun x' R' h1 h2 hb' pl => ?_)
    · exfalso
      rcases hf with e | e
      · omega
      · rw [e] at hL; cases hL
    · exfalso
      rw [hL] at h2
      cases h2
      rcases hb with ⟨a, b⟩ | ⟨a, b⟩ <;> rcases hb' with ⟨a', b'⟩ | ⟨a', b'⟩
      · exact b b'
      · omega
      · omega
      · exact b b'
  · refine dy_feed ht hn W (fun hf pl => ?_) (fun x' R' h1 h2 hb' pl => ?_) (fun x' R' h1 h2 hb' pl => ⟨rfl, ?_⟩)
    · exfalso
      rcases hf with e | e
      · omega
      · rw [e] at hL; cases hL
    · exfalso
      rw [hL] at h2
      cases h2
      rcases hb with ⟨a, b⟩ | ⟨a, b⟩ <;> rcases hb' with ⟨a', b'⟩ | ⟨a', b'⟩
      · exact b' b
      · omega
      · omega
      · exact b' b
    · have hc : ∃ c, c < 32 ∧ v1 = nI c ∧ dd_ok (dd_kd t x) c := by
        rcases hb with ⟨a, b⟩ | ⟨a, b⟩
        · obtain ⟨c, c1, c2, c3⟩ := dd_is_c b
          exact ⟨c, c1, c2, fun _ => c3, fun z => by omega⟩
        · obtain ⟨c, c1, c2, c3⟩ := dd_ic_c b
          exact ⟨c, c1, c2, fun z => by omega, fun _ => c3⟩
      obtain ⟨c, c1, c2, c3⟩ := hc
      subst c2
      rw [rw_by c (by omega), dd_tk_pu]
      refine dd_mk (fun j => ?_) (by omega) (dd_WF_pu W hL c3) (Or.inl rfl)
      unfold dd_pu
      split
      · exact c1
      · exact ht j
theorem i_vc_back {k : Nat} {u : SX} {v : SY} (I : i_Rel k u v) (hk : k + 2 ≤ 1024) : wpX_back (fun r u' => wpY_back (fun r' v' => r' = r ∧ i_Rel (k + 2) u' v') v) u := by
  refine dd_el (P := fun u v => wpX_back (fun r u' => wpY_back (fun r' v' => r' = r ∧ i_Rel (k + 2) u' v') v) u) I ?_
  intro t n sr vr fr oc li wa ot oh pa wt wf bk me al so nx ye no ou co pl ht hn W hl
  refine pk_eq n 0 (fun e => ?_) (fun e => ?_)
  · subst e
    exact br_t rfl ⟨rfl, dd_mk ht hn W hl⟩
  · have e1 : nI n - 1 = nI (n - 1) := pk_sub (b := 1) (by omega)
    have v2 : vp_in (nI (n - 1)) 22 := vp_in_nI (by omega) (by omega)
    exact nm_r e1 ⟨v2, br_f (nI_ne0 (by omega) (by omega)) (nm_r e1 ⟨v2, rfl, dd_mk ht (by omega) (dd_WF_le (by omega) W) (Or.inl rfl)⟩)⟩
theorem i_vc_clear {k : Nat} {u : SX} {v : SY} (I : i_Rel k u v) (hk : k + 2 ≤ 1024) : wpX_clear (fun u' => wpY_clear (fun v' => i_Rel (k + 2) u' v') v) u := by
  refine dd_el (P := fun u v => wpX_clear (fun u' => wpY_clear (fun v' => i_Rel (k + 2) u' v') v) u) I ?_
  intro t n sr vr fr oc li wa ot oh pa wt wf bk me al so nx ye no ou co pl ht hn W hl
  exact dd_mk (k := k + 2) (n := 0) ht (by omega) (dd_WF_0 t) (Or.inl rfl)
theorem i_vc_length {k : Nat} {u : SX} {v : SY} (I : i_Rel k u v) (hk : k + 2 ≤ 1024) : wpX_length (fun r => wpY_length (fun r' => r' = r ∧ i_Rel (k + 2) u v) v) u := by
  refine dd_el (P := fun u v => wpX_length (fun r => wpY_length (fun r' => r' = r ∧ i_Rel (k + 2) u v) v) u) I ?_
  intro t n sr vr fr oc li wa ot oh pa wt wf bk me al so nx ye no ou co pl ht hn W hl
  exact ⟨rfl, dd_mk ht hn W hl⟩
theorem i_vc_runSet {k : Nat} {u : SX} {v : SY} (I : i_Rel k u v) (hk : k + 2 ≤ 1024) : wpX_runSet (fun r => wpY_runSet (fun r' => r' = r ∧ i_Rel (k + 2) u v) v) u := by
  refine dd_el (P := fun u v => wpX_runSet (fun r => wpY_runSet (fun r' => r' = r ∧ i_Rel (k + 2) u v) v) u) I ?_
  intro t n sr vr fr oc li wa ot oh pa wt wf bk me al so nx ye no ou co pl ht hn W hl
  exact ⟨rfl, dd_mk ht hn W hl⟩
theorem i_vc_runVisited {k : Nat} {u : SX} {v : SY} (I : i_Rel k u v) (hk : k + 2 ≤ 1024) : wpX_runVisited (fun r => wpY_runVisited (fun r' => r' = r ∧ i_Rel (k + 2) u v) v) u := by
  refine dd_el (P := fun u v => wpX_runVisited (fun r => wpY_runVisited (fun r' => r' = r ∧ i_Rel (k + 2) u v) v) u) I ?_
  intro t n sr vr fr oc li wa ot oh pa wt wf bk me al so nx ye no ou co pl ht hn W hl
  exact ⟨rfl, dd_mk ht hn W hl⟩
theorem i_vc_runFaults {k : Nat} {u : SX} {v : SY} (I : i_Rel k u v) (hk : k + 2 ≤ 1024) : wpX_runFaults (fun r => wpY_runFaults (fun r' => r' = r ∧ i_Rel (k + 2) u v) v) u := by
  refine dd_el (P := fun u v => wpX_runFaults (fun r => wpY_runFaults (fun r' => r' = r ∧ i_Rel (k + 2) u v) v) u) I ?_
  intro t n sr vr fr oc li wa ot oh pa wt wf bk me al so nx ye no ou co pl ht hn W hl
  exact ⟨rfl, dd_mk ht hn W hl⟩
theorem i_vc_complete {k : Nat} {u : SX} {v : SY} (I : i_Rel k u v) (hk : k + 2 ≤ 1024) : wpX_complete (fun r u' => wpY_complete (fun r' v' => r' = r ∧ i_Rel (k + 2) u' v') v) u := by
  refine dd_el (P := fun u v => wpX_complete (fun r u' => wpY_complete (fun r' v' => r' = r ∧ i_Rel (k + 2) u' v') v) u) I ?_
  intro t n sr vr fr oc li wa ot oh pa wt wf bk me al so nx ye no ou co pl ht hn W hl
  refine dx_complete ht hn W (fun ho h0 oc ot oh pa P => ?_) (fun ho oc ot oh pa => ?_)
  · exact dy_complete ht hn W (fun _ pl => ⟨rfl, dd_mk ht hn W hl⟩) (fun z => absurd ho z)
  · exact dy_complete ht hn W (fun z => absurd z ho) (fun _ pl => ⟨rfl, dd_mk ht hn W hl⟩)
theorem i_vc_visited {k : Nat} {u : SX} {v : SY} (I : i_Rel k u v) (hk : k + 2 ≤ 1024) : wpX_visited (fun r u' => wpY_visited (fun r' v' => r' = r ∧ i_Rel (k + 2) u' v') v) u := by
  refine dd_el (P := fun u v => wpX_visited (fun r u' => wpY_visited (fun r' v' => r' = r ∧ i_Rel (k + 2) u' v') v) u) I ?_
  intro t n sr vr fr oc li wa ot oh pa wt wf bk me al so nx ye no ou co pl ht hn W hl
  unfold wpX_visited
  dsimp only
  refine dx_learn ht hn W hl (fun ho h0 oc wa ot oh pa wt wf bk me al so F A => ?_) (fun ho oc ot oh pa => br_t rfl ?_)
  · refine br_f (by decide) ⟨n + 1, dx_vis13 hn A (fun r hr => ?_) (n + 1) 0 0 (by omega) (by omega) (dd_msk_0 _)⟩
    unfold wpY_visited
    dsimp only
    exact dy_explore ht hn W (fun _ nx ye no ou co pl Y => br_f (by decide) ⟨n + 1, dy_vis13 hn Y (fun r' hr' => ⟨dd_msk_un hr hr', dd_mk ht hn W (Or.inr ⟨rfl, F, A⟩)⟩) (n + 1) 0 0 (by omega) (by omega) (dd_msk_0 _)⟩) (fun z => absurd ho z)
  · unfold wpY_visited
    dsimp only
    exact dy_explore ht hn W (fun z => absurd z ho) (fun _ pl => br_t rfl ⟨rfl, dd_mk ht hn W hl⟩)
theorem i_vc_badUses {k : Nat} {u : SX} {v : SY} (I : i_Rel k u v) (hk : k + 2 ≤ 1024) : wpX_badUses (fun r u' => wpY_badUses (fun r' v' => r' = r ∧ i_Rel (k + 2) u' v') v) u := by
  refine dd_el (P := fun u v => wpX_badUses (fun r u' => wpY_badUses (fun r' v' => r' = r ∧ i_Rel (k + 2) u' v') v) u) I ?_
  intro t n sr vr fr oc li wa ot oh pa wt wf bk me al so nx ye no ou co pl ht hn W hl
  unfold wpX_badUses
  dsimp only
  refine dx_learn ht hn W hl (fun ho h0 oc wa ot oh pa wt wf bk me al so F A => ?_) (fun ho oc ot oh pa => br_t rfl ?_)
  · refine br_f (by decide) ⟨n + 1, dx_bad13 ht hn A (fun r hr => ?_) (n + 1) 0 0 (by omega) (by omega) (dd_msk_0 _)⟩
    unfold wpY_badUses
    dsimp only
    exact dy_explore ht hn W (fun _ nx ye no ou co pl Y => ⟨16 * n + 1, dy_bad9 (by decide) ht hn (fun r' hr' => ⟨dd_msk_un hr (dd_mc_b hn Y hr'), dd_mk ht hn W (Or.inr ⟨rfl, F, A⟩)⟩) (16 * n + 1) 0 0 (by omega) (by omega) (fun i hi => by rw [b_0]; exact ⟨fun z => (by cases z), fun ⟨c', z, _⟩ => absurd z (by omega)⟩)⟩) (fun z => absurd ho z)
  · unfold wpY_badUses
    dsimp only
    exact dy_explore ht hn W (fun z => absurd z ho) (fun _ pl => ⟨1, dd_z9b ⟨rfl, dd_mk ht hn W hl⟩⟩)
theorem i_vc_secondSets {k : Nat} {u : SX} {v : SY} (I : i_Rel k u v) (hk : k + 2 ≤ 1024) : wpX_secondSets (fun r u' => wpY_secondSets (fun r' v' => r' = r ∧ i_Rel (k + 2) u' v') v) u := by
  refine dd_el (P := fun u v => wpX_secondSets (fun r u' => wpY_secondSets (fun r' v' => r' = r ∧ i_Rel (k + 2) u' v') v) u) I ?_
  intro t n sr vr fr oc li wa ot oh pa wt wf bk me al so nx ye no ou co pl ht hn W hl
  unfold wpX_secondSets
  dsimp only
  refine dx_learn ht hn W hl (fun ho h0 oc wa ot oh pa wt wf bk me al so F A => ?_) (fun ho oc ot oh pa => br_t rfl ?_)
  · refine br_f (by decide) ⟨n + 1, dx_sec13 ht hn A (fun r hr => ?_) (n + 1) 0 0 (by omega) (by omega) (dd_msk_0 _)⟩
    unfold wpY_secondSets
    dsimp only
    exact dy_explore ht hn W (fun _ nx ye no ou co pl Y => ⟨16 * n + 1, dy_sec9 (by decide) ht hn (fun r' hr' => ⟨dd_msk_un hr (dd_mc_s hn Y hr'), dd_mk ht hn W (Or.inr ⟨rfl, F, A⟩)⟩) (16 * n + 1) 0 0 (by omega) (by omega) (fun i hi => by rw [b_0]; exact ⟨fun z => (by cases z), fun ⟨c', z, _⟩ => absurd z (by omega)⟩)⟩) (fun z => absurd ho z)
  · unfold wpY_secondSets
    dsimp only
    exact dy_explore ht hn W (fun z => absurd z ho) (fun _ pl => ⟨1, dd_z9s ⟨rfl, dd_mk ht hn W hl⟩⟩)
theorem i_vc_ends {k : Nat} {u : SX} {v : SY} (I : i_Rel k u v) (hk : k + 2 ≤ 1024) : wpX_ends (fun r u' => wpY_ends (fun r' v' => r' = r ∧ i_Rel (k + 2) u' v') v) u := by
  refine dd_el (P := fun u v => wpX_ends (fun r u' => wpY_ends (fun r' v' => r' = r ∧ i_Rel (k + 2) u' v') v) u) I ?_
  intro t n sr vr fr oc li wa ot oh pa wt wf bk me al so nx ye no ou co pl ht hn W hl
  unfold wpX_ends
  dsimp only
  refine dx_learn ht hn W hl (fun ho h0 oc wa ot oh pa wt wf bk me al so F A => ?_) (fun ho oc ot oh pa => br_t rfl ?_)
  · refine br_f (by decide) (br_c (fun g => ?_) (fun g => ?_))
    all_goals have A3 := (dd_An_al A (j := 22) (by omega)).2.2
    · unfold wpY_ends
      dsimp only
      refine dy_explore ht hn W (fun _ nx ye no ou co pl Y => br_f (by decide) (br_t (Classical.byContradiction (fun z => ?_)) ⟨rfl, dd_mk ht hn W (Or.inr ⟨rfl, F, A⟩)⟩)) (fun z => absurd ho z)
      exact (A3.mpr ((dd_Yn_v Y (j := 22) (by omega)).mp z)) g
    unfold wpY_ends
    dsimp only
    exact dy_explore ht hn W (fun _ nx ye no ou co pl Y => br_f (by decide) (br_f ((dd_Yn_v Y (j := 22) (by omega)).mpr (A3.mp g)) ⟨rfl, dd_mk ht hn W (Or.inr ⟨rfl, F, A⟩)⟩)) (fun z => absurd ho z)
  · unfold wpY_ends
    dsimp only
    exact dy_explore ht hn W (fun z => absurd z ho) (fun _ pl => br_t rfl ⟨rfl, dd_mk ht hn W hl⟩)
theorem i_vc_surelyAtEnd {k : Nat} {u : SX} {v : SY} (I : i_Rel k u v) (hk : k + 2 ≤ 1024) : wpX_surelyAtEnd (fun r u' => wpY_surelyAtEnd (fun r' v' => r' = r ∧ i_Rel (k + 2) u' v') v) u := by
  refine dd_el (P := fun u v => wpX_surelyAtEnd (fun r u' => wpY_surelyAtEnd (fun r' v' => r' = r ∧ i_Rel (k + 2) u' v') v) u) I ?_
  intro t n sr vr fr oc li wa ot oh pa wt wf bk me al so nx ye no ou co pl ht hn W hl
  unfold wpX_surelyAtEnd
  dsimp only
  refine dx_learn ht hn W hl (fun ho h0 oc wa ot oh pa wt wf bk me al so F A => ?_) (fun ho oc ot oh pa => br_t rfl ?_)
  · refine br_f (by decide) ?_
    have hr := (dd_An_al A (j := 22) (by omega)).1
    unfold wpY_surelyAtEnd
    dsimp only
    exact dy_explore ht hn W (fun _ nx ye no ou co pl Y => br_f (by decide) (dy_overA (j := 22) rfl (by omega) Y (fun r' hr' => ⟨dd_al_un hr hr', dd_mk ht hn W (Or.inr ⟨rfl, F, A⟩)⟩))) (fun z => absurd ho z)
  · unfold wpY_surelyAtEnd
    dsimp only
    exact dy_explore ht hn W (fun z => absurd z ho) (fun _ pl => br_t rfl ⟨rfl, dd_mk ht hn W hl⟩)
theorem i_vc_perhapsAtEnd {k : Nat} {u : SX} {v : SY} (I : i_Rel k u v) (hk : k + 2 ≤ 1024) : wpX_perhapsAtEnd (fun r u' => wpY_perhapsAtEnd (fun r' v' => r' = r ∧ i_Rel (k + 2) u' v') v) u := by
  refine dd_el (P := fun u v => wpX_perhapsAtEnd (fun r u' => wpY_perhapsAtEnd (fun r' v' => r' = r ∧ i_Rel (k + 2) u' v') v) u) I ?_
  intro t n sr vr fr oc li wa ot oh pa wt wf bk me al so nx ye no ou co pl ht hn W hl
  unfold wpX_perhapsAtEnd
  dsimp only
  refine dx_learn ht hn W hl (fun ho h0 oc wa ot oh pa wt wf bk me al so F A => ?_) (fun ho oc ot oh pa => br_t rfl ?_)
  · refine br_f (by decide) ?_
    have hr := (dd_An_al A (j := 22) (by omega)).2.1
    unfold wpY_perhapsAtEnd
    dsimp only
    exact dy_explore ht hn W (fun _ nx ye no ou co pl Y => br_f (by decide) (dy_overS (j := 22) rfl (by omega) Y (fun r' hr' => ⟨dd_so_un hr hr', dd_mk ht hn W (Or.inr ⟨rfl, F, A⟩)⟩))) (fun z => absurd ho z)
  · unfold wpY_perhapsAtEnd
    dsimp only
    exact dy_explore ht hn W (fun z => absurd z ho) (fun _ pl => br_t rfl ⟨rfl, dd_mk ht hn W hl⟩)
theorem i_vc_surely {k : Nat} {u : SX} {v : SY} (I : i_Rel k u v) (hk : k + 2 ≤ 1024) (v1 : Int32) : wpX_surely (fun r u' => wpY_surely (fun r' v' => r' = r ∧ i_Rel (k + 2) u' v') v v1) u v1 := by
  refine dd_el (P := fun u v => wpX_surely (fun r u' => wpY_surely (fun r' v' => r' = r ∧ i_Rel (k + 2) u' v') v v1) u v1) I ?_
  intro t n sr vr fr oc li wa ot oh pa wt wf bk me al so nx ye no ou co pl ht hn W hl
  unfold wpX_surely
  dsimp only
  refine dd_rng (n := n) hn (fun hno => br_t rfl ?_) (fun j hj e => br_f (by decide) ?_)
  · unfold wpY_surely
    dsimp only
    refine dy_explore ht hn W (fun _ nx ye no ou co pl Y => br_f (by decide) (dd_rng hn (fun _ => ⟨rfl, dd_mk ht hn W hl⟩) (fun j hj e => absurd ⟨j, hj, e⟩ hno))) (fun _ pl => br_t rfl ⟨rfl, dd_mk ht hn W hl⟩)
  · refine dx_learn ht hn W hl (fun ho h0 oc wa ot oh pa wt wf bk me al so F A => ?_) (fun ho oc ot oh pa => br_t rfl ?_)
    · have hr := (dd_An_al A (j := j) (by omega)).1
      subst e
      refine br_f (by decide) ⟨vp_in_nI (by omega) (by omega), ?_⟩
      rw [nI_clamp (by omega)]
      unfold wpY_surely
      dsimp only
      exact dy_explore ht hn W (fun _ nx ye no ou co pl Y => br_f (by decide) (dd_rng hn (fun z => absurd ⟨j, hj, rfl⟩ z) (fun _ _ _ => dy_overA (j := j) rfl (by omega) Y (fun r' hr' => ⟨dd_al_un hr hr', dd_mk ht hn W (Or.inr ⟨rfl, F, A⟩)⟩)))) (fun z => absurd ho z)
    · unfold wpY_surely
      dsimp only
      exact dy_explore ht hn W (fun z => absurd z ho) (fun _ pl => br_t rfl ⟨rfl, dd_mk ht hn W hl⟩)
theorem i_vc_perhaps {k : Nat} {u : SX} {v : SY} (I : i_Rel k u v) (hk : k + 2 ≤ 1024) (v1 : Int32) : wpX_perhaps (fun r u' => wpY_perhaps (fun r' v' => r' = r ∧ i_Rel (k + 2) u' v') v v1) u v1 := by
  refine dd_el (P := fun u v => wpX_perhaps (fun r u' => wpY_perhaps (fun r' v' => r' = r ∧ i_Rel (k + 2) u' v') v v1) u v1) I ?_
  intro t n sr vr fr oc li wa ot oh pa wt wf bk me al so nx ye no ou co pl ht hn W hl
  unfold wpX_perhaps
  dsimp only
  refine dd_rng (n := n) hn (fun hno => br_t rfl ?_) (fun j hj e => br_f (by decide) ?_)
  · unfold wpY_perhaps
    dsimp only
    refine dy_explore ht hn W (fun _ nx ye no ou co pl Y => br_f (by decide) (dd_rng hn (fun _ => ⟨rfl, dd_mk ht hn W hl⟩) (fun j hj e => absurd ⟨j, hj, e⟩ hno))) (fun _ pl => br_t rfl ⟨rfl, dd_mk ht hn W hl⟩)
  · refine dx_learn ht hn W hl (fun ho h0 oc wa ot oh pa wt wf bk me al so F A => ?_) (fun ho oc ot oh pa => br_t rfl ?_)
    · have hr := (dd_An_al A (j := j) (by omega)).2.1
      subst e
      refine br_f (by decide) ⟨vp_in_nI (by omega) (by omega), ?_⟩
      rw [nI_clamp (by omega)]
      unfold wpY_perhaps
      dsimp only
      exact dy_explore ht hn W (fun _ nx ye no ou co pl Y => br_f (by decide) (dd_rng hn (fun z => absurd ⟨j, hj, rfl⟩ z) (fun _ _ _ => dy_overS (j := j) rfl (by omega) Y (fun r' hr' => ⟨dd_so_un hr hr', dd_mk ht hn W (Or.inr ⟨rfl, F, A⟩)⟩)))) (fun z => absurd ho z)
    · unfold wpY_perhaps
      dsimp only
      exact dy_explore ht hn W (fun z => absurd z ho) (fun _ pl => br_t rfl ⟨rfl, dd_mk ht hn W hl⟩)
theorem i_vc_run {k : Nat} {u : SX} {v : SY} (I : i_Rel k u v) (hk : k + 2 ≤ 1024) (v1 : Int32) : wpX_run (fun r u' => wpY_run (fun r' v' => r' = r ∧ i_Rel (k + 2) u' v') v v1) u v1 := by
  refine dd_el (P := fun u v => wpX_run (fun r u' => wpY_run (fun r' v' => r' = r ∧ i_Rel (k + 2) u' v') v v1) u v1) I ?_
  intro t n sr vr fr oc li wa ot oh pa wt wf bk me al so nx ye no ou co pl ht hn W hl
  unfold wpX_run
  dsimp only
  refine dx_learn ht hn W hl (fun ho h0 oc wa ot oh pa wt wf bk me al so F A => ?_) (fun ho oc ot oh pa => br_t rfl ?_)
  · refine br_f (by decide) ⟨101, dx_run31 ht hn W ho F 100 0 0 0 0 0 0 (by omega) (by omega) (Or.inl h0) ?_⟩
    unfold wpY_run
    dsimp only
    refine dy_prepare ht hn W (fun _ nx ye no ou pl Y => br_f (by decide) ⟨101, dy_run31 ht hn W ho Y 100 0 0 0 0 0 0 (by omega) (by omega) (Or.inl h0) ?_⟩) (fun z => absurd ho z)
    exact ⟨rfl, dd_mk ht hn W (Or.inr ⟨rfl, F, A⟩)⟩
  · unfold wpY_run
    dsimp only
    exact dy_prepare ht hn W (fun z => absurd z ho) (fun _ pl => br_t rfl ⟨rfl, dd_mk ht hn W hl⟩)
end
