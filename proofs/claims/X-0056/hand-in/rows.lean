section
/-! rows taken from kit/rows (PURE-ROWS: pk_; BITS: the family bt, nx_and, nx_xor) -/
theorem pk_us {f : Nat → Int32} {k : Nat} {x : Int32} : upd f k x k = x := if_pos rfl
theorem pk_un {f : Nat → Int32} {k j : Nat} {x : Int32} (h : j ≠ k) : upd f k x j = f j := if_neg h
theorem pk_uLs {f : Nat → Int64} {k : Nat} {x : Int64} : vp_updL f k x k = x := if_pos rfl
theorem pk_uLn {f : Nat → Int64} {k j : Nat} {x : Int64} (h : j ≠ k) : vp_updL f k x j = f j := if_neg h
theorem pk_sub {a b : Nat} (h : b ≤ a) : nI a - nI b = nI (a - b) := by
  obtain ⟨c, rfl⟩ : ∃ c, a = c + b := ⟨a - b, by omega⟩
  rw [← nI_add, Int32.add_sub_cancel, Nat.add_sub_cancel]
theorem pk_m1 (n : Nat) : nI (n + 1) + (-1) = nI n := by
  rw [← nI_1, Int32.add_assoc, show (1 : Int32) + (-1) = 0 from rfl, Int32.add_zero]
theorem pk_mul (a b : Nat) : nI a * nI b = nI (a * b) := (Int32.ofNat_mul a b).symm
theorem pk_div {a d : Nat} (ha : a < 2 ^ 31) (h0 : 0 < d) (hd : d < 2 ^ 31) : nI a / nI d = nI (a / d) := by
  apply Int32.toInt_inj.mp
  rw [lg_idiv_nonneg (by rw [nI_toInt ha]; omega) (by rw [nI_toInt hd]; omega), nI_toInt ha, nI_toInt hd, nI_toInt (Nat.lt_of_le_of_lt (Nat.div_le_self a d) ha)]
  first | rfl | exact (Int.natCast_ediv _ _).symm
theorem pk_rem {a d : Nat} (ha : a < 2 ^ 31) (h0 : 0 < d) (hd : d < 2 ^ 31) : nI a - nI a / nI d * nI d = nI (a % d) := by
  rw [pk_div ha h0 hd, pk_mul, pk_sub (Nat.div_mul_le_self a d)]
  exact congrArg nI (by have := Nat.div_add_mod' a d; omega)
theorem pk_sub_toInt {a b : Nat} (ha : a < 2 ^ 30) (hb : b < 2 ^ 30) : (nI a - nI b).toInt = (a : Int) - b := by
  rw [Int32.toInt_sub, nI_toInt (by omega), nI_toInt (by omega)]
  exact Int.bmod_eq_of_le (by omega) (by omega)
theorem pk_sneg {a b : Nat} (hb : b < 2 ^ 30) (h : a < b) : nI a - nI b < 0 := by
  rw [Int32.lt_iff_toInt_lt, pk_sub_toInt (by omega) hb, show (0 : Int32).toInt = 0 from by decide]
  omega
theorem pk_ix (x : Int32) {n : Nat} (hn : n < 2 ^ 31) : x < 0 ∨ nI n ≤ x ∨ ∃ j : Nat, j < n ∧ x = nI j := by
  by_cases h : x < 0
  · exact Or.inl h
  · obtain ⟨j, hj, rfl⟩ := nI_of h
    by_cases h2 : j < n
    · exact Or.inr (Or.inr ⟨j, h2, rfl⟩)
    · exact Or.inr (Or.inl (nI_le (by omega) hj))
theorem pk_le {x y : Int32} {A B : Prop} (a b : Nat) (f : a ≤ b → A) (g : b < a → B) (hx : x = nI a := by rfl) (hy : y = nI b := by rfl) (ha : a < 2 ^ 31 := by omega) (hb : b < 2 ^ 31 := by omega) : (x ≤ y → A) ∧ (¬ x ≤ y → B) := by
  subst hx hy
  rw [nI_leI ha hb]
  exact ⟨f, fun z => g (by omega)⟩
theorem pk_lt {x y : Int32} {A B : Prop} (a b : Nat) (f : a < b → A) (g : b ≤ a → B) (hx : x = nI a := by rfl) (hy : y = nI b := by rfl) (ha : a < 2 ^ 31 := by omega) (hb : b < 2 ^ 31 := by omega) : (x < y → A) ∧ (¬ x < y → B) := by
  subst hx hy
  rw [nI_ltI ha hb]
  exact ⟨f, fun z => g (by omega)⟩
theorem pk_eq {x y : Int32} {A B : Prop} (a b : Nat) (f : a = b → A) (g : a ≠ b → B) (hx : x = nI a := by rfl) (hy : y = nI b := by rfl) (ha : a < 2 ^ 31 := by omega) (hb : b < 2 ^ 31 := by omega) : (x = y → A) ∧ (¬ x = y → B) := by
  subst hx hy
  rw [nI_eq ha hb]
  exact ⟨f, g⟩
theorem pk_in {x : Int32} (n N : Nat) (h : n < N) (hx : x = nI n := by rfl) (hN : N < 2 ^ 31 := by omega) : vp_in x N := by
  subst hx
  exact vp_in_nI h hN
theorem pk_cl {x : Int32} (n : Nat) (hx : x = nI n := by rfl) (h : n < 2 ^ 31 := by omega) : x.toNatClampNeg = n := by
  subst hx
  exact nI_clamp h
theorem pk_tn {n : Nat} (h : n < 2 ^ 32) : (nI n).toBitVec.toNat = n := Nat.mod_eq_of_lt h
theorem pk_and (x : Int32) {m : Int32} (k : Nat) (hm : m.toBitVec.toNat = 2 ^ k - 1) : x &&& m = nI (x.toBitVec.toNat % 2 ^ k) := by
  apply Int32.toBitVec_inj.mp
  apply BitVec.eq_of_toNat_eq
  rw [Int32.toBitVec_and, BitVec.toNat_and, hm, Nat.and_two_pow_sub_one_eq_mod]
  show _ = (BitVec.ofNat 32 _).toNat
  rw [BitVec.toNat_ofNat]
  exact (Nat.mod_eq_of_lt (Nat.lt_of_le_of_lt (Nat.mod_le _ _) x.toBitVec.isLt)).symm
theorem pk_andN {n : Nat} (h : n < 2 ^ 32) {m : Int32} (k : Nat) (hm : m.toBitVec.toNat = 2 ^ k - 1) : nI n &&& m = nI (n % 2 ^ k) := by
  rw [pk_and _ k hm, pk_tn h]
theorem pk_andE (x : Int32) {m : Int32} (k : Nat) (hm : m.toBitVec.toNat = 2 ^ k - 1) : ∃ j : Nat, j < 2 ^ k ∧ x &&& m = nI j := ⟨_, Nat.mod_lt _ (Nat.two_pow_pos k), pk_and x k hm⟩
theorem pk_andIn (x : Int32) {m : Int32} (k : Nat) (hm : m.toBitVec.toNat = 2 ^ k - 1) (hk : k ≤ 30) : vp_in (x &&& m) (2 ^ k) := by
  obtain ⟨j, hj, e⟩ := pk_andE x k hm
  rw [e]
  exact vp_in_nI hj (Nat.lt_of_le_of_lt (Nat.pow_le_pow_right (by decide) hk) (by decide))
theorem pk_shl (a s : Int32) (k : Nat) (hs : (s.toBitVec.smod 32).toNat = k) : (a <<< s).toBitVec.toNat = a.toBitVec.toNat * 2 ^ k % 2 ^ 32 := by
  show (a.toBitVec <<< (s.toBitVec.smod 32).toNat).toNat = _
  rw [hs, BitVec.toNat_shiftLeft, Nat.shiftLeft_eq]
theorem pk_shlN {n : Nat} (s : Int32) (k : Nat) (hs : (s.toBitVec.smod 32).toNat = k) (h : n * 2 ^ k < 2 ^ 32) : nI n <<< s = nI (n * 2 ^ k) := by
  apply Int32.toBitVec_inj.mp
  apply BitVec.eq_of_toNat_eq
  have hn : n < 2 ^ 32 := Nat.lt_of_le_of_lt (Nat.le_mul_of_pos_right n (Nat.two_pow_pos k)) h
  rw [pk_shl _ _ k hs, pk_tn hn, pk_tn h, Nat.mod_eq_of_lt h]
theorem pk_shr (a s : Int32) (k : Nat) (hs : (s.toBitVec.smod 32).toNat = k) : (a >>> s).toInt = a.toInt >>> k := by
  show (a.toBitVec.sshiftRight (s.toBitVec.smod 32).toNat).toInt = _
  rw [hs, BitVec.toInt_sshiftRight]
  rfl
theorem pk_shrN {n : Nat} (h : n < 2 ^ 31) (s : Int32) (k : Nat) (hs : (s.toBitVec.smod 32).toNat = k) : nI n >>> s = nI (n / 2 ^ k) := by
  apply Int32.toInt_inj.mp
  have h2 : n / 2 ^ k ≤ n := Nat.div_le_self _ _
  rw [pk_shr _ _ k hs, nI_toInt h, nI_toInt (by omega), Int.shiftRight_eq_div_pow]
  rfl
def bt (x : Int32) (i : Nat) : Bool := x.toBitVec.getLsbD i
theorem b_ext {x y : Int32} (h : ∀ i, i < 32 → bt x i = bt y i) : x = y := Int32.toBitVec_inj.mp (BitVec.eq_of_getLsbD_eq (fun i hi => h i hi))
theorem b_or (x y : Int32) (i : Nat) : bt (x ||| y) i = (bt x i || bt y i) := by unfold bt; rw [Int32.toBitVec_or, BitVec.getLsbD_or]
theorem b_and (x y : Int32) (i : Nat) : bt (x &&& y) i = (bt x i && bt y i) := by unfold bt; rw [Int32.toBitVec_and, BitVec.getLsbD_and]
theorem b_xor (x y : Int32) (i : Nat) : bt (x ^^^ y) i = (bt x i ^^ bt y i) := by unfold bt; rw [Int32.toBitVec_xor, BitVec.getLsbD_xor]
theorem b_big {x : Int32} {i : Nat} (h : 32 ≤ i) : bt x i = false := BitVec.getLsbD_of_ge _ _ h
theorem b_255 (i : Nat) : bt 255 i = decide (i < 8) := by
  rcases Nat.lt_or_ge i 32 with h | h
  · exact (by decide +kernel : ∀ i, i < 32 → bt 255 i = decide (i < 8)) i h
  · rw [b_big h, decide_eq_false (by omega)]
theorem b_65535 (i : Nat) : bt 65535 i = decide (i < 16) := by
  rcases Nat.lt_or_ge i 32 with h | h
  · exact (by decide +kernel : ∀ i, i < 32 → bt 65535 i = decide (i < 16)) i h
  · rw [b_big h, decide_eq_false (by omega)]
theorem b_m1 : ∀ i, i < 32 → bt (-1) i = true := by decide +kernel
theorem b_0 (i : Nat) : bt 0 i = false := BitVec.getLsbD_zero
theorem s_l : ∀ n, n < 32 → ((nI n &&& 31).toBitVec.smod 32).toNat = n := by decide +kernel
theorem s_u : ∀ n, n < 32 → (((nI n).toUInt32 &&& Int32.toUInt32 31).toBitVec % 32).toNat = n := by decide +kernel
theorem b_shl (n : Nat) (hn : n < 32) (x : Int32) {i : Nat} (hi : i < 32) : bt (x <<< (nI n &&& 31)) i = (decide (n ≤ i) && bt x (i - n)) := by
  unfold bt
  rw [Int32.toBitVec_shiftLeft]
  show (x.toBitVec <<< ((nI n &&& 31).toBitVec.smod 32).toNat).getLsbD i = _
  rw [s_l n hn, BitVec.getLsbD_shiftLeft]
  rcases Nat.lt_or_ge i n with h | h
  · simp [h, Nat.not_le.mpr h]
  · simp [hi, h, Nat.not_lt.mpr h]
theorem b_ushr (n : Nat) (hn : n < 32) (x : Int32) (i : Nat) : bt ((x.toUInt32 >>> ((nI n).toUInt32 &&& Int32.toUInt32 31)).toInt32) i = bt x (n + i) := by
  show (x.toUInt32 >>> ((nI n).toUInt32 &&& Int32.toUInt32 31)).toBitVec.getLsbD i = x.toUInt32.toBitVec.getLsbD (n + i)
  rw [UInt32.toBitVec_shiftRight]
  show (x.toUInt32.toBitVec >>> (((nI n).toUInt32 &&& Int32.toUInt32 31).toBitVec % 32).toNat).getLsbD i = _
  rw [s_u n hn, BitVec.getLsbD_ushiftRight]
theorem b_sshr (n : Nat) (hn : n < 32) (x : Int32) {i : Nat} (hi : i < 32) : bt (x >>> (nI n &&& 31)) i = if n + i < 32 then bt x (n + i) else bt x 31 := by
  unfold bt
  rw [Int32.toBitVec_shiftRight]
  show (x.toBitVec.sshiftRight ((nI n &&& 31).toBitVec.smod 32).toNat).getLsbD i = _
  rw [s_l n hn, BitVec.getLsbD_sshiftRight, BitVec.msb_eq_getLsbD_last]
  simp [hi]
theorem b_shl8 (x : Int32) {i : Nat} (hi : i < 32) : bt (x <<< ((8 : Int32) &&& 31)) i = (decide (8 ≤ i) && bt x (i - 8)) := b_shl 8 (by omega) x hi
theorem b_shl16 (x : Int32) {i : Nat} (hi : i < 32) : bt (x <<< ((16 : Int32) &&& 31)) i = (decide (16 ≤ i) && bt x (i - 16)) := b_shl 16 (by omega) x hi
theorem b_shl24 (x : Int32) {i : Nat} (hi : i < 32) : bt (x <<< ((24 : Int32) &&& 31)) i = (decide (24 ≤ i) && bt x (i - 24)) := b_shl 24 (by omega) x hi
theorem b_sshr8 (x : Int32) {i : Nat} (hi : i < 32) : bt (x >>> ((8 : Int32) &&& 31)) i = if 8 + i < 32 then bt x (8 + i) else bt x 31 := b_sshr 8 (by omega) x hi
/-! ===== nI under and, xor, >>>, one bit, 65535 ===== -/
theorem nx_and (a b : Nat) : nI a &&& nI b = nI (a &&& b) := by
  apply Int32.toBitVec_inj.1
  show BitVec.ofNat 32 a &&& BitVec.ofNat 32 b = BitVec.ofNat 32 (a &&& b)
  apply BitVec.eq_of_getLsbD_eq
  intro i hi
  simp [hi]
theorem nx_xor (a b : Nat) : nI a ^^^ nI b = nI (a ^^^ b) := by
  apply Int32.toBitVec_inj.1
  show BitVec.ofNat 32 a ^^^ BitVec.ofNat 32 b = BitVec.ofNat 32 (a ^^^ b)
  apply BitVec.eq_of_getLsbD_eq
  intro i hi
  simp [hi]
end
section
/-! bits and small arithmetic over Int32 -/
theorem zl_2 : (2 : Int32) = nI 2 := rfl
theorem zl_3 : (3 : Int32) = nI 3 := rfl
theorem zl_4 : (4 : Int32) = nI 4 := rfl
theorem zl_8 : (8 : Int32) = nI 8 := rfl
theorem zl_15 : (15 : Int32) = nI 15 := rfl
theorem zl_16 : (16 : Int32) = nI 16 := rfl
theorem zl_20 : (20 : Int32) = nI 20 := rfl
theorem zl_32 : (32 : Int32) = nI 32 := rfl
theorem zl_48 : (48 : Int32) = nI 48 := rfl
theorem zl_64 : (64 : Int32) = nI 64 := rfl
theorem zl_80 : (80 : Int32) = nI 80 := rfl
theorem zl_100 : (100 : Int32) = nI 100 := rfl
theorem zl_128 : (128 : Int32) = nI 128 := rfl
theorem zl_256 : (256 : Int32) = nI 256 := rfl
theorem zl_512 : (512 : Int32) = nI 512 := rfl
theorem zl_768 : (768 : Int32) = nI 768 := rfl
theorem zl_1024 : (1024 : Int32) = nI 1024 := rfl
theorem zl_1280 : (1280 : Int32) = nI 1280 := rfl
theorem zl_2048 : (2048 : Int32) = nI 2048 := rfl
theorem nx_or (a b : Nat) : nI a ||| nI b = nI (a ||| b) := by
  apply Int32.toBitVec_inj.1
  show BitVec.ofNat 32 a ||| BitVec.ofNat 32 b = BitVec.ofNat 32 (a ||| b)
  apply BitVec.eq_of_getLsbD_eq
  intro i hi
  simp [hi]
theorem zb_1 : ∀ j, j < 32 → bt 1 j = decide (j = 0) := by decide +kernel
theorem zb_tn (b : Bool) {j : Nat} (hj : j < 32) : bt (nI b.toNat) j = (b && decide (j = 0)) := by
  cases b
  · show bt 0 j = _
    rw [b_0]; rfl
  · show bt 1 j = _
    rw [zb_1 j hj]; rfl
theorem zb_t {x : Int32} {i : Nat} (hi : i < 32) : (x >>> (nI i &&& 31)) &&& 1 = nI (bt x i).toNat := by
  apply b_ext
  intro j hj
  rw [b_and, b_sshr i hi x hj, zb_1 j hj, zb_tn _ hj]
  by_cases hz : j = 0
  · subst hz
    rw [if_pos (by omega), Nat.add_zero]
  · rw [decide_eq_false hz, Bool.and_false, Bool.and_false]
theorem zb_z {x : Int32} {i : Nat} (hi : i < 32) : (x >>> (nI i &&& 31)) &&& 1 = 0 ↔ bt x i = false := by
  rw [zb_t hi]
  cases bt x i
  · exact ⟨fun _ => rfl, fun _ => rfl⟩
  · exact ⟨fun h => absurd h (by decide), fun h => nomatch h⟩
theorem zb_sh {i : Nat} (hi : i < 32) (b : Bool) (j : Nat) : bt (nI b.toNat <<< (nI i &&& 31)) j = (b && decide (j = i)) := by
  rcases Nat.lt_or_ge j 32 with h | h
  · rw [b_shl i hi _ h]
    by_cases hij : i ≤ j
    · rw [zb_tn b (by omega), decide_eq_true hij, Bool.true_and]
      congr 1
      by_cases e : j = i
      · rw [decide_eq_true e, decide_eq_true (by omega)]
      · rw [decide_eq_false e, decide_eq_false (by omega)]
    · rw [decide_eq_false hij, Bool.false_and, decide_eq_false (by omega), Bool.and_false]
  · rw [b_big h, decide_eq_false (by omega), Bool.and_false]
theorem zb_sh1 {i : Nat} (hi : i < 32) (j : Nat) : bt ((1 : Int32) <<< (nI i &&& 31)) j = decide (j = i) := zb_sh hi true j
theorem zb_set {x : Int32} {i : Nat} (hi : i < 32) (j : Nat) : bt (x ||| ((1 : Int32) <<< (nI i &&& 31))) j = (bt x j || decide (j = i)) := by
  rw [b_or, zb_sh1 hi]
theorem zb_setb {x : Int32} {i : Nat} (hi : i < 32) (b : Bool) (j : Nat) : bt (x ||| (nI b.toNat <<< (nI i &&& 31))) j = (bt x j || (b && decide (j = i))) := by
  rw [b_or, zb_sh hi]
theorem zb_andn (x y : Int32) (j : Nat) : bt (x &&& (y ^^^ (-1))) j = (bt x j && !bt y j) := by
  rcases Nat.lt_or_ge j 32 with h | h
  · rw [b_and, b_xor, b_m1 j h, Bool.xor_true]
  · rw [b_big h, b_big h, Bool.false_and]
theorem zb_clr {x : Int32} {i : Nat} (hi : i < 32) (j : Nat) : bt (x &&& (((1 : Int32) <<< (nI i &&& 31)) ^^^ (-1))) j = (bt x j && !decide (j = i)) := by
  rw [zb_andn, zb_sh1 hi]
theorem zb_0 {x : Int32} : x = 0 ↔ ∀ j, bt x j = false := by
  constructor
  · rintro rfl j
    exact b_0 j
  · intro h
    apply b_ext
    intro j hj
    rw [h j, b_0]
theorem zb_orN (k : Nat) (hk : k < 31) {a b : Nat} (ha : a < 2 ^ k) (hb : b * 2 ^ k < 2 ^ 31) : nI a ||| (nI b <<< (nI k &&& 31)) = nI (a + b * 2 ^ k) := by
  rw [pk_shlN _ k (s_l k (by omega)) (Nat.lt_trans hb (by decide)), nx_or, Nat.or_comm, Nat.mul_comm b, ← Nat.two_pow_add_eq_or_of_lt ha, Nat.add_comm]
theorem zb_nand (k : Nat) {n m : Nat} (hm : m < 2 ^ k) : n &&& m = (n % 2 ^ k) &&& m := by
  apply Nat.eq_of_testBit_eq
  intro i
  rw [Nat.testBit_and, Nat.testBit_and, Nat.testBit_mod_two_pow]
  rcases Nat.lt_or_ge i k with h | h
  · simp [h]
  · rw [Nat.testBit_lt_two_pow (Nat.lt_of_lt_of_le hm (Nat.pow_le_pow_right (by decide) h))]
    simp
theorem zb_shr {n : Nat} (h : n < 2 ^ 31) (k : Nat) (hk : k < 32) : nI n >>> (nI k &&& 31) = nI (n / 2 ^ k) := pk_shrN h _ k (s_l k hk)
theorem zb_shl {n : Nat} (k : Nat) (hk : k < 32) (h : n * 2 ^ k < 2 ^ 32) : nI n <<< (nI k &&& 31) = nI (n * 2 ^ k) := pk_shlN _ k (s_l k hk) h
theorem zb_s1 {n : Nat} (h : n < 2 ^ 31) : nI n >>> ((1 : Int32) &&& 31) = nI (n / 2) := zb_shr h 1 (by omega)
theorem zb_s2 {n : Nat} (h : n < 2 ^ 31) : nI n >>> ((2 : Int32) &&& 31) = nI (n / 4) := zb_shr h 2 (by omega)
theorem zb_s4 {n : Nat} (h : n < 2 ^ 31) : nI n >>> ((4 : Int32) &&& 31) = nI (n / 16) := zb_shr h 4 (by omega)
theorem zb_s5 {n : Nat} (h : n < 2 ^ 31) : nI n >>> ((5 : Int32) &&& 31) = nI (n / 32) := zb_shr h 5 (by omega)
theorem zb_s6 {n : Nat} (h : n < 2 ^ 31) : nI n >>> ((6 : Int32) &&& 31) = nI (n / 64) := zb_shr h 6 (by omega)
theorem zb_s7 {n : Nat} (h : n < 2 ^ 31) : nI n >>> ((7 : Int32) &&& 31) = nI (n / 128) := zb_shr h 7 (by omega)
theorem zb_s8 {n : Nat} (h : n < 2 ^ 31) : nI n >>> ((8 : Int32) &&& 31) = nI (n / 256) := zb_shr h 8 (by omega)
theorem zb_s11 {n : Nat} (h : n < 2 ^ 31) : nI n >>> ((11 : Int32) &&& 31) = nI (n / 2048) := zb_shr h 11 (by omega)
theorem zb_m1 {n : Nat} (h : n < 2 ^ 31) : nI n &&& 1 = nI (n % 2) := pk_andN (by omega) 1 (by decide)
theorem zb_m3 {n : Nat} (h : n < 2 ^ 31) : nI n &&& 3 = nI (n % 4) := pk_andN (by omega) 2 (by decide)
theorem zb_m7 {n : Nat} (h : n < 2 ^ 31) : nI n &&& 7 = nI (n % 8) := pk_andN (by omega) 3 (by decide)
theorem zb_m15 {n : Nat} (h : n < 2 ^ 31) : nI n &&& 15 = nI (n % 16) := pk_andN (by omega) 4 (by decide)
theorem zb_m63 {n : Nat} (h : n < 2 ^ 31) : nI n &&& 63 = nI (n % 64) := pk_andN (by omega) 6 (by decide)
theorem zb_m255 {n : Nat} (h : n < 2 ^ 31) : nI n &&& 255 = nI (n % 256) := pk_andN (by omega) 8 (by decide)
theorem zb_pow (n k : Nat) : n &&& 2 ^ k = 2 ^ k * (n / 2 ^ k % 2) := by
  have hb : n.testBit k = decide (n / 2 ^ k % 2 = 1) := Nat.testBit_eq_decide_div_mod_eq
  have h2 : n / 2 ^ k % 2 < 2 := Nat.mod_lt _ (by decide)
  apply Nat.eq_of_testBit_eq
  intro i
  rw [Nat.testBit_and, Nat.testBit_two_pow]
  rcases (by omega : n / 2 ^ k % 2 = 0 ∨ n / 2 ^ k % 2 = 1) with z | z
  · rw [z, Nat.mul_zero, Nat.zero_testBit]
    by_cases hk : k = i
    · subst hk
      rw [hb, z]; rfl
    · rw [decide_eq_false hk, Bool.and_false]
  · rw [z, Nat.mul_one, Nat.testBit_two_pow]
    by_cases hk : k = i
    · subst hk
      rw [hb, z]; rfl
    · rw [decide_eq_false hk, Bool.and_false]
theorem zb_p (n k : Nat) : nI n &&& nI (2 ^ k) = nI (2 ^ k * (n / 2 ^ k % 2)) := by rw [nx_and, zb_pow]
theorem zb_p4 (n : Nat) : nI n &&& 4 = nI (4 * (n / 4 % 2)) := zb_p n 2
theorem zb_p8 (n : Nat) : nI n &&& 8 = nI (8 * (n / 8 % 2)) := zb_p n 3
theorem zb_p16 (n : Nat) : nI n &&& 16 = nI (16 * (n / 16 % 2)) := zb_p n 4
theorem zb_p64 (n : Nat) : nI n &&& 64 = nI (64 * (n / 64 % 2)) := zb_p n 6
theorem zb_p128 (n : Nat) : nI n &&& 128 = nI (128 * (n / 128 % 2)) := zb_p n 7
theorem zb_p19 (n : Nat) : nI n &&& 524288 = nI (524288 * (n / 524288 % 2)) := zb_p n 19
/-- or-ing one bit that isn't there adds it -/
theorem zb_npow {n k : Nat} (h : n / 2 ^ k % 2 = 0) : n ||| 2 ^ k = n + 2 ^ k := by
  have hq : n / 2 ^ k = 2 * (n / 2 ^ k / 2) := by omega
  have hn := Nat.div_add_mod n (2 ^ k)
  have hr : n % 2 ^ k < 2 ^ k := Nat.mod_lt _ (Nat.two_pow_pos k)
  have hp : 2 ^ k < 2 ^ (k + 1) := Nat.pow_lt_pow_right (by decide) (by omega)
  generalize n / 2 ^ k / 2 = q at hq
  generalize n % 2 ^ k = r at hn hr
  have e1 : n = 2 ^ (k + 1) * q + r := by rw [Nat.pow_succ, Nat.mul_assoc, ← hq]; exact hn.symm
  have e2 : 2 ^ (k + 1) * q ||| 2 ^ k = 2 ^ (k + 1) * q + 2 ^ k := (Nat.two_pow_add_eq_or_of_lt hp q).symm
  have e3 : 2 ^ (k + 1) * q + r = 2 ^ (k + 1) * q ||| r := Nat.two_pow_add_eq_or_of_lt (Nat.lt_trans hr hp) q
  have e4 : 2 ^ k * (2 * q + 1) + r = 2 ^ k * (2 * q + 1) ||| r := Nat.two_pow_add_eq_or_of_lt hr _
  have e5 : 2 ^ (k + 1) * q + 2 ^ k = 2 ^ k * (2 * q + 1) := by rw [Nat.pow_succ, Nat.mul_add, Nat.mul_assoc, Nat.mul_one]
  have e6 : n ||| 2 ^ k = 2 ^ (k + 1) * q + 2 ^ k + r := by
    rw [e1, e3, Nat.or_assoc, Nat.or_comm r, ← Nat.or_assoc, e2, e5, ← e4]
  rw [e6, Nat.add_right_comm, ← e1]
theorem zb_npow1 {n k : Nat} (h : n / 2 ^ k % 2 = 1) : n ||| 2 ^ k = n := by
  have hb : n.testBit k = true := by rw [Nat.testBit_eq_decide_div_mod_eq, decide_eq_true h]
  apply Nat.eq_of_testBit_eq
  intro i
  rw [Nat.testBit_or, Nat.testBit_two_pow]
  by_cases hk : k = i
  · subst hk
    rw [hb]; rfl
  · rw [decide_eq_false hk, Bool.or_false]
theorem zb_o (n k : Nat) : nI n ||| nI (2 ^ k) = nI (if n / 2 ^ k % 2 = 0 then n + 2 ^ k else n) := by
  rw [nx_or]
  by_cases h : n / 2 ^ k % 2 = 0
  · rw [if_pos h, zb_npow h]
  · rw [if_neg h, zb_npow1 (by omega)]
theorem zb_o8 (n : Nat) : nI n ||| 8 = nI (if n / 8 % 2 = 0 then n + 8 else n) := zb_o n 3
theorem zb_o16 (n : Nat) : nI n ||| 16 = nI (if n / 16 % 2 = 0 then n + 16 else n) := zb_o n 4
theorem zb_o64 (n : Nat) : nI n ||| 64 = nI (if n / 64 % 2 = 0 then n + 64 else n) := zb_o n 6
theorem zb_o128 (n : Nat) : nI n ||| 128 = nI (if n / 128 % 2 = 0 then n + 128 else n) := zb_o n 7
theorem zb_o19 (n : Nat) : nI n ||| 524288 = nI (if n / 524288 % 2 = 0 then n + 524288 else n) := zb_o n 19
theorem zb_n0 {n : Nat} (h : n < 2 ^ 31) : nI n = 0 ↔ n = 0 := by rw [← nI_0]; exact nI_eq h (by decide)
theorem zb_m8 {n : Nat} (h : n < 2 ^ 31) : ¬ nI n = -8 := by
  intro e
  have := congrArg Int32.toInt e
  rw [nI_toInt h, show (-8 : Int32).toInt = -8 from by decide] at this
  omega
/-- an argument is in 0 .. n, or it isn't -/
theorem zb_rng (x M : Int32) (n : Nat) (hM : M.toInt = n) : (∃ j : Nat, j ≤ n ∧ x = nI j) ∨ ¬ (0 ≤ x ∧ x ≤ M) := by
  by_cases h : 0 ≤ x ∧ x ≤ M
  · exact Or.inl (nI_of2 hM (Int32.not_lt.mpr h.1) h.2)
  · exact Or.inr h
theorem zb_large : ∀ e, e < 256 → ∀ p, p < 16 → (((nI e >>> ((4 : Int32) &&& 31)) &&& 12) ||| (nI p &&& 3)) ||| ((nI e &&& 3) <<< ((4 : Int32) &&& 31)) = ((nI e >>> ((4 : Int32) &&& 31)) &&& 12) + nI (p % 4) + 16 * (nI e &&& 3) := by decide +kernel
theorem zb_leaf : ∀ e, e < 256 → ∀ q, q < 4 → (nI e >>> ((4 : Int32) &&& 31)) ||| (nI q <<< ((4 : Int32) &&& 31)) = (nI e >>> ((4 : Int32) &&& 31)) + 16 * nI q := by decide +kernel
theorem zb_largeN : ∀ e, e < 256 → ∀ r, r < 4 → ((nI e >>> ((4 : Int32) &&& 31)) &&& 12) + nI r + 16 * (nI e &&& 3) = nI (e / 64 * 4 + r + 16 * (e % 4)) := by decide +kernel
theorem zb_leafN {e q : Nat} (he : e < 256) : (nI e >>> ((4 : Int32) &&& 31)) + 16 * nI q = nI (e / 16 + 16 * q) := by
  rw [zb_s4 (by omega)]
  show _ + nI 16 * nI q = _
  rw [pk_mul, nI_add]
theorem zb_48 : ∀ p, p < 16 → nI p ||| 48 = nI (p + 48) := by decide +kernel
theorem zb_q48 : ∀ q, q < 64 → nI q &&& 48 = nI (16 * (q / 16)) := by decide +kernel
theorem zb_lows : ∀ q, q < 128 → q &&& 115 = q % 4 + 16 * (q / 16 % 4) + 64 * (q / 64 % 2) := by decide +kernel
theorem zb_lows51 : ∀ q, q < 64 → q &&& 51 = q % 4 + 16 * (q / 16 % 4) := by decide +kernel
theorem zb_115 (n : Nat) : nI n &&& 115 = nI (n % 4 + 16 * (n / 16 % 4) + 64 * (n / 64 % 2)) := by
  show nI n &&& nI 115 = _
  rw [nx_and, zb_nand 7 (by decide), zb_lows _ (Nat.mod_lt _ (by decide))]
  exact congrArg nI (by omega)
theorem zb_51 (n : Nat) : nI n &&& 51 = nI (n % 4 + 16 * (n / 16 % 4)) := by
  show nI n &&& nI 51 = _
  rw [nx_and, zb_nand 6 (by decide), zb_lows51 _ (Nat.mod_lt _ (by decide))]
  exact congrArg nI (by omega)
theorem zb_key12 : ∀ q, q < 64 → (nI q &&& 3) ||| ((nI q >>> ((2 : Int32) &&& 31)) &&& 12) = nI (q % 4 + 4 * (q / 16 % 4)) := by decide +kernel
theorem zb_12 : ∀ q, q < 16 → q &&& 12 = 4 * (q / 4) := by decide +kernel
theorem zb_12n (n : Nat) : nI n &&& 12 = nI (4 * (n / 4 % 4)) := by
  show nI n &&& nI 12 = _
  rw [nx_and, zb_nand 4 (by decide), zb_12 _ (Nat.mod_lt _ (by decide))]
  exact congrArg nI (by omega)
/-- a page request's key -/
theorem zb_key {n : Nat} (h : n < 2 ^ 31) : (nI n &&& 3) ||| ((nI n >>> ((2 : Int32) &&& 31)) &&& 12) = nI (n % 4 + 4 * (n / 16 % 4)) := by
  rw [zb_m3 h, zb_s2 h, zb_12n]
  have e : nI (4 * (n / 4 / 4 % 4)) = nI (n / 16 % 4) <<< (nI 2 &&& 31) := by
    rw [zb_shl 2 (by omega) (by omega)]
    exact congrArg nI (by omega)
  rw [e, zb_orN 2 (by omega) (by omega) (by omega)]
  exact congrArg nI (by omega)
/-- the pages of an aligned block -/
theorem zb_blk {x b c : Nat} (hc : c ≤ 6) : x / 2 ^ c = b / 2 ^ c ↔ b / 2 ^ c * 2 ^ c ≤ x ∧ x < b / 2 ^ c * 2 ^ c + 2 ^ c := by
  rcases (by omega : c = 0 ∨ c = 1 ∨ c = 2 ∨ c = 3 ∨ c = 4 ∨ c = 5 ∨ c = 6) with rfl | rfl | rfl | rfl | rfl | rfl | rfl <;> omega
end
section
/-! the relation between the two objects' states, block by block -/
def zr_Lim (cL pL rL wL : Nat) (lm : Nat → Int32) : Prop := 2 ≤ cL ∧ cL ≤ 16 ∧ 1 ≤ pL ∧ pL ≤ 8 ∧ 1 ≤ rL ∧ rL ≤ 8 ∧ 1 ≤ wL ∧ wL ≤ 8 ∧ lm 4 = nI cL ∧ lm 2 = nI pL ∧ lm 3 = nI rL ∧ lm 1 = nI wL
/-- cells hold bytes -/
def zr_Cel (a : Nat → Int32) : Prop := ∀ j, ∃ e : Nat, e < 256 ∧ a j = nI e
/-- page p in the table at b -/
def zr_lk (s : Nat → Int32) (b p : Nat) (x : Int32) : Int32 :=
  if s (b + p / 4) &&& 4 = 0 then
    (if s (b + p / 4) = 0 then x else if s (b + 4 + p) = 0 then x else (s (b + 4 + p) >>> ((4 : Int32) &&& 31)) + 16 * ((s (b + p / 4) &&& s (b + 4 + p)) &&& 3))
  else ((s (b + p / 4) >>> ((4 : Int32) &&& 31)) &&& 12) + nI (p % 4) + 16 * (s (b + p / 4) &&& 3)
/-- the first stage of a device of mode m and domain d -/
def zr_l1 (s : Nat → Int32) (m d t p : Nat) : Int32 :=
  if m = 1 then nI (p + 48)
  else if s (20 * t + p / 4) = 0 then -4
  else if ¬ s (20 * t + p / 4) &&& 4 = 0 then zr_lk s (20 * t) p (-4)
  else if zr_lk s (80 + 20 * d) ((s (20 * t + p / 4)).toNatClampNeg / 16) (-6) < 0 then -5
  else if zr_lk s (80 + 20 * d) ((s (20 * t + p / 4)).toNatClampNeg / 16) (-6) &&& 16 = 0 then -5
  else zr_lk s (20 * t) p (-4)
/-- a cached result that is valid is the result -/
def zr_Cac (se sc sv : Nat → Int32) : Prop := ∀ m p, m < 2 → p < 16 → bt (sv m) p = true → sc (16 * m + p) = zr_lk se (80 + 20 * m) p (-6)
def zr_Ctx (dm md : Nat → Int32) (aw : Int32) (th : Nat → Int32) : Prop :=
  (∀ i, i < 4 → ∃ d m : Nat, d < 2 ∧ m < 3 ∧ dm i = nI d ∧ md i = nI m ∧ th i = nI (d + 2 * m + 8 * (bt aw i).toNat)) ∧ (∀ i, 4 ≤ i → i < 256 → th i = -8) ∧ (∀ i, 4 ≤ i → bt aw i = false)
def zr_Wal (ws : Nat → Int32) (wb wm : Int32) (wL : Nat) (th : Nat → Int32) : Prop :=
  (∀ i, bt wb i = true → i < wL ∧ ∃ f d w : Nat, f < 64 ∧ d < 2 ∧ w ≤ 256 ∧ ws i = nI (f + 64 * d + 256 * w) ∧ th (256 + i) = nI (f + 64 * d + 128 * (bt wm i).toNat + 256 * w)) ∧ (∀ i, i < 256 → bt wb i = false → th (256 + i) = -8) ∧ (∀ i, bt wm i = true → bt wb i = true)
/-- the newest word of frame f after n posted writes -/
def zr_nw (t : Nat → Int32) (w f : Int32) : Nat → Int32
  | 0 => w
  | n + 1 => if t n &&& 15 = f then t n >>> ((5 : Int32) &&& 31) else zr_nw t w f n
def zr_Pos (pr : Nat → Int32) (ph pc : Nat) (pl pm : Int32) (pL : Nat) (nw lw th : Nat → Int32) : Prop :=
  ph < 8 ∧ pc ≤ pL ∧
  (∀ i, i < pc → ∃ f w : Nat, f < 16 ∧ w < 256 ∧ pr ((ph + i) % 8) = nI (f + 32 * w) ∧ th (512 + i) = nI (f + 16 * (bt pm ((ph + i) % 8)).toNat + 32 * w)) ∧
  (∀ i, pc ≤ i → i < 256 → th (512 + i) = -8) ∧
  (∀ i, i < 8 → bt pl ((ph + i) % 8) = decide (i < pc)) ∧ (∀ j, 8 ≤ j → bt pl j = false) ∧ (∀ j, bt pm j = true → bt pl j = true) ∧
  (∀ f, f < 16 → nw f = zr_nw (fun i => th (512 + i)) (lw f) (nI f) pc)
/-- a command's word: kind, c, b, a, arrived -/
def zr_Ok (v : Int32) : Prop := ∃ kd c b a ar : Nat, v = nI (kd + 4 * c + 32 * b + 2048 * a + 524288 * ar) ∧ ((kd = 3 ∧ ar ≤ 1 ∧ a < 256 ∧ b = 0 ∧ c = 0) ∨ (kd = 2 ∧ ar = 0 ∧ a < 4 ∧ b < 64 ∧ c ≤ 6) ∨ (kd = 1 ∧ ar = 0 ∧ a < 4 ∧ b < 16 ∧ c ≤ 4) ∨ (kd = 0 ∧ ar = 0 ∧ a < 2 ∧ b < 16 ∧ c ≤ 4))
def zr_Cmd (cr : Nat → Int32) (ch cc cL : Nat) (th : Nat → Int32) : Prop :=
  ch < 16 ∧ cc ≤ cL ∧ (∀ i, i < cc → th (1024 + i) = cr ((ch + i) % 16) ∧ zr_Ok (cr ((ch + i) % 16))) ∧ (∀ i, cc ≤ i → i < 256 → th (1024 + i) = -8)
/-- a list as it lies in the reference -/
def zr_gd : List Nat → Nat → Int32
  | [], _ => -8
  | a :: _, 0 => nI a
  | _ :: L, i + 1 => zr_gd L i
/-- a page request's key -/
def zr_ky (n : Nat) : Nat := n % 4 + 4 * (n / 16 % 4)
def zr_Req (L : List Nat) (rl : Nat → Int32) (rc rL : Nat) (gs : Nat → Int32) (gc : Int32) (th : Nat → Int32) : Prop :=
  L.length = rc ∧ rc ≤ rL ∧ (∀ n ∈ L, n < 65536) ∧ (∀ i, i < rc → rl i = zr_gd L i) ∧ (∀ i, i < 256 → th (768 + i) = zr_gd L i) ∧
  (∀ k, k < 16 → gs k = nI (L.countP (fun n => zr_ky n == k))) ∧ (∀ k, k < 16 → bt gc k = L.any (fun n => zr_ky n == k && n / 64 % 2 == 1))
def zr_Hel (hl th : Nat → Int32) : Prop := ∀ i, i < 256 → (hl i = 0 ∧ th (1280 + i) = -8) ∨ ∃ n : Nat, 0 < n ∧ n < 128 ∧ hl i = nI n ∧ th (1280 + i) = nI n
def zr_R (cL pL rL wL ph pc ch cc rc : Nat) (aw wb wm pl pm gc : Int32) (wr se sc sv dm md ws pr lw nw cr rl gs hl th lm : Nat → Int32) : Prop :=
  zr_Lim cL pL rL wL lm ∧ zr_Cel wr ∧ zr_Cel se ∧ zr_Cac se sc sv ∧ zr_Ctx dm md aw th ∧ zr_Wal ws wb wm wL th ∧ zr_Pos pr ph pc pl pm pL nw lw th ∧ zr_Cmd cr ch cc cL th ∧ (∃ L, zr_Req L rl rc rL gs gc th) ∧ zr_Hel hl th
def i_Rel (k : Nat) (u : SX) (v : SY) : Prop := ∃ (cL pL rL wL ph pc ch cc rc : Nat) (aw wb wm pl pm fd lf gc : Int32) (wr se sc sv dm md ws pr lw nw cr rl gs ct hl th lm : Nat → Int32), u = (nI cL, nI pL, nI rL, nI wL, aw, wb, wm, nI ph, nI pc, pl, pm, nI ch, nI cc, fd, lf, nI rc, gc, wr, se, sc, sv, dm, md, ws, pr, lw, nw, cr, rl, gs, ct, hl) ∧ v = (fd, lf, wr, se, th, lm, ct, lw) ∧ zr_R cL pL rL wL ph pc ch cc rc aw wb wm pl pm gc wr se sc sv dm md ws pr lw nw cr rl gs hl th lm
section
variable {cL pL rL wL ph pc ch cc rc : Nat} {aw wb wm pl pm fd lf gc : Int32} {wr se sc sv dm md ws pr lw nw cr rl gs ct hl th lm : Nat → Int32}
theorem zz_in {k : Nat} (h : zr_R cL pL rL wL ph pc ch cc rc aw wb wm pl pm gc wr se sc sv dm md ws pr lw nw cr rl gs hl th lm) : i_Rel k (nI cL, nI pL, nI rL, nI wL, aw, wb, wm, nI ph, nI pc, pl, pm, nI ch, nI cc, fd, lf, nI rc, gc, wr, se, sc, sv, dm, md, ws, pr, lw, nw, cr, rl, gs, ct, hl) (fd, lf, wr, se, th, lm, ct, lw) := by
  unfold i_Rel
  exact ⟨cL, pL, rL, wL, ph, pc, ch, cc, rc, aw, wb, wm, pl, pm, fd, lf, gc, wr, se, sc, sv, dm, md, ws, pr, lw, nw, cr, rl, gs, ct, hl, th, lm, rfl, rfl, h⟩
end
theorem zz_fin {P : SX → SY → Prop} {u u' : SX} {v v' : SY} {Q : Prop} (h : Q → P u' v') (I : u = u' ∧ v = v' ∧ Q) : P u v := by
  obtain ⟨e1, e2, q⟩ := I
  subst e1
  subst e2
  exact h q
theorem zz_el {k : Nat} {u : SX} {v : SY} {P : SX → SY → Prop} (h : ∀ (cL pL rL wL ph pc ch cc rc : Nat) (aw wb wm pl pm fd lf gc : Int32) (wr se sc sv dm md ws pr lw nw cr rl gs ct hl th lm : Nat → Int32), zr_R cL pL rL wL ph pc ch cc rc aw wb wm pl pm gc wr se sc sv dm md ws pr lw nw cr rl gs hl th lm → P (nI cL, nI pL, nI rL, nI wL, aw, wb, wm, nI ph, nI pc, pl, pm, nI ch, nI cc, fd, lf, nI rc, gc, wr, se, sc, sv, dm, md, ws, pr, lw, nw, cr, rl, gs, ct, hl) (fd, lf, wr, se, th, lm, ct, lw)) (I : i_Rel k u v) : P u v := by
  unfold i_Rel at I
  exact Exists.elim I fun cL I => Exists.elim I fun pL I => Exists.elim I fun rL I => Exists.elim I fun wL I => Exists.elim I fun ph I => Exists.elim I fun pc I => Exists.elim I fun ch I => Exists.elim I fun cc I => Exists.elim I fun rc I => Exists.elim I fun aw I => Exists.elim I fun wb I => Exists.elim I fun wm I => Exists.elim I fun pl I => Exists.elim I fun pm I => Exists.elim I fun fd I => Exists.elim I fun lf I => Exists.elim I fun gc I => Exists.elim I fun wr I => Exists.elim I fun se I => Exists.elim I fun sc I => Exists.elim I fun sv I => Exists.elim I fun dm I => Exists.elim I fun md I => Exists.elim I fun ws I => Exists.elim I fun pr I => Exists.elim I fun lw I => Exists.elim I fun nw I => Exists.elim I fun cr I => Exists.elim I fun rl I => Exists.elim I fun gs I => Exists.elim I fun ct I => Exists.elim I fun hl I => Exists.elim I fun th I => Exists.elim I fun lm I => zz_fin (P := P) (h cL pL rL wL ph pc ch cc rc aw wb wm pl pm fd lf gc wr se sc sv dm md ws pr lw nw cr rl gs ct hl th lm) I
theorem i_up {k : Nat} {u : SX} {v : SY} (h : i_Rel k u v) : i_Rel (k + 5) u v := by
  unfold i_Rel at h ⊢
  exact h
/-! frames: a block that isn't touched -/
section
variable {cL pL rL wL ph pc ch cc rc : Nat} {aw wb wm pl pm fd lf gc : Int32} {wr se sc sv dm md ws pr lw nw cr rl gs ct hl th lm : Nat → Int32}
variable {th' : Nat → Int32}
theorem zr_Ctx_fr (h : zr_Ctx dm md aw th) (e : ∀ i, i < 256 → th' i = th i) : zr_Ctx dm md aw th' := by
  obtain ⟨h1, h2, h3⟩ := h
  refine ⟨fun i hi => ?_, fun i a b => (e i b).trans (h2 i a b), h3⟩
  rw [e i (by omega)]
  exact h1 i hi
theorem zr_Wal_fr (hw : wL ≤ 8) (h : zr_Wal ws wb wm wL th) (e : ∀ i, i < 256 → th' (256 + i) = th (256 + i)) : zr_Wal ws wb wm wL th' := by
  obtain ⟨h1, h2, h3⟩ := h
  refine ⟨fun i hi => ?_, fun i a b => (e i a).trans (h2 i a b), h3⟩
  have := h1 i hi
  rw [e i (by omega)]
  exact this
theorem zr_nw_c {t t' : Nat → Int32} {w f : Int32} : ∀ n, (∀ i, i < n → t' i &&& 15 = t i &&& 15 ∧ t' i >>> ((5 : Int32) &&& 31) = t i >>> ((5 : Int32) &&& 31)) → zr_nw t' w f n = zr_nw t w f n := by
  intro n
  induction n with
  | zero => intro _; rfl
  | succ n ih =>
    intro h
    show (if t' n &&& 15 = f then t' n >>> ((5 : Int32) &&& 31) else zr_nw t' w f n) = (if t n &&& 15 = f then t n >>> ((5 : Int32) &&& 31) else zr_nw t w f n)
    rw [(h n (by omega)).1, (h n (by omega)).2, ih (fun i hi => h i (by omega))]
theorem zr_Pos_fr (hw : pL ≤ 8) (h : zr_Pos pr ph pc pl pm pL nw lw th) (e : ∀ i, i < 256 → th' (512 + i) = th (512 + i)) : zr_Pos pr ph pc pl pm pL nw lw th' := by
  obtain ⟨h1, h2, h3, h4, h5, h6, h7, h8⟩ := h
  refine ⟨h1, h2, fun i hi => ?_, fun i a b => (e i b).trans (h4 i a b), h5, h6, h7, fun f hf => ?_⟩
  · rw [e i (by omega)]
    exact h3 i hi
  · rw [h8 f hf]
    refine (zr_nw_c pc fun i hi => ?_).symm
    show th' (512 + i) &&& 15 = th (512 + i) &&& 15 ∧ th' (512 + i) >>> ((5 : Int32) &&& 31) = th (512 + i) >>> ((5 : Int32) &&& 31)
    rw [e i (by omega)]
    exact ⟨rfl, rfl⟩
theorem zr_Cmd_fr (hw : cL ≤ 16) (h : zr_Cmd cr ch cc cL th) (e : ∀ i, i < 256 → th' (1024 + i) = th (1024 + i)) : zr_Cmd cr ch cc cL th' := by
  obtain ⟨h1, h2, h3, h4⟩ := h
  refine ⟨h1, h2, fun i hi => ?_, fun i a b => (e i b).trans (h4 i a b)⟩
  rw [e i (by omega)]
  exact h3 i hi
theorem zr_Req_fr {L : List Nat} (h : zr_Req L rl rc rL gs gc th) (e : ∀ i, i < 256 → th' (768 + i) = th (768 + i)) : zr_Req L rl rc rL gs gc th' := by
  obtain ⟨h1, h2, h3, h4, h5, h6, h7⟩ := h
  exact ⟨h1, h2, h3, h4, fun i hi => (e i hi).trans (h5 i hi), h6, h7⟩
theorem zr_ReqE_fr (h : ∃ L, zr_Req L rl rc rL gs gc th) (e : ∀ i, i < 256 → th' (768 + i) = th (768 + i)) : ∃ L, zr_Req L rl rc rL gs gc th' := by
  obtain ⟨L, h⟩ := h
  exact ⟨L, zr_Req_fr h e⟩
theorem zr_Hel_fr (h : zr_Hel hl th) (e : ∀ i, i < 256 → th' (1280 + i) = th (1280 + i)) : zr_Hel hl th' := by
  intro i hi
  rw [e i hi]
  exact h i hi
end
/-! what the lookups give -/
theorem zr_lk_r {s : Nat → Int32} (h : zr_Cel s) (b p : Nat) (x : Int32) : zr_lk s b p x = x ∨ ∃ n : Nat, n < 64 ∧ zr_lk s b p x = nI n := by
  obtain ⟨d, hd, ed⟩ := h (b + p / 4)
  obtain ⟨l, hl, el⟩ := h (b + 4 + p)
  unfold zr_lk
  rw [ed, el]
  by_cases h4 : nI d &&& 4 = 0
  · rw [if_pos h4]
    by_cases h0 : nI d = 0
    · rw [if_pos h0]; exact Or.inl rfl
    · rw [if_neg h0]
      by_cases h1 : nI l = 0
      · rw [if_pos h1]; exact Or.inl rfl
      · rw [if_neg h1]
        obtain ⟨q, hq, eq⟩ := pk_andE (nI d &&& nI l) (m := 3) 2 (by decide)
        rw [eq, zb_leafN hl]
        exact Or.inr ⟨_, by omega, rfl⟩
  · rw [if_neg h4, zb_largeN d hd (p % 4) (by omega)]
    exact Or.inr ⟨_, by omega, rfl⟩
theorem zr_l1_r {s : Nat → Int32} (h : zr_Cel s) {m d t p : Nat} (hp : p < 16) : zr_l1 s m d t p = -4 ∨ zr_l1 s m d t p = -5 ∨ ∃ n : Nat, n < 64 ∧ zr_l1 s m d t p = nI n := by
  have hk := zr_lk_r h (20 * t) p (-4)
  unfold zr_l1
  by_cases h1 : m = 1
  · rw [if_pos h1]; exact Or.inr (Or.inr ⟨_, by omega, rfl⟩)
  · rw [if_neg h1]
    by_cases h2 : s (20 * t + p / 4) = 0
    · rw [if_pos h2]; exact Or.inl rfl
    · rw [if_neg h2]
      have hk' : zr_lk s (20 * t) p (-4) = -4 ∨ zr_lk s (20 * t) p (-4) = -5 ∨ ∃ n : Nat, n < 64 ∧ zr_lk s (20 * t) p (-4) = nI n := by
        rcases hk with a | a
        · exact Or.inl a
        · exact Or.inr (Or.inr a)
      by_cases h3 : ¬ s (20 * t + p / 4) &&& 4 = 0
      · rw [if_pos h3]; exact hk'
      · rw [if_neg h3]
        by_cases h4 : zr_lk s (80 + 20 * d) ((s (20 * t + p / 4)).toNatClampNeg / 16) (-6) < 0
        · rw [if_pos h4]; exact Or.inr (Or.inl rfl)
        · rw [if_neg h4]
          by_cases h5 : zr_lk s (80 + 20 * d) ((s (20 * t + p / 4)).toNatClampNeg / 16) (-6) &&& 16 = 0
          · rw [if_pos h5]; exact Or.inr (Or.inl rfl)
          · rw [if_neg h5]; exact hk'
theorem zr_Cel_u {a : Nat → Int32} (h : zr_Cel a) {k e : Nat} {x : Int32} (he : e < 256) (hx : x = nI e) : zr_Cel (upd a k x) := by
  intro j
  by_cases z : j = k
  · subst z
    exact ⟨e, he, pk_us.trans hx⟩
  · rw [pk_un z]
    exact h j
end
section
/-! the component's small methods, each with a general post -/
theorem zx_wt {post : Int32 → Prop} {u : SX} {a b : Int32} (h : 0 ≤ a ∧ a ≤ b) (p : post 1) : wpX_within post u a b := by
  unfold wpX_within
  exact br_f (Int32.not_lt.mpr h.1) (br_f (Int32.not_lt.mpr h.2) p)
theorem zx_wf {post : Int32 → Prop} {u : SX} {a b : Int32} (h : ¬ (0 ≤ a ∧ a ≤ b)) (p : post 0) : wpX_within post u a b := by
  unfold wpX_within
  exact br_c (fun _ => p) (fun z => br_t (Int32.not_le.mp fun y => h ⟨Int32.not_lt.mp z, y⟩) p)
theorem zz_wn {a : Nat} {b : Int32} {n : Nat} (h : a ≤ n) (hb : b = nI n) (hn : n < 2 ^ 31) : 0 ≤ nI a ∧ nI a ≤ b := by
  subst hb
  exact ⟨nI_pos' (by omega), nI_le h hn⟩
theorem zx_wn {post : Int32 → Prop} {u : SX} {a b : Int32} (i n : Nat) (h : i ≤ n) (p : post 1) (ha : a = nI i := by rfl) (hb : b = nI n := by rfl) (hn : n < 2 ^ 31 := by omega) : wpX_within post u a b := by
  subst ha
  exact zx_wt (zz_wn h hb hn) p
/-- a place's three arguments are good -/
def zz_ok (a b c : Int32) : Prop := (0 ≤ a ∧ a ≤ 3) ∧ (0 ≤ b ∧ b ≤ 3) ∧ (0 ≤ c ∧ c ≤ 15)
theorem zz_ok_e {a b c : Int32} (h : zz_ok a b c) : ∃ d t p : Nat, d ≤ 3 ∧ t ≤ 3 ∧ p ≤ 15 ∧ a = nI d ∧ b = nI t ∧ c = nI p := by
  obtain ⟨h1, h2, h3⟩ := h
  obtain ⟨d, hd, ed⟩ := nI_of2 (M := 3) (n := 3) (by decide) (Int32.not_lt.mpr h1.1) h1.2
  obtain ⟨t, ht, et⟩ := nI_of2 (M := 3) (n := 3) (by decide) (Int32.not_lt.mpr h2.1) h2.2
  obtain ⟨p, hp, ep⟩ := nI_of2 (M := 15) (n := 15) (by decide) (Int32.not_lt.mpr h3.1) h3.2
  exact ⟨d, t, p, hd, ht, hp, ed, et, ep⟩
theorem zz_ok_n {d t p : Nat} (hd : d ≤ 3) (ht : t ≤ 3) (hp : p ≤ 15) : zz_ok (nI d) (nI t) (nI p) :=
  ⟨zz_wn hd rfl (by omega), zz_wn ht rfl (by omega), zz_wn hp rfl (by omega)⟩
theorem zx_vt {post : Int32 → Prop} {u : SX} {a b c : Int32} (h : zz_ok a b c) (p : post 1) : wpX_validPlace post u a b c := by
  unfold wpX_validPlace
  exact zx_wt h.1 (br_f (by decide) (zx_wt h.2.1 (br_f (by decide) (zx_wt h.2.2 (br_f (by decide) p)))))
theorem zx_vf {post : Int32 → Prop} {u : SX} {a b c : Int32} (h : ¬ zz_ok a b c) (p : post 0) : wpX_validPlace post u a b c := by
  unfold wpX_validPlace
  by_cases h1 : 0 ≤ a ∧ a ≤ 3
  · refine zx_wt h1 (br_f (by decide) ?_)
    by_cases h2 : 0 ≤ b ∧ b ≤ 3
    · refine zx_wt h2 (br_f (by decide) ?_)
      exact zx_wf (fun h3 => h ⟨h1, h2, h3⟩) (br_t rfl p)
    · exact zx_wf h2 (br_t rfl p)
  · exact zx_wf h1 (br_t rfl p)
section
variable {cL pL rL wL ph pc ch cc rc : Nat} {aw wb wm pl pm fd lf gc : Int32} {wr se sc sv dm md ws pr lw nw cr rl gs ct hl th lm : Nat → Int32}
variable {post1 : Int32 → Prop} {post : Int32 → SX → Prop} {post0 : SX → Prop}
theorem zx_lfs_2 {s : Nat} (hs : s ≤ wL) (hw : wL ≤ 8) (hb : ∀ i, i < s → bt wb i = true) (hn : s < wL → bt wb s = false) (h1 : s < wL → post1 (nI s)) (h2 : s = wL → post1 (-1)) : ∀ d j : Nat, j + d = s → wX_lowestFreeSlot_2 post1 (nI cL) (nI pL) (nI rL) (nI wL) aw wb wm (nI ph) (nI pc) pl pm (nI ch) (nI cc) fd lf (nI rc) gc wr se sc sv dm md ws pr lw nw cr rl gs ct hl (d + 1) (nI j) := by
  intro d
  induction d with
  | zero =>
    intro j hj
    have hj' : j = s := by omega
    subst hj'
    unfold wX_lowestFreeSlot_2
    refine pk_le wL j (fun h => h2 (by omega)) (fun h => ?_)
    exact br_t ((zb_z (by omega)).mpr (hn h)) (h1 h)
  | succ d ih =>
    intro j hj
    unfold wX_lowestFreeSlot_2
    refine pk_le wL j (fun h => absurd h (by omega)) (fun h => ?_)
    refine br_f (fun z => ?_) (nm_r (nI_1 j) (ih (j + 1) (by omega)))
    rw [zb_z (by omega), hb j (by omega)] at z
    exact nomatch z
theorem zx_lfs {s : Nat} (hs : s ≤ wL) (hw : wL ≤ 8) (hb : ∀ i, i < s → bt wb i = true) (hn : s < wL → bt wb s = false) (h1 : s < wL → post1 (nI s)) (h2 : s = wL → post1 (-1)) : wpX_lowestFreeSlot post1 (nI cL, nI pL, nI rL, nI wL, aw, wb, wm, nI ph, nI pc, pl, pm, nI ch, nI cc, fd, lf, nI rc, gc, wr, se, sc, sv, dm, md, ws, pr, lw, nw, cr, rl, gs, ct, hl) := by
  unfold wpX_lowestFreeSlot
  exact ⟨s + 1, zx_lfs_2 hs hw hb hn h1 h2 s 0 (by omega)⟩
theorem zx_large {e p : Nat} {p0 p1 : Int32} {u : SX} (he : e < 256) (hp : p < 16) (e0 : p0 = nI e) (e1 : p1 = nI p) (h : post1 (((p0 >>> ((4 : Int32) &&& 31)) &&& 12) + nI (p % 4) + 16 * (p0 &&& 3))) : wpX_largeResult post1 u p0 p1 := by
  subst e0
  subst e1
  unfold wpX_largeResult
  rw [← zb_large e he p hp] at h
  exact h
theorem zx_leaf {l : Nat} {p0 p1 : Int32} {u : SX} (hl : l < 256) (e1 : p1 = nI l) (h : post1 ((p1 >>> ((4 : Int32) &&& 31)) + 16 * ((p0 &&& p1) &&& 3))) : wpX_leafResult post1 u p0 p1 := by
  subst e1
  unfold wpX_leafResult
  obtain ⟨q, hq, eq⟩ := pk_andE (p0 &&& nI l) (m := 3) 2 (by decide)
  rw [eq, ← zb_leaf l hl q hq, ← eq] at h
  exact h
theorem zx_eval {b p : Nat} {p0 p1 : Int32} (hb : b ≤ 100) (hp : p < 16) (hC : zr_Cel se) (e0 : p0 = nI b) (e1 : p1 = nI p) (h : post1 (zr_lk se b p (-6))) : wpX_evaluateSecond post1 (nI cL, nI pL, nI rL, nI wL, aw, wb, wm, nI ph, nI pc, pl, pm, nI ch, nI cc, fd, lf, nI rc, gc, wr, se, sc, sv, dm, md, ws, pr, lw, nw, cr, rl, gs, ct, hl) p0 p1 := by
  subst e0
  subst e1
  have i1 : nI b + (nI p >>> ((2 : Int32) &&& 31)) = nI (b + p / 4) := by
    rw [zb_s2 (by omega)]
    exact nI_add _ _
  have i2 : (nI b + 4) + nI p = nI (b + 4 + p) := by
    show (nI b + nI 4) + nI p = _
    rw [nI_add, nI_add]
  unfold wpX_evaluateSecond
  rw [i1, i2, nI_clamp (n := b + p / 4) (by omega), nI_clamp (n := b + 4 + p) (by omega)]
  obtain ⟨d, hd, ed⟩ := hC (b + p / 4)
  obtain ⟨l, hl, el⟩ := hC (b + 4 + p)
  refine ⟨vp_in_nI (by omega) (by omega), nm_e (br_c (fun z => ?_) (fun z => br_c (fun z4 => ⟨vp_in_nI (by omega) (by omega), nm_e (br_c (fun y => ?_) fun y => ?_)⟩) fun z4 => ?_))⟩
  · have : zr_lk se b p (-6) = -6 := by unfold zr_lk; rw [z, if_pos (by decide), if_pos rfl]
    rw [this] at h
    exact h
  · have : zr_lk se b p (-6) = -6 := by unfold zr_lk; rw [if_pos z4, if_neg z, if_pos y]
    rw [this] at h
    exact h
  · refine zx_leaf hl el ?_
    have : zr_lk se b p (-6) = (se (b + 4 + p) >>> ((4 : Int32) &&& 31)) + 16 * ((se (b + p / 4) &&& se (b + 4 + p)) &&& 3) := by unfold zr_lk; rw [if_pos z4, if_neg z, if_neg y]
    rw [this] at h
    exact h
  · refine zx_large hd hp ed rfl ?_
    have : zr_lk se b p (-6) = ((se (b + p / 4) >>> ((4 : Int32) &&& 31)) &&& 12) + nI (p % 4) + 16 * (se (b + p / 4) &&& 3) := by unfold zr_lk; rw [if_neg z4]
    rw [this] at h
    exact h
theorem zr_Cac_put {d p : Nat} (hd : d < 2) (hp : p < 16) (hC : zr_Cac se sc sv) : zr_Cac se (upd sc (16 * d + p) (zr_lk se (80 + 20 * d) p (-6))) (upd sv d (sv d ||| ((1 : Int32) <<< (nI p &&& 31)))) := by
  intro m q hm hq hb
  by_cases e : m = d ∧ q = p
  · obtain ⟨rfl, rfl⟩ := e
    exact pk_us
  · rw [pk_un (by omega)]
    by_cases em : m = d
    · subst em
      rw [pk_us, zb_set (by omega), decide_eq_false (fun z => e ⟨rfl, z⟩), Bool.or_false] at hb
      exact hC m q hm hq hb
    · rw [pk_un em] at hb
      exact hC m q hm hq hb
theorem zx_l2 {d p : Nat} {p0 p1 : Int32} (hd : d < 2) (hp : p < 16) (hS : zr_Cel se) (hC : zr_Cac se sc sv) (e0 : p0 = nI d) (e1 : p1 = nI p) (h : ∀ sc' sv', zr_Cac se sc' sv' → post (zr_lk se (80 + 20 * d) p (-6)) (nI cL, nI pL, nI rL, nI wL, aw, wb, wm, nI ph, nI pc, pl, pm, nI ch, nI cc, fd, lf, nI rc, gc, wr, se, sc', sv', dm, md, ws, pr, lw, nw, cr, rl, gs, ct, hl)) : wpX_lookupSecond post (nI cL, nI pL, nI rL, nI wL, aw, wb, wm, nI ph, nI pc, pl, pm, nI ch, nI cc, fd, lf, nI rc, gc, wr, se, sc, sv, dm, md, ws, pr, lw, nw, cr, rl, gs, ct, hl) p0 p1 := by
  subst e0
  subst e1
  have i1 : nI d * 16 + nI p = nI (16 * d + p) := by
    show nI d * nI 16 + nI p = _
    rw [pk_mul, nI_add, Nat.mul_comm]
  have i2 : (80 : Int32) + nI d * 20 = nI (80 + 20 * d) := by
    show nI 80 + nI d * nI 20 = _
    rw [pk_mul, nI_add, Nat.mul_comm d]
  unfold wpX_lookupSecond
  refine nm_r i1 ⟨vp_in_nI hd (by omega), ?_⟩
  rw [nI_clamp (n := d) (by omega), nI_clamp (n := 16 * d + p) (by omega)]
  refine br_c (fun z => ?_) (fun z => ?_)
  · refine zx_eval (b := 80 + 20 * d) (by omega) hp hS i2 rfl ⟨vp_in_nI (by omega) (by omega), nm_e ⟨vp_in_nI hd (by omega), vp_in_nI hd (by omega), nm_e ⟨vp_in_nI (by omega) (by omega), ?_⟩⟩⟩
    have hh := h _ _ (zr_Cac_put hd hp hC)
    rw [← pk_us (f := sc) (k := 16 * d + p) (x := zr_lk se (80 + 20 * d) p (-6))] at hh
    rw [pk_us] at hh ⊢
    exact hh
  · rw [zb_z (by omega)] at z
    have hb : bt (sv d) p = true := by cases hx : bt (sv d) p with
      | false => exact absurd hx z
      | true => rfl
    refine ⟨vp_in_nI (by omega) (by omega), ?_⟩
    rw [hC d p hd hp hb]
    exact h sc sv hC
theorem zx_l1 {m d t p : Nat} {p0 p1 p2 p3 : Int32} (hm : m < 3) (hd : d < 2) (ht : t ≤ 3) (hp : p < 16) (hS : zr_Cel se) (hC : zr_Cac se sc sv) (e0 : p0 = nI m) (e1 : p1 = nI d) (e2 : p2 = nI t) (e3 : p3 = nI p) (h : ∀ sc' sv', zr_Cac se sc' sv' → post (zr_l1 se m d t p) (nI cL, nI pL, nI rL, nI wL, aw, wb, wm, nI ph, nI pc, pl, pm, nI ch, nI cc, fd, lf, nI rc, gc, wr, se, sc', sv', dm, md, ws, pr, lw, nw, cr, rl, gs, ct, hl)) : wpX_lookupFirst post (nI cL, nI pL, nI rL, nI wL, aw, wb, wm, nI ph, nI pc, pl, pm, nI ch, nI cc, fd, lf, nI rc, gc, wr, se, sc, sv, dm, md, ws, pr, lw, nw, cr, rl, gs, ct, hl) p0 p1 p2 p3 := by
  subst e0
  subst e1
  subst e2
  subst e3
  have i1 : nI t * 20 + (nI p >>> ((2 : Int32) &&& 31)) = nI (20 * t + p / 4) := by
    rw [zb_s2 (by omega)]
    show nI t * nI 20 + _ = _
    rw [pk_mul, nI_add, Nat.mul_comm t]
  have i2 : (nI t * 20 + 4) + nI p = nI (20 * t + 4 + p) := by
    show (nI t * nI 20 + nI 4) + nI p = _
    rw [pk_mul, nI_add, nI_add, Nat.mul_comm t]
  unfold wpX_lookupFirst
  obtain ⟨dd, hdd, ed⟩ := hS (20 * t + p / 4)
  obtain ⟨l, hl, el⟩ := hS (20 * t + 4 + p)
  refine pk_eq m 1 (fun hm1 => ?_) (fun hm1 => ?_)
  · rw [zb_48 p hp]
    have hh := h sc sv hC
    unfold zr_l1 at hh
    rw [if_pos hm1] at hh
    exact hh
  · rw [i1, i2, nI_clamp (n := 20 * t + p / 4) (by omega), nI_clamp (n := 20 * t + 4 + p) (by omega)]
    refine ⟨vp_in_nI (by omega) (by omega), nm_e (br_c (fun z => ?_) (fun z => br_c (fun z4 => ?_) fun z4 => ?_))⟩
    · have hh := h sc sv hC
      unfold zr_l1 at hh
      rw [if_neg hm1, if_pos z] at hh
      exact hh
    · have hsh : se (20 * t + p / 4) >>> ((4 : Int32) &&& 31) = nI ((se (20 * t + p / 4)).toNatClampNeg / 16) := by
        rw [ed, nI_clamp (by omega)]
        exact zb_s4 (by omega)
      have hq : (se (20 * t + p / 4)).toNatClampNeg / 16 < 16 := by
        rw [ed, nI_clamp (by omega)]
        omega
      refine zx_l2 hd hq hS hC rfl hsh (fun sc' sv' hC' => ?_)
      have hh := h sc' sv' hC'
      unfold zr_l1 at hh
      rw [if_neg hm1, if_neg z, if_neg (fun y => y z4)] at hh
      refine br_c (fun y => ?_) (fun y => br_c (fun y1 => ?_) (fun y1 => ⟨vp_in_nI (by omega) (by omega), nm_e (br_c (fun x => ?_) (fun x => ?_))⟩))
      · rw [if_pos y] at hh
        exact hh
      · rw [if_neg y, if_pos y1] at hh
        exact hh
      · rw [if_neg y, if_neg y1] at hh
        have : zr_lk se (20 * t) p (-4) = -4 := by unfold zr_lk; rw [if_pos z4, if_neg z, if_pos x]
        rw [this] at hh
        exact hh
      · rw [if_neg y, if_neg y1] at hh
        have : zr_lk se (20 * t) p (-4) = (se (20 * t + 4 + p) >>> ((4 : Int32) &&& 31)) + 16 * ((se (20 * t + p / 4) &&& se (20 * t + 4 + p)) &&& 3) := by unfold zr_lk; rw [if_pos z4, if_neg z, if_neg x]
        rw [this] at hh
        exact zx_leaf hl el hh
    · have hh := h sc sv hC
      unfold zr_l1 at hh
      rw [if_neg hm1, if_neg z, if_pos z4] at hh
      have : zr_lk se (20 * t) p (-4) = ((se (20 * t + p / 4) >>> ((4 : Int32) &&& 31)) &&& 12) + nI (p % 4) + 16 * (se (20 * t + p / 4) &&& 3) := by unfold zr_lk; rw [if_neg z4]
      rw [this] at hh
      exact zx_large hdd hp ed rfl hh
end
end
section
/-! the reference's small methods, each with a general post -/
theorem zy_wt {post : Int32 → Prop} {u : SY} {a b : Int32} (h : 0 ≤ a ∧ a ≤ b) (p : post 1) : wpY_within post u a b := by
  unfold wpY_within
  exact br_f (Int32.not_lt.mpr h.1) (br_f (Int32.not_lt.mpr h.2) p)
theorem zy_wf {post : Int32 → Prop} {u : SY} {a b : Int32} (h : ¬ (0 ≤ a ∧ a ≤ b)) (p : post 0) : wpY_within post u a b := by
  unfold wpY_within
  exact br_c (fun _ => p) (fun z => br_t (Int32.not_le.mp fun y => h ⟨Int32.not_lt.mp z, y⟩) p)
theorem zy_wn {post : Int32 → Prop} {u : SY} {a b : Int32} (i n : Nat) (h : i ≤ n) (p : post 1) (ha : a = nI i := by rfl) (hb : b = nI n := by rfl) (hn : n < 2 ^ 31 := by omega) : wpY_within post u a b := by
  subst ha
  exact zy_wt (zz_wn h hb hn) p
section
variable {cL pL rL wL ph pc ch cc rc : Nat} {aw wb wm pl pm fd lf gc : Int32} {wr se sc sv dm md ws pr lw nw cr rl gs ct hl th lm : Nat → Int32}
variable {post1 : Int32 → Prop} {post : Int32 → SY → Prop} {post0 : SY → Prop}
theorem zy_rf {a b c : Int32} (h : ¬ zz_ok a b c) (p : post1 (-1)) : wpY_refusal post1 (fd, lf, wr, se, th, lm, ct, lw) a b c := by
  unfold wpY_refusal
  by_cases h1 : 0 ≤ a ∧ a ≤ 3
  · refine zy_wt h1 (br_f (by decide) ?_)
    by_cases h2 : 0 ≤ b ∧ b ≤ 3
    · refine zy_wt h2 (br_f (by decide) ?_)
      exact zy_wf (fun h3 => h ⟨h1, h2, h3⟩) (br_t rfl p)
    · exact zy_wf h2 (br_t rfl p)
  · exact zy_wf h1 (br_t rfl p)
/-- what a context's word says -/
theorem zz_ctxm {d m a : Nat} (hd : d < 2) (hm : m < 3) (ha : a ≤ 1) : (nI (d + 2 * m + 8 * a) >>> ((1 : Int32) &&& 31)) &&& 3 = nI m := by
  rw [zb_s1 (by omega), zb_m3 (by omega)]
  exact congrArg nI (by omega)
theorem zz_ctxd {d m a : Nat} (hd : d < 2) (hm : m < 3) (ha : a ≤ 1) : nI (d + 2 * m + 8 * a) &&& 1 = nI d := by
  rw [zb_m1 (by omega)]
  exact congrArg nI (by omega)
theorem zz_b1 (b : Bool) : b.toNat ≤ 1 := by cases b <;> decide
theorem zy_rt {dv d m a : Nat} {p0 p1 p2 : Int32} (h : zz_ok p0 p1 p2) (hdv : dv ≤ 3) (e0 : p0 = nI dv) (hd : d < 2) (hm : m < 3) (ha : a ≤ 1) (et : th dv = nI (d + 2 * m + 8 * a)) (h3 : m = 0 → post1 (-3)) (h0 : m ≠ 0 → post1 0) : wpY_refusal post1 (fd, lf, wr, se, th, lm, ct, lw) p0 p1 p2 := by
  unfold wpY_refusal
  refine zy_wt h.1 (br_f (by decide) (zy_wt h.2.1 (br_f (by decide) (zy_wt h.2.2 (br_f (by decide) ?_)))))
  subst e0
  rw [nI_clamp (by omega), et, zz_ctxm hd hm ha]
  exact ⟨vp_in_nI (by omega) (by omega), pk_eq m 0 h3 h0⟩
theorem zy_fe_2 {n w : Nat} {x1 : Int32} (hn : n ≤ 16) (hw : w ≤ 4) (e : x1 = nI w) (h1 : ∀ i, i < n → 0 ≤ th (256 * w + i)) (h2 : n < 16 → th (256 * w + n) < 0) (h : post1 (nI n)) : ∀ d j : Nat, j + d = n → wY_firstEmpty_2 post1 x1 fd lf wr se th lm ct lw (d + 1) (nI j) := by
  have ix : ∀ j : Nat, 256 * x1 + nI j = nI (256 * w + j) := by
    intro j
    subst e
    show nI 256 * nI w + nI j = _
    rw [pk_mul, nI_add]
  intro d
  induction d with
  | zero =>
    intro j hj
    have hj' : j = n := by omega
    subst hj'
    unfold wY_firstEmpty_2
    refine pk_le 16 j (fun hh => ?_) (fun hh => ?_)
    · have : j = 16 := by omega
      subst this
      exact h
    · rw [ix j, nI_clamp (by omega)]
      exact ⟨vp_in_nI (by omega) (by omega), br_f (Int32.not_le.mpr (h2 hh)) h⟩
  | succ d ih =>
    intro j hj
    unfold wY_firstEmpty_2
    refine pk_le 16 j (fun hh => absurd hh (by omega)) (fun hh => ?_)
    rw [ix j, nI_clamp (by omega)]
    exact ⟨vp_in_nI (by omega) (by omega), br_t (h1 j (by omega)) (nm_r (nI_1 j) (ih (j + 1) (by omega)))⟩
theorem zy_fe (n w : Nat) {x1 : Int32} (hn : n ≤ 16) (hw : w ≤ 4) (e : x1 = nI w) (h1 : ∀ i, i < n → 0 ≤ th (256 * w + i)) (h2 : n < 16 → th (256 * w + n) < 0) (h : post1 (nI n)) : wpY_firstEmpty post1 (fd, lf, wr, se, th, lm, ct, lw) x1 := by
  unfold wpY_firstEmpty
  exact ⟨n + 1, zy_fe_2 hn hw e h1 h2 h n 0 (by omega)⟩
/-- one entry taken out: those behind it move up -/
def zr_rm (th : Nat → Int32) (a e : Nat) : Nat → Int32 := fun k => if a ≤ k ∧ k < e then th (k + 1) else th k
theorem zr_rm_u (th : Nat → Int32) {a e : Nat} (h : a ≤ e) : upd (zr_rm th a e) e (zr_rm th a e (e + 1)) = zr_rm th a (e + 1) := by
  funext k
  by_cases z : k = e
  · subst z
    rw [pk_us]
    unfold zr_rm
    rw [if_neg (by omega), if_pos (by omega)]
  · rw [pk_un z]
    unfold zr_rm
    by_cases y : a ≤ k ∧ k < e
    · rw [if_pos y, if_pos (by omega)]
    · rw [if_neg y, if_neg (by omega)]
theorem zr_rm_0 (th : Nat → Int32) (a : Nat) : zr_rm th a a = th := by
  funext k
  unfold zr_rm
  rw [if_neg (by omega)]
theorem zy_rm_8 {a w : Nat} {x1 : Int32} (hw : w ≤ 4) (ha : a ≤ 256 * w + 16) (e : x1 = nI w) (h : post0 (fd, lf, wr, se, zr_rm th a (256 * w + 16), lm, ct, lw)) : ∀ d j : Nat, j + d = 256 * w + 16 → a ≤ j → wY_remove_8 post0 x1 fd lf (d + 1) (nI j) wr se (zr_rm th a j) lm ct lw := by
  have ie : 256 * x1 + 16 = nI (256 * w + 16) := by
    subst e
    show nI 256 * nI w + nI 16 = _
    rw [pk_mul, nI_add]
  intro d
  induction d with
  | zero =>
    intro j hj hja
    have hj' : j = 256 * w + 16 := by omega
    subst hj'
    unfold wY_remove_8
    rw [ie]
    exact br_t (nI_le (Nat.le_refl _) (by omega)) h
  | succ d ih =>
    intro j hj hja
    unfold wY_remove_8
    rw [ie]
    refine pk_le (256 * w + 16) j (fun hh => absurd hh (by omega)) (fun hh => ?_)
    rw [nI_1 j, nI_clamp (n := j + 1) (by omega), nI_clamp (n := j) (by omega), zr_rm_u th hja]
    exact ⟨vp_in_nI (by omega) (by omega), vp_in_nI (by omega) (by omega), nm_e (nm_e (ih (j + 1) (by omega) (by omega)))⟩
theorem zy_rm (w i : Nat) {p0 p1 : Int32} (hw : w ≤ 4) (hi : i ≤ 16) (e0 : p0 = nI w) (e1 : p1 = nI i) (h : post0 (fd, lf, wr, se, zr_rm th (256 * w + i) (256 * w + 16), lm, ct, lw)) : wpY_remove post0 (fd, lf, wr, se, th, lm, ct, lw) p0 p1 := by
  have ix : 256 * p0 + p1 = nI (256 * w + i) := by
    subst e0
    subst e1
    show nI 256 * nI w + nI i = _
    rw [pk_mul, nI_add]
  unfold wpY_remove
  refine nm_r ix ⟨16 - i + 1, ?_⟩
  have hh := zy_rm_8 (a := 256 * w + i) hw (by omega) e0 h (16 - i) (256 * w + i) (by omega) (Nat.le_refl _)
  rw [zr_rm_0] at hh
  exact hh
/-- eight entries marked, where they are there -/
def zr_mk (th : Nat → Int32) (a e : Nat) (x : Int32) : Nat → Int32 := fun k => if (a ≤ k ∧ k < e) ∧ 0 ≤ th k then th k ||| x else th k
theorem zr_mk_0 (th : Nat → Int32) (a : Nat) (x : Int32) : zr_mk th a a x = th := by
  funext k
  unfold zr_mk
  rw [if_neg (by omega)]
theorem zr_mk_n (th : Nat → Int32) {a e k : Nat} (x : Int32) (h : ¬ (a ≤ k ∧ k < e)) : zr_mk th a e x k = th k := if_neg fun z => h z.1
theorem zr_mk_s (th : Nat → Int32) {a e : Nat} (x : Int32) (h : ¬ 0 ≤ th e) : zr_mk th a (e + 1) x = zr_mk th a e x := by
  funext k
  unfold zr_mk
  by_cases z : k = e
  · subst z
    rw [if_neg (fun y => h y.2), if_neg (fun y => h y.2)]
  · by_cases y : (a ≤ k ∧ k < e) ∧ 0 ≤ th k
    · rw [if_pos y, if_pos ⟨by omega, y.2⟩]
    · rw [if_neg y, if_neg (fun w => y ⟨by omega, w.2⟩)]
theorem zr_mk_u (th : Nat → Int32) {a e : Nat} (x : Int32) (ha : a ≤ e) (h : 0 ≤ th e) : upd (zr_mk th a e x) e (zr_mk th a e x e ||| x) = zr_mk th a (e + 1) x := by
  funext k
  by_cases z : k = e
  · subst z
    rw [pk_us, zr_mk_n th x (by omega)]
    unfold zr_mk
    rw [if_pos ⟨by omega, h⟩]
  · rw [pk_un z]
    unfold zr_mk
    by_cases y : (a ≤ k ∧ k < e) ∧ 0 ≤ th k
    · rw [if_pos y, if_pos ⟨by omega, y.2⟩]
    · rw [if_neg y, if_neg (fun w => y ⟨by omega, w.2⟩)]
theorem zy_mk_6 {w : Nat} {x1 x2 : Int32} (hw : w ≤ 4) (e : x1 = nI w) (h : post0 (fd, lf, wr, se, zr_mk th (256 * w) (256 * w + 8) x2, lm, ct, lw)) : ∀ d j : Nat, j + d = 256 * w + 8 → 256 * w ≤ j → wY_mark_6 post0 x1 x2 fd lf (d + 1) (nI j) wr se (zr_mk th (256 * w) j x2) lm ct lw := by
  have ie : 256 * x1 + 8 = nI (256 * w + 8) := by
    subst e
    show nI 256 * nI w + nI 8 = _
    rw [pk_mul, nI_add]
  intro d
  induction d with
  | zero =>
    intro j hj hja
    have hj' : j = 256 * w + 8 := by omega
    subst hj'
    unfold wY_mark_6
    rw [ie]
    exact br_t (nI_le (Nat.le_refl _) (by omega)) h
  | succ d ih =>
    intro j hj hja
    unfold wY_mark_6
    rw [ie]
    refine pk_le (256 * w + 8) j (fun hh => absurd hh (by omega)) (fun hh => ?_)
    rw [nI_clamp (n := j) (by omega)]
    have hth : zr_mk th (256 * w) j x2 j = th j := zr_mk_n th x2 (by omega)
    refine ⟨vp_in_nI (by omega) (by omega), ?_⟩
    by_cases z : th j < 0
    · refine br_t (by rw [hth]; exact z) (nm_r (nI_1 j) ?_)
      rw [← zr_mk_s th x2 (Int32.not_le.mpr z)]
      exact ih (j + 1) (by omega) (by omega)
    · refine br_f (by rw [hth]; exact z) ⟨vp_in_nI (by omega) (by omega), vp_in_nI (by omega) (by omega), nm_r (zr_mk_u th x2 hja (Int32.not_lt.mp z)) (nm_r (nI_1 j) ?_)⟩
      exact ih (j + 1) (by omega) (by omega)
theorem zy_mk (w : Nat) {p0 p1 : Int32} (hw : w ≤ 4) (e0 : p0 = nI w) (h : post0 (fd, lf, wr, se, zr_mk th (256 * w) (256 * w + 8) p1, lm, ct, lw)) : wpY_mark post0 (fd, lf, wr, se, th, lm, ct, lw) p0 p1 := by
  have ix : 256 * p0 = nI (256 * w) := by
    subst e0
    exact pk_mul 256 w
  unfold wpY_mark
  refine nm_r ix ⟨8 + 1, ?_⟩
  have hh := zy_mk_6 hw e0 h 8 (256 * w) (by omega) (Nat.le_refl _)
  rw [zr_mk_0] at hh
  exact hh
theorem zy_lk {b p : Nat} {p0 p1 p2 : Int32} (hb : b ≤ 100) (hp : p < 16) (e0 : p0 = nI b) (e1 : p1 = nI p) (h : post1 (zr_lk se b p p2)) : wpY_lookup post1 (fd, lf, wr, se, th, lm, ct, lw) p0 p1 p2 := by
  subst e0
  subst e1
  have hd : nI p / 4 = nI (p / 4) := pk_div (d := 4) (by omega) (by omega) (by omega)
  have hr : nI p - nI p / 4 * 4 = nI (p % 4) := pk_rem (d := 4) (by omega) (by omega) (by omega)
  have i2 : (nI b + 4) + nI p = nI (b + 4 + p) := by
    show (nI b + nI 4) + nI p = _
    rw [nI_add, nI_add]
  unfold wpY_lookup
  rw [hr, hd, nI_add b, i2, nI_clamp (n := b + p / 4) (by omega), nI_clamp (n := b + 4 + p) (by omega)]
  unfold zr_lk at h
  refine ⟨by decide, vp_in_nI (by omega) (by omega), nm_e ⟨vp_in_nI (by omega) (by omega), nm_e (br_c (fun z4 => br_c (fun z => ?_) (fun z => br_c (fun y => ?_) (fun y => ?_))) (fun z4 => ⟨by decide, ?_⟩))⟩⟩
  · rw [if_pos z4, if_pos z] at h
    exact h
  · rw [if_pos z4, if_neg z, if_pos y] at h
    exact h
  · rw [if_pos z4, if_neg z, if_neg y] at h
    exact h
  · rw [if_neg z4] at h
    exact h
theorem zy_l1 {dv m d a t p : Nat} {p0 p1 p2 : Int32} (hdv : dv ≤ 3) (hd : d < 2) (hm : m < 3) (ha : a ≤ 1) (ht : t ≤ 3) (hp : p < 16) (hS : zr_Cel se) (et : th dv = nI (d + 2 * m + 8 * a)) (e0 : p0 = nI dv) (e1 : p1 = nI t) (e2 : p2 = nI p) (h : post1 (zr_l1 se m d t p)) : wpY_lookup1 post1 (fd, lf, wr, se, th, lm, ct, lw) p0 p1 p2 := by
  subst e0
  subst e1
  subst e2
  have hdv4 : nI p / 4 = nI (p / 4) := pk_div (d := 4) (by omega) (by omega) (by omega)
  have i1 : 20 * nI t + nI (p / 4) = nI (20 * t + p / 4) := by
    show nI 20 * nI t + _ = _
    rw [pk_mul, nI_add]
  have ib : 20 * nI t = nI (20 * t) := pk_mul 20 t
  have i3 : (80 : Int32) + 20 * nI d = nI (80 + 20 * d) := by
    show nI 80 + nI 20 * nI d = _
    rw [pk_mul, nI_add]
  obtain ⟨dd, hdd, ed⟩ := hS (20 * t + p / 4)
  unfold wpY_lookup1
  dsimp only
  rw [nI_clamp (n := dv) (by omega), et, zz_ctxm hd hm ha, zz_ctxd hd hm ha, hdv4, i1, nI_clamp (n := 20 * t + p / 4) (by omega), i3]
  unfold zr_l1 at h
  refine ⟨vp_in_nI (by omega) (by omega), pk_eq m 1 (fun hm1 => ?_) (fun hm1 => ⟨by decide, vp_in_nI (by omega) (by omega), nm_e (br_c (fun z => ?_) (fun z => br_c (fun z4 => ⟨vp_in_nI (by omega) (by omega), ?_⟩) (fun z4 => ?_)))⟩)⟩
  · rw [if_pos hm1] at h
    show post1 (nI p + nI 48)
    rw [nI_add]
    exact h
  · rw [if_neg hm1, if_pos z] at h
    unfold wY_lookup1_88
    refine zy_lk (by omega) hp ib rfl ?_
    have : zr_lk se (20 * t) p (-4) = -4 := by unfold zr_lk; rw [z, if_pos (by decide), if_pos rfl]
    rw [this]
    exact h
  · rw [if_neg hm1, if_neg z, if_neg (fun y => y z4)] at h
    have hsh : se (20 * t + p / 4) >>> ((4 : Int32) &&& 31) = nI ((se (20 * t + p / 4)).toNatClampNeg / 16) := by
      rw [ed, nI_clamp (by omega)]
      exact zb_s4 (by omega)
    have hq : (se (20 * t + p / 4)).toNatClampNeg / 16 < 16 := by
      rw [ed, nI_clamp (by omega)]
      omega
    refine zy_lk (by omega) hq rfl hsh (br_c (fun y => ?_) (fun y => br_c (fun y1 => ?_) (fun y1 => ?_)))
    · rw [if_pos y] at h
      exact h
    · rw [if_neg y, if_pos y1] at h
      exact h
    · rw [if_neg y, if_neg y1] at h
      unfold wY_lookup1_88
      exact zy_lk (by omega) hp ib rfl h
  · rw [if_neg hm1, if_neg z, if_pos z4] at h
    unfold wY_lookup1_88
    exact zy_lk (by omega) hp ib rfl h
theorem zy_flag_t {i w : Nat} {p0 p1 p2 : Int32} (hw : w ≤ 5) (hi : i < 256) (e0 : p0 = nI w) (e1 : p1 = nI i) (h0 : 0 ≤ th (256 * w + i)) (h1 : ¬ th (256 * w + i) &&& p2 = 0) (h : post1 1) : wpY_flag post1 (fd, lf, wr, se, th, lm, ct, lw) p0 p1 p2 := by
  have ix : 256 * p0 + p1 = nI (256 * w + i) := by
    subst e0
    subst e1
    show nI 256 * nI w + nI i = _
    rw [pk_mul, nI_add]
  unfold wpY_flag
  rw [ix, nI_clamp (by omega)]
  exact ⟨vp_in_nI (by omega) (by omega), br_f (Int32.not_lt.mpr h0) ⟨vp_in_nI (by omega) (by omega), br_f h1 h⟩⟩
theorem zy_flag_f {i w : Nat} {p0 p1 p2 : Int32} (hw : w ≤ 5) (hi : i < 256) (e0 : p0 = nI w) (e1 : p1 = nI i) (h1 : ¬ (0 ≤ th (256 * w + i) ∧ ¬ th (256 * w + i) &&& p2 = 0)) (h : post1 0) : wpY_flag post1 (fd, lf, wr, se, th, lm, ct, lw) p0 p1 p2 := by
  have ix : 256 * p0 + p1 = nI (256 * w + i) := by
    subst e0
    subst e1
    show nI 256 * nI w + nI i = _
    rw [pk_mul, nI_add]
  unfold wpY_flag
  rw [ix, nI_clamp (by omega)]
  refine ⟨vp_in_nI (by omega) (by omega), br_c (fun _ => h) (fun z => ⟨vp_in_nI (by omega) (by omega), br_c (fun _ => h) (fun y => ?_)⟩)⟩
  exact absurd ⟨Int32.not_lt.mp z, y⟩ h1
end
end
section
/-! seen values; cells; the methods without loops -/
theorem zb_15 : ∀ i, i < 4 → ∀ p, p < 16 → bt ((15 : Int32) <<< (nI (4 * i) &&& 31)) p = decide (p / 4 = i) := by decide +kernel
theorem zr_lk_u {s : Nat → Int32} {b p c : Nat} {x v : Int32} (h1 : b + p / 4 ≠ c) (h2 : b + 4 + p ≠ c) : zr_lk (upd s c v) b p x = zr_lk s b p x := by
  unfold zr_lk
  rw [pk_un h1, pk_un h2]
section
variable {cL pL rL wL ph pc ch cc rc : Nat} {aw wb wm pl pm fd lf gc : Int32} {wr se sc sv dm md ws pr lw nw cr rl gs ct hl th lm : Nat → Int32}
variable {post1 : Int32 → Prop} {post : Int32 → SX → Prop} {post0 : SX → Prop} {postY1 : Int32 → Prop}
theorem zr_Cac_lo {c : Nat} {v : Int32} (hc : c < 80) (h : zr_Cac se sc sv) : zr_Cac (upd se c v) sc sv := by
  intro m p hm hp hb
  rw [zr_lk_u (by omega) (by omega)]
  exact h m p hm hp hb
theorem zr_Cac_drop {m x : Nat} {v z0 : Int32} (hm : m < 2) (hx : x < 20) (hz : ∀ p, p < 16 → bt z0 p = false → p / 4 ≠ x ∧ 4 + p ≠ x) (h : zr_Cac se sc sv) : zr_Cac (upd se (80 + 20 * m + x) v) sc (upd sv m (sv m &&& (z0 ^^^ (-1)))) := by
  intro m' p hm' hp hb
  by_cases e : m' = m
  · subst e
    rw [pk_us, zb_andn, Bool.and_eq_true, Bool.not_eq_true'] at hb
    have := hz p hp hb.2
    rw [zr_lk_u (by omega) (by omega)]
    exact h m' p hm' hp hb.1
  · rw [pk_un e] at hb
    rw [zr_lk_u (by omega) (by omega)]
    exact h m' p hm' hp hb
theorem zx_ss_58 {m : Nat} {x3 z0 : Int32} (hm : m < 2) (e : x3 = nI m) (h : post0 (nI cL, nI pL, nI rL, nI wL, aw, wb, wm, nI ph, nI pc, pl, pm, nI ch, nI cc, fd, lf, nI rc, gc, wr, se, sc, upd sv m (sv m &&& (z0 ^^^ (-1))), dm, md, ws, pr, lw, nw, cr, rl, gs, ct, hl)) : wX_setSeen_58 post0 x3 z0 (nI cL) (nI pL) (nI rL) (nI wL) aw wb wm (nI ph) (nI pc) pl pm (nI ch) (nI cc) fd lf (nI rc) gc wr se sc sv dm md ws pr lw nw cr rl gs ct hl := by
  subst e
  unfold wX_setSeen_58
  rw [nI_clamp (by omega)]
  exact ⟨vp_in_nI hm (by omega), vp_in_nI hm (by omega), nm_e h⟩
theorem zx_ss_24 {m x : Nat} {x1 z0 v : Int32} (hm : m < 2) (hx : x < 20) (e1 : x1 = nI (80 + 20 * m + x)) (e0 : z0 = nI m) (hC : zr_Cac se sc sv) (h : ∀ sv', zr_Cac (upd se (80 + 20 * m + x) v) sc sv' → post0 (nI cL, nI pL, nI rL, nI wL, aw, wb, wm, nI ph, nI pc, pl, pm, nI ch, nI cc, fd, lf, nI rc, gc, wr, upd se (80 + 20 * m + x) v, sc, sv', dm, md, ws, pr, lw, nw, cr, rl, gs, ct, hl)) : wX_setSeen_24 post0 x1 z0 (nI cL) (nI pL) (nI rL) (nI wL) aw wb wm (nI ph) (nI pc) pl pm (nI ch) (nI cc) fd lf (nI rc) gc wr (upd se (80 + 20 * m + x) v) sc sv dm md ws pr lw nw cr rl gs ct hl := by
  have ix : (x1 - 80) - (20 * z0) = nI x := by
    subst e1
    subst e0
    show (nI (80 + 20 * m + x) - nI 80) - (nI 20 * nI m) = _
    rw [pk_sub (by omega), pk_mul, pk_sub (by omega)]
    exact congrArg nI (by omega)
  unfold wX_setSeen_24
  refine nm_r ix (pk_le 4 x (fun h4 => ?_) (fun h4 => ?_))
  · have i4 : nI x - 4 = nI (x - 4) := pk_sub (b := 4) h4
    rw [i4]
    refine zx_ss_58 hm e0 (h _ (zr_Cac_drop hm hx (fun p hp hb => ?_) hC))
    rw [zb_sh1 (by omega), decide_eq_false_iff_not] at hb
    omega
  · have i4 : 4 * nI x = nI (4 * x) := pk_mul 4 x
    rw [i4]
    refine zx_ss_58 hm e0 (h _ (zr_Cac_drop hm hx (fun p hp hb => ?_) hC))
    rw [zb_15 x h4 p hp, decide_eq_false_iff_not] at hb
    omega
theorem zx_ss {c : Nat} {p0 v : Int32} (hc : c < 120) (e : p0 = nI c) (hC : zr_Cac se sc sv) (h : ∀ sv', zr_Cac (upd se c v) sc sv' → post0 (nI cL, nI pL, nI rL, nI wL, aw, wb, wm, nI ph, nI pc, pl, pm, nI ch, nI cc, fd, lf, nI rc, gc, wr, upd se c v, sc, sv', dm, md, ws, pr, lw, nw, cr, rl, gs, ct, hl)) : wpX_setSeen post0 (nI cL, nI pL, nI rL, nI wL, aw, wb, wm, nI ph, nI pc, pl, pm, nI ch, nI cc, fd, lf, nI rc, gc, wr, se, sc, sv, dm, md, ws, pr, lw, nw, cr, rl, gs, ct, hl) p0 v := by
  subst e
  unfold wpX_setSeen
  rw [nI_clamp (by omega)]
  refine ⟨vp_in_nI hc (by omega), nm_e (pk_lt c 80 (fun h8 => h sv (zr_Cac_lo h8 hC)) (fun h8 => pk_lt c 100 (fun h10 => ?_) (fun h10 => ?_)))⟩
  · obtain ⟨x, rfl⟩ : ∃ x, c = 80 + 20 * 0 + x := ⟨c - 80, by omega⟩
    exact zx_ss_24 (m := 0) (by omega) (by omega) rfl rfl hC h
  · obtain ⟨x, rfl⟩ : ∃ x, c = 80 + 20 * 1 + x := ⟨c - 100, by omega⟩
    exact zx_ss_24 (m := 1) (by omega) (by omega) rfl rfl hC h
theorem zy_pl_0 {x1 x2 x3 : Int32} (p : post1 (-1)) : wY_place_42 post1 x1 x2 x3 fd lf wr se th lm ct lw := by
  unfold wY_place_42 wY_place_43
  exact br_t rfl p
theorem zy_pl_1 {x1 x2 x3 : Int32} (p : post1 (((80 * (x1 - 1)) + (20 * x2)) + x3)) : wY_place_38 post1 x1 x2 x3 fd lf wr se th lm ct lw := by
  unfold wY_place_38 wY_place_43
  exact br_f (by decide) p
/-- where a cell lies, for both sides -/
theorem zz_cell (a b c : Int32) : ∃ r : Int32, (r = -1 ∨ ∃ k : Nat, k < 120 ∧ r = nI k) ∧ (∀ post1 : Int32 → Prop, post1 r → wpX_cellOf post1 (nI cL, nI pL, nI rL, nI wL, aw, wb, wm, nI ph, nI pc, pl, pm, nI ch, nI cc, fd, lf, nI rc, gc, wr, se, sc, sv, dm, md, ws, pr, lw, nw, cr, rl, gs, ct, hl) a b c) ∧ (∀ post1 : Int32 → Prop, post1 r → wpY_place post1 (fd, lf, wr, se, th, lm, ct, lw) a b c) := by
  by_cases hc : 0 ≤ c ∧ c ≤ 19
  · obtain ⟨i, hi, rfl⟩ := nI_of2 (M := 19) (n := 19) (by decide) (Int32.not_lt.mpr hc.1) hc.2
    by_cases h1 : a = 1
    · subst h1
      by_cases hb : 0 ≤ b ∧ b ≤ 3
      · obtain ⟨t, ht, rfl⟩ := nI_of2 (M := 3) (n := 3) (by decide) (Int32.not_lt.mpr hb.1) hb.2
        refine ⟨nI (20 * t + i), Or.inr ⟨_, by omega, rfl⟩, fun post1 p => ?_, fun post1 p => ?_⟩
        · unfold wpX_cellOf
          refine zx_wt hc (br_f (by decide) (br_t rfl (zx_wt hb (br_f (by decide) ?_))))
          show post1 (nI t * nI 20 + nI i)
          rw [pk_mul, nI_add, Nat.mul_comm]
          exact p
        · unfold wpY_place
          refine zy_wt hc (br_f (by decide) (br_t rfl (zy_wt hb (br_f (by decide) (zy_pl_1 ?_)))))
          show post1 (0 + nI 20 * nI t + nI i)
          rw [pk_mul, Int32.zero_add, nI_add]
          exact p
      · refine ⟨-1, Or.inl rfl, fun post1 p => ?_, fun post1 p => ?_⟩
        · unfold wpX_cellOf
          refine zx_wt hc (br_f (by decide) (br_t rfl (zx_wf hb (br_t rfl ?_))))
          unfold wX_cellOf_33
          exact br_f (by decide) p
        · unfold wpY_place
          refine zy_wt hc (br_f (by decide) (br_t rfl (zy_wf hb (br_t rfl ?_))))
          unfold wY_place_24
          exact br_f (by decide) (zy_pl_0 p)
    · by_cases h2 : a = 2
      · subst h2
        by_cases hb : 0 ≤ b ∧ b ≤ 1
        · obtain ⟨t, ht, rfl⟩ := nI_of2 (M := 1) (n := 1) (by decide) (Int32.not_lt.mpr hb.1) hb.2
          refine ⟨nI (80 + 20 * t + i), Or.inr ⟨_, by omega, rfl⟩, fun post1 p => ?_, fun post1 p => ?_⟩
          · unfold wpX_cellOf
            refine zx_wt hc (br_f (by decide) (br_f h1 ?_))
            unfold wX_cellOf_33
            refine br_t rfl (zx_wt hb (br_f (by decide) ?_))
            show post1 ((nI 80 + nI t * nI 20) + nI i)
            rw [pk_mul, nI_add, nI_add, Nat.mul_comm t]
            exact p
          · unfold wpY_place
            refine zy_wt hc (br_f (by decide) (br_f h1 ?_))
            unfold wY_place_24
            refine br_t rfl (zy_wt hb (br_f (by decide) (zy_pl_1 ?_)))
            show post1 ((nI 80 + nI 20 * nI t) + nI i)
            rw [pk_mul, nI_add, nI_add]
            exact p
        · refine ⟨-1, Or.inl rfl, fun post1 p => ?_, fun post1 p => ?_⟩
          · unfold wpX_cellOf
            refine zx_wt hc (br_f (by decide) (br_f h1 ?_))
            unfold wX_cellOf_33
            exact br_t rfl (zx_wf hb (br_t rfl p))
          · unfold wpY_place
            refine zy_wt hc (br_f (by decide) (br_f h1 ?_))
            unfold wY_place_24
            exact br_t rfl (zy_wf hb (br_t rfl (zy_pl_0 p)))
      · refine ⟨-1, Or.inl rfl, fun post1 p => ?_, fun post1 p => ?_⟩
        · unfold wpX_cellOf
          refine zx_wt hc (br_f (by decide) (br_f h1 ?_))
          unfold wX_cellOf_33
          exact br_f h2 p
        · unfold wpY_place
          refine zy_wt hc (br_f (by decide) (br_f h1 ?_))
          unfold wY_place_24
          exact br_f h2 (zy_pl_0 p)
  · refine ⟨-1, Or.inl rfl, fun post1 p => ?_, fun post1 p => ?_⟩
    · unfold wpX_cellOf
      exact zx_wf hc (br_t rfl p)
    · unfold wpY_place
      exact zy_wf hc (br_t rfl (zy_pl_0 p))
end
end
section
/-! bind, map, entry, answered, lastFence, memory -/
theorem i_vc_bind {k : Nat} {u : SX} {v : SY} (I : i_Rel k u v) (hk : k + 5 ≤ 2564) (v1 : Int32) (v2 : Int32) (v3 : Int32) : wpX_bind (fun r u' => wpY_bind (fun r' v' => r' = r ∧ i_Rel (k + 5) u' v') v v1 v2 v3) u v1 v2 v3 := by
  refine zz_el (P := fun u v => wpX_bind (fun r u' => wpY_bind (fun r' v' => r' = r ∧ i_Rel (k + 5) u' v') v v1 v2 v3) u v1 v2 v3) ?_ I
  intro cL pL rL wL ph pc ch cc rc aw wb wm pl pm fd lf gc wr se sc sv dm md ws pr lw nw cr rl gs ct hl th lm R
  unfold wpX_bind wpY_bind
  by_cases h1 : 0 ≤ v1 ∧ v1 ≤ 3
  · refine zx_wt h1 (br_f (by decide) ?_)
    by_cases h2 : 0 ≤ v2 ∧ v2 ≤ 1
    · refine zx_wt h2 (br_f (by decide) ?_)
      by_cases h3 : 0 ≤ v3 ∧ v3 ≤ 2
      · refine zx_wt h3 (br_f (by decide) ?_)
        obtain ⟨a, ha, rfl⟩ := nI_of2 (M := 3) (n := 3) (by decide) (Int32.not_lt.mpr h1.1) h1.2
        obtain ⟨b, hb, rfl⟩ := nI_of2 (M := 1) (n := 1) (by decide) (Int32.not_lt.mpr h2.1) h2.2
        obtain ⟨c, hc, rfl⟩ := nI_of2 (M := 2) (n := 2) (by decide) (Int32.not_lt.mpr h3.1) h3.2
        rw [nI_clamp (n := a) (by omega)]
        refine ⟨vp_in_nI (by omega) (by omega), nm_e ⟨vp_in_nI (by omega) (by omega), nm_e ?_⟩⟩
        refine zy_wt h1 (br_f (by decide) (zy_wt h2 (br_f (by decide) (zy_wt h3 (br_f (by decide) ⟨vp_in_nI (by omega) (by omega), vp_in_nI (by omega) (by omega), nm_e ⟨rfl, zz_in ?_⟩⟩)))))
        obtain ⟨hL, hW, hS, hC, hX, hA, hP, hM, hQ, hH⟩ := R
        obtain ⟨x1, x2, x3⟩ := hX
        obtain ⟨d, m, hd, hm, e1, e2, e3⟩ := x1 a (by omega)
        have hb1 := zz_b1 (bt aw a)
        have ev : ((th a &&& 8) + nI b) + (2 * nI c) = nI (b + 2 * c + 8 * (bt aw a).toNat) := by
          rw [e3, zb_p8]
          show (nI _ + nI b) + (nI 2 * nI c) = _
          rw [pk_mul, nI_add, nI_add]
          exact congrArg nI (by omega)
        rw [ev]
        obtain ⟨l1, l2, l3, l4, l5, l6, l7, l8, _⟩ := id hL
        refine ⟨hL, hW, hS, hC, ⟨fun i hi => ?_, fun i y z => ?_, x3⟩, zr_Wal_fr (by omega) hA (fun i hi => pk_un (by omega)), zr_Pos_fr (by omega) hP (fun i hi => pk_un (by omega)), zr_Cmd_fr (by omega) hM (fun i hi => pk_un (by omega)), zr_ReqE_fr hQ (fun i hi => pk_un (by omega)), zr_Hel_fr hH (fun i hi => pk_un (by omega))⟩
        · by_cases e : i = a
          · subst e
            exact ⟨b, c, by omega, by omega, pk_us, pk_us, pk_us⟩
          · rw [pk_un e, pk_un e, pk_un e]
            exact x1 i hi
        · rw [pk_un (by omega)]
          exact x2 i y z
      · exact zx_wf h3 (br_t rfl (zy_wt h1 (br_f (by decide) (zy_wt h2 (br_f (by decide) (zy_wf h3 (br_t rfl ⟨rfl, zz_in R⟩)))))))
    · exact zx_wf h2 (br_t rfl (zy_wt h1 (br_f (by decide) (zy_wf h2 (br_t rfl ⟨rfl, zz_in R⟩)))))
  · exact zx_wf h1 (br_t rfl (zy_wf h1 (br_t rfl ⟨rfl, zz_in R⟩)))
section
variable {cL pL rL wL ph pc ch cc rc : Nat} {aw wb wm pl pm fd lf gc : Int32} {wr se sc sv dm md ws pr lw nw cr rl gs ct hl th lm : Nat → Int32}
theorem zr_R_wr {c e : Nat} {x : Int32} (he : e < 256) (hx : x = nI e) (R : zr_R cL pL rL wL ph pc ch cc rc aw wb wm pl pm gc wr se sc sv dm md ws pr lw nw cr rl gs hl th lm) : zr_R cL pL rL wL ph pc ch cc rc aw wb wm pl pm gc (upd wr c x) se sc sv dm md ws pr lw nw cr rl gs hl th lm := by
  obtain ⟨hL, hW, hS, hC, hX, hA, hP, hM, hQ, hH⟩ := R
  exact ⟨hL, zr_Cel_u hW he hx, hS, hC, hX, hA, hP, hM, hQ, hH⟩
theorem zr_R_se {c e : Nat} {x : Int32} {sv' : Nat → Int32} (he : e < 256) (hx : x = nI e) (R : zr_R cL pL rL wL ph pc ch cc rc aw wb wm pl pm gc wr se sc sv dm md ws pr lw nw cr rl gs hl th lm) (hC' : zr_Cac (upd se c x) sc sv') : zr_R cL pL rL wL ph pc ch cc rc aw wb wm pl pm gc wr (upd se c x) sc sv' dm md ws pr lw nw cr rl gs hl th lm := by
  obtain ⟨hL, hW, hS, hC, hX, hA, hP, hM, hQ, hH⟩ := R
  exact ⟨hL, hW, zr_Cel_u hS he hx, hC', hX, hA, hP, hM, hQ, hH⟩
theorem zr_R_ca {sc' sv' : Nat → Int32} (R : zr_R cL pL rL wL ph pc ch cc rc aw wb wm pl pm gc wr se sc sv dm md ws pr lw nw cr rl gs hl th lm) (hC' : zr_Cac se sc' sv') : zr_R cL pL rL wL ph pc ch cc rc aw wb wm pl pm gc wr se sc' sv' dm md ws pr lw nw cr rl gs hl th lm := by
  obtain ⟨hL, hW, hS, hC, hX, hA, hP, hM, hQ, hH⟩ := R
  exact ⟨hL, hW, hS, hC', hX, hA, hP, hM, hQ, hH⟩
theorem zx_map {post : Int32 → SX → Prop} {c : Nat} {x : Int32} (hc : c < 120) (hC : zr_Cac se sc sv) (h0 : se c = 0 → ∀ sv', zr_Cac (upd se c x) sc sv' → post x (nI cL, nI pL, nI rL, nI wL, aw, wb, wm, nI ph, nI pc, pl, pm, nI ch, nI cc, fd, lf, nI rc, gc, upd wr c x, upd se c x, sc, sv', dm, md, ws, pr, lw, nw, cr, rl, gs, ct, hl)) (h1 : ¬ se c = 0 → post (se c) (nI cL, nI pL, nI rL, nI wL, aw, wb, wm, nI ph, nI pc, pl, pm, nI ch, nI cc, fd, lf, nI rc, gc, upd wr c x, se, sc, sv, dm, md, ws, pr, lw, nw, cr, rl, gs, ct, hl)) : wX_map_34 post (nI c) x (nI cL) (nI pL) (nI rL) (nI wL) aw wb wm (nI ph) (nI pc) pl pm (nI ch) (nI cc) fd lf (nI rc) gc wr se sc sv dm md ws pr lw nw cr rl gs ct hl := by
  unfold wX_map_34
  rw [nI_clamp (n := c) (by omega)]
  refine ⟨vp_in_nI hc (by omega), nm_e ⟨vp_in_nI hc (by omega), br_c (fun z => ?_) (fun z => ⟨vp_in_nI hc (by omega), h1 z⟩)⟩⟩
  refine zx_ss hc rfl hC (fun sv' hC' => ⟨vp_in_nI hc (by omega), ?_⟩)
  have hh := h0 z sv' hC'
  rw [pk_us]
  exact hh
theorem zy_map {post : Int32 → SY → Prop} {c : Nat} {x : Int32} (hc : c < 120) (h0 : se c = 0 → post x (fd, lf, upd wr c x, upd se c x, th, lm, ct, lw)) (h1 : ¬ se c = 0 → post (se c) (fd, lf, upd wr c x, se, th, lm, ct, lw)) : wY_map_39 post (nI c) x (nI c) fd lf wr se th lm ct lw := by
  unfold wY_map_39
  rw [nI_clamp (n := c) (by omega)]
  refine ⟨vp_in_nI hc (by omega), nm_e ⟨vp_in_nI hc (by omega), br_c (fun z => ⟨vp_in_nI hc (by omega), vp_in_nI hc (by omega), ?_⟩) (fun z => ⟨vp_in_nI hc (by omega), h1 z⟩)⟩⟩
  refine nm_r (e' := upd se c x) (by rw [pk_us]) ⟨vp_in_nI hc (by omega), ?_⟩
  have hh := h0 z
  rw [pk_us]
  exact hh
end
theorem zz_247 (x : Int32) : ∃ e : Nat, e < 256 ∧ x &&& 247 = nI e := by
  have h : x &&& 247 = (x &&& 255) &&& 247 := by
    rw [Int32.and_assoc]
    rfl
  obtain ⟨j, hj, e⟩ := pk_andE x (m := 255) 8 (by decide)
  rw [h, e]
  refine ⟨j &&& 247, Nat.lt_of_le_of_lt Nat.and_le_left hj, ?_⟩
  exact nx_and j 247
theorem zz_2473 (x : Int32) : (x &&& 247) &&& 3 = x &&& 3 := by
  rw [Int32.and_assoc]
  rfl
theorem i_vc_map {k : Nat} {u : SX} {v : SY} (I : i_Rel k u v) (hk : k + 5 ≤ 2564) (v1 : Int32) (v2 : Int32) (v3 : Int32) (v4 : Int32) : wpX_map (fun r u' => wpY_map (fun r' v' => r' = r ∧ i_Rel (k + 5) u' v') v v1 v2 v3 v4) u v1 v2 v3 v4 := by
  refine zz_el (P := fun u v => wpX_map (fun r u' => wpY_map (fun r' v' => r' = r ∧ i_Rel (k + 5) u' v') v v1 v2 v3 v4) u v1 v2 v3 v4) ?_ I
  intro cL pL rL wL ph pc ch cc rc aw wb wm pl pm fd lf gc wr se sc sv dm md ws pr lw nw cr rl gs ct hl th lm R
  obtain ⟨r, hr, hX, hY⟩ := zz_cell (cL := cL) (pL := pL) (rL := rL) (wL := wL) (ph := ph) (pc := pc) (ch := ch) (cc := cc) (rc := rc) (aw := aw) (wb := wb) (wm := wm) (pl := pl) (pm := pm) (fd := fd) (lf := lf) (gc := gc) (wr := wr) (se := se) (sc := sc) (sv := sv) (dm := dm) (md := md) (ws := ws) (pr := pr) (lw := lw) (nw := nw) (cr := cr) (rl := rl) (gs := gs) (ct := ct) (hl := hl) (th := th) (lm := lm) v1 v2 v3
  unfold wpX_map wpY_map
  refine hX _ ?_
  rcases hr with rfl | ⟨c, hc, rfl⟩
  · exact br_f (by decide) (hY _ (br_f (by decide) ⟨rfl, zz_in R⟩))
  · refine br_t (nI_pos' (by omega)) (nm_e ?_)
    rw [zz_2473]
    obtain ⟨e, he, ee⟩ := zz_247 v4
    refine br_c (fun z => ?_) (fun z => ?_)
    · refine zx_map hc R.2.2.2.1 (fun y sv' hC' => hY _ (br_t (nI_pos' (by omega)) (br_t z (zy_map hc (fun _ => ⟨rfl, zz_in ?_⟩) (fun y' => absurd y y'))))) (fun y => hY _ (br_t (nI_pos' (by omega)) (br_t z (zy_map hc (fun y' => absurd y' y) (fun _ => ⟨rfl, zz_in ?_⟩)))))
      · exact zr_R_wr (e := 0) (by omega) rfl (zr_R_se (e := 0) (by omega) rfl R hC')
      · exact zr_R_wr (e := 0) (by omega) rfl R
    · refine zx_map hc R.2.2.2.1 (fun y sv' hC' => hY _ (br_t (nI_pos' (by omega)) (br_f z (zy_map hc (fun _ => ⟨rfl, zz_in ?_⟩) (fun y' => absurd y y'))))) (fun y => hY _ (br_t (nI_pos' (by omega)) (br_f z (zy_map hc (fun y' => absurd y' y) (fun _ => ⟨rfl, zz_in ?_⟩)))))
      · exact zr_R_wr he ee (zr_R_se he ee R hC')
      · exact zr_R_wr he ee R
theorem i_vc_entry {k : Nat} {u : SX} {v : SY} (I : i_Rel k u v) (hk : k + 5 ≤ 2564) (v1 : Int32) (v2 : Int32) (v3 : Int32) (v4 : Int32) : wpX_entry (fun r => wpY_entry (fun r' => r' = r ∧ i_Rel (k + 5) u v) v v1 v2 v3 (lw_bz v4)) u v1 v2 v3 (lw_bz v4) := by
  refine zz_el (P := fun u v => wpX_entry (fun r => wpY_entry (fun r' => r' = r ∧ i_Rel (k + 5) u v) v v1 v2 v3 (lw_bz v4)) u v1 v2 v3 (lw_bz v4)) ?_ I
  intro cL pL rL wL ph pc ch cc rc aw wb wm pl pm fd lf gc wr se sc sv dm md ws pr lw nw cr rl gs ct hl th lm R
  obtain ⟨r, hr, hX, hY⟩ := zz_cell (cL := cL) (pL := pL) (rL := rL) (wL := wL) (ph := ph) (pc := pc) (ch := ch) (cc := cc) (rc := rc) (aw := aw) (wb := wb) (wm := wm) (pl := pl) (pm := pm) (fd := fd) (lf := lf) (gc := gc) (wr := wr) (se := se) (sc := sc) (sv := sv) (dm := dm) (md := md) (ws := ws) (pr := pr) (lw := lw) (nw := nw) (cr := cr) (rl := rl) (gs := gs) (ct := ct) (hl := hl) (th := th) (lm := lm) v1 v2 v3
  unfold wpX_entry wpY_entry
  refine hX _ ?_
  rcases hr with rfl | ⟨c, hc, rfl⟩
  · exact br_f (by decide) (hY _ (br_f (by decide) ⟨rfl, zz_in R⟩))
  · refine br_t (nI_pos' (by omega)) (br_c (fun z => ?_) (fun z => ?_))
    · exact ⟨vp_in_nI hc (by omega), hY _ (br_t (nI_pos' (by omega)) (br_t z ⟨vp_in_nI hc (by omega), rfl, zz_in R⟩))⟩
    · exact ⟨vp_in_nI hc (by omega), hY _ (br_t (nI_pos' (by omega)) (br_f z ⟨vp_in_nI hc (by omega), rfl, zz_in R⟩))⟩
theorem i_vc_answered {k : Nat} {u : SX} {v : SY} (I : i_Rel k u v) (hk : k + 5 ≤ 2564) (v1 : Int32) (v2 : Int32) : wpX_answered (fun r => wpY_answered (fun r' => r' = r ∧ i_Rel (k + 5) u v) v v1 v2) u v1 v2 := by
  refine zz_el (P := fun u v => wpX_answered (fun r => wpY_answered (fun r' => r' = r ∧ i_Rel (k + 5) u v) v v1 v2) u v1 v2) ?_ I
  intro cL pL rL wL ph pc ch cc rc aw wb wm pl pm fd lf gc wr se sc sv dm md ws pr lw nw cr rl gs ct hl th lm R
  unfold wpX_answered wpY_answered
  by_cases h1 : 0 ≤ v1 ∧ v1 ≤ 3
  · by_cases h2 : 0 ≤ v2 ∧ v2 ≤ 2
    · obtain ⟨a, ha, rfl⟩ := nI_of2 (M := 3) (n := 3) (by decide) (Int32.not_lt.mpr h1.1) h1.2
      obtain ⟨b, hb, rfl⟩ := nI_of2 (M := 2) (n := 2) (by decide) (Int32.not_lt.mpr h2.1) h2.2
      have ix : nI a * 3 + nI b = nI (3 * a + b) := by
        show nI a * nI 3 + nI b = _
        rw [pk_mul, nI_add, Nat.mul_comm]
      have iy : 3 * nI a + nI b = nI (3 * a + b) := by
        show nI 3 * nI a + nI b = _
        rw [pk_mul, nI_add]
      rw [ix, iy]
      exact zx_wt h1 (br_f (by decide) (zx_wt h2 (br_f (by decide) ⟨vp_in_nI (by omega) (by omega), zy_wt h1 (br_f (by decide) (zy_wt h2 (br_f (by decide) ⟨vp_in_nI (by omega) (by omega), rfl, zz_in R⟩)))⟩)))
    · exact zx_wt h1 (br_f (by decide) (zx_wf h2 (br_t rfl (zy_wt h1 (br_f (by decide) (zy_wf h2 (br_t rfl ⟨rfl, zz_in R⟩)))))))
  · exact zx_wf h1 (br_t rfl (zy_wf h1 (br_t rfl ⟨rfl, zz_in R⟩)))
theorem i_vc_lastFence {k : Nat} {u : SX} {v : SY} (I : i_Rel k u v) (hk : k + 5 ≤ 2564) : wpX_lastFence (fun r => wpY_lastFence (fun r' => r' = r ∧ i_Rel (k + 5) u v) v) u := by
  refine zz_el (P := fun u v => wpX_lastFence (fun r => wpY_lastFence (fun r' => r' = r ∧ i_Rel (k + 5) u v) v) u) ?_ I
  intro cL pL rL wL ph pc ch cc rc aw wb wm pl pm fd lf gc wr se sc sv dm md ws pr lw nw cr rl gs ct hl th lm R
  unfold wpX_lastFence wpY_lastFence
  exact br_c (fun z => br_t z ⟨rfl, zz_in R⟩) (fun z => br_f z ⟨rfl, zz_in R⟩)
theorem i_vc_memory {k : Nat} {u : SX} {v : SY} (I : i_Rel k u v) (hk : k + 5 ≤ 2564) (v1 : Int32) : wpX_memory (fun r => wpY_memory (fun r' => r' = r ∧ i_Rel (k + 5) u v) v v1) u v1 := by
  refine zz_el (P := fun u v => wpX_memory (fun r => wpY_memory (fun r' => r' = r ∧ i_Rel (k + 5) u v) v v1) u v1) ?_ I
  intro cL pL rL wL ph pc ch cc rc aw wb wm pl pm fd lf gc wr se sc sv dm md ws pr lw nw cr rl gs ct hl th lm R
  unfold wpX_memory wpY_memory
  by_cases h1 : 0 ≤ v1 ∧ v1 ≤ 15
  · obtain ⟨a, ha, rfl⟩ := nI_of2 (M := 15) (n := 15) (by decide) (Int32.not_lt.mpr h1.1) h1.2
    exact zx_wt h1 (br_f (by decide) ⟨vp_in_nI (by omega) (by omega), zy_wt h1 (br_f (by decide) ⟨vp_in_nI (by omega) (by omega), rfl, zz_in R⟩)⟩)
  · exact zx_wf h1 (br_t rfl (zy_wf h1 (br_t rfl ⟨rfl, zz_in R⟩)))
end
section
/-! look -/
theorem zz_wp {n : Nat} {x : Int32} (hn : n < 2 ^ 31) : (0 ≤ x ∧ x ≤ nI n - 1) ↔ ∃ i : Nat, i < n ∧ x = nI i := by
  constructor
  · rintro ⟨h0, h1⟩
    cases n with
    | zero =>
      have e : (nI 0 - 1 : Int32) = -1 := by decide
      rw [e, Int32.le_iff_toInt_le, show (-1 : Int32).toInt = -1 from by decide] at h1
      rw [Int32.le_iff_toInt_le, show (0 : Int32).toInt = 0 from by decide] at h0
      omega
    | succ n =>
      rw [nI_pred] at h1
      obtain ⟨j, hj, rfl⟩ := nI_of2 (M := nI n) (n := n) (nI_toInt (by omega)) (Int32.not_lt.mpr h0) h1
      exact ⟨j, by omega, rfl⟩
  · rintro ⟨i, hi, rfl⟩
    cases n with
    | zero => omega
    | succ n =>
      rw [nI_pred]
      exact ⟨nI_pos' (by omega), nI_le (by omega) (by omega)⟩
section
variable {cL pL rL wL ph pc ch cc rc : Nat} {aw wb wm pl pm fd lf gc : Int32} {wr se sc sv dm md ws pr lw nw cr rl gs ct hl th lm : Nat → Int32}
variable {post1 : Int32 → Prop}
theorem zy_look {w : Nat} {p0 p1 : Int32} (hw : w ≤ 5) (e0 : p0 = nI w) (h1 : ∀ i, i ≤ 255 → p1 = nI i → post1 (th (256 * w + i))) (h2 : ¬ (0 ≤ p1 ∧ p1 ≤ 255) → post1 (-8)) : wpY_look post1 (fd, lf, wr, se, th, lm, ct, lw) p0 p1 := by
  subst e0
  unfold wpY_look
  refine zy_wn w 5 hw (br_f (by decide) ?_)
  by_cases h : 0 ≤ p1 ∧ p1 ≤ 255
  · obtain ⟨i, hi, rfl⟩ := nI_of2 (M := 255) (n := 255) (by decide) (Int32.not_lt.mpr h.1) h.2
    have ix : 256 * nI w + nI i = nI (256 * w + i) := by
      show nI 256 * nI w + nI i = _
      rw [pk_mul, nI_add]
    rw [ix, nI_clamp (by omega)]
    exact zy_wt h (br_f (by decide) ⟨vp_in_nI (by omega) (by omega), h1 i hi rfl⟩)
  · exact zy_wf h (br_t rfl (h2 h))
theorem zx_look0 {x : Int32} (hX : zr_Ctx dm md aw th) (h1 : ∀ i, i ≤ 3 → x = nI i → post1 (th i)) (h2 : ¬ (0 ≤ x ∧ x ≤ 3) → post1 (-8)) : wpX_lookContext post1 (nI cL, nI pL, nI rL, nI wL, aw, wb, wm, nI ph, nI pc, pl, pm, nI ch, nI cc, fd, lf, nI rc, gc, wr, se, sc, sv, dm, md, ws, pr, lw, nw, cr, rl, gs, ct, hl) x := by
  unfold wpX_lookContext
  by_cases h : 0 ≤ x ∧ x ≤ 3
  · obtain ⟨i, hi, rfl⟩ := nI_of2 (M := 3) (n := 3) (by decide) (Int32.not_lt.mpr h.1) h.2
    obtain ⟨d, m, hd, hm, e1, e2, e3⟩ := hX.1 i (by omega)
    refine zx_wt h (br_f (by decide) ⟨vp_in_nI (by omega) (by omega), vp_in_nI (by omega) (by omega), ?_⟩)
    have ev : (dm i + 2 * md i) + 8 * ((aw >>> (nI i &&& 31)) &&& 1) = th i := by
      rw [zb_t (by omega), e1, e2, e3]
      show (nI d + nI 2 * nI m) + nI 8 * nI _ = _
      rw [pk_mul, pk_mul, nI_add, nI_add]
    rw [nI_clamp (by omega), ev]
    exact h1 i hi rfl
  · exact zx_wf h (br_t rfl (h2 h))
theorem zx_look1 {x : Int32} (hw : wL ≤ 8) (hA : zr_Wal ws wb wm wL th) (h1 : ∀ i, i < 8 → bt wb i = true → x = nI i → post1 (th (256 + i))) (h2 : (∀ i, i < 256 → x = nI i → bt wb i = false) → post1 (-8)) : wpX_lookWalk post1 (nI cL, nI pL, nI rL, nI wL, aw, wb, wm, nI ph, nI pc, pl, pm, nI ch, nI cc, fd, lf, nI rc, gc, wr, se, sc, sv, dm, md, ws, pr, lw, nw, cr, rl, gs, ct, hl) x := by
  unfold wpX_lookWalk
  refine br_c (fun z => h2 (fun i hi e => ?_)) (fun z => ?_)
  · subst e
    exact absurd z (nI_pos (by omega))
  obtain ⟨j, hj, rfl⟩ := nI_of z
  refine pk_le wL j (fun hh => h2 (fun i hi e => ?_)) (fun hh => ?_)
  · rw [nI_eq (by omega) (by omega)] at e
    subst e
    cases hb : bt wb j with
    | false => rfl
    | true => exact absurd (hA.1 j hb).1 (by omega)
  · refine br_c (fun y => h2 (fun i hi e => ?_)) (fun y => ?_)
    · rw [nI_eq (by omega) (by omega)] at e
      subst e
      exact (zb_z (by omega)).mp y
    · have hb : bt wb j = true := by
        cases hb : bt wb j with
        | false => exact absurd ((zb_z (by omega)).mpr hb) y
        | true => rfl
      obtain ⟨f, d, w, hf, hd, hw', e1, e2⟩ := (hA.1 j hb).2
      have ev : ws j + 128 * ((wm >>> (nI j &&& 31)) &&& 1) = th (256 + j) := by
        rw [zb_t (by omega), e1, e2]
        show nI _ + nI 128 * nI _ = _
        rw [pk_mul, nI_add]
        exact congrArg nI (by omega)
      rw [nI_clamp (by omega), ev]
      exact ⟨vp_in_nI (by omega) (by omega), h1 j (by omega) hb rfl⟩
theorem zx_look2 {x : Int32} (hw : pL ≤ 8) (hP : zr_Pos pr ph pc pl pm pL nw lw th) (h1 : ∀ i, i < pc → x = nI i → post1 (th (512 + i))) (h2 : (∀ i, x = nI i → i < 2 ^ 31 → pc ≤ i) → post1 (-8)) : wpX_lookPosted post1 (nI cL, nI pL, nI rL, nI wL, aw, wb, wm, nI ph, nI pc, pl, pm, nI ch, nI cc, fd, lf, nI rc, gc, wr, se, sc, sv, dm, md, ws, pr, lw, nw, cr, rl, gs, ct, hl) x := by
  obtain ⟨p1, p2, p3, p4, p5, p6, p7, p8⟩ := hP
  unfold wpX_lookPosted
  by_cases h : 0 ≤ x ∧ x ≤ nI pc - 1
  · refine zx_wt h (br_f (by decide) ?_)
    obtain ⟨i, hi, rfl⟩ := (zz_wp (by omega)).mp h
    have ix : (nI ph + nI i) &&& 7 = nI ((ph + i) % 8) := by rw [nI_add, zb_m7 (by omega)]
    refine nm_r ix ⟨vp_in_nI (by omega) (by omega), ?_⟩
    obtain ⟨f, w, hf, hw', e1, e2⟩ := p3 i hi
    have ev : pr ((ph + i) % 8) + 16 * ((pm >>> (nI ((ph + i) % 8) &&& 31)) &&& 1) = th (512 + i) := by
      rw [zb_t (by omega), e1, e2]
      show nI _ + nI 16 * nI _ = _
      rw [pk_mul, nI_add]
      exact congrArg nI (by omega)
    rw [nI_clamp (by omega), ev]
    exact h1 i hi rfl
  · refine zx_wf h (br_t rfl (h2 (fun i e hi => ?_)))
    by_cases hh : i < pc
    · exact absurd ((zz_wp (by omega)).mpr ⟨i, hh, e⟩) h
    · omega
theorem zx_look5 {x : Int32} (hH : zr_Hel hl th) (h1 : ∀ i, i ≤ 255 → x = nI i → post1 (th (1280 + i))) (h2 : ¬ (0 ≤ x ∧ x ≤ 255) → post1 (-8)) : wpX_lookHeld post1 (nI cL, nI pL, nI rL, nI wL, aw, wb, wm, nI ph, nI pc, pl, pm, nI ch, nI cc, fd, lf, nI rc, gc, wr, se, sc, sv, dm, md, ws, pr, lw, nw, cr, rl, gs, ct, hl) x := by
  unfold wpX_lookHeld
  by_cases h : 0 ≤ x ∧ x ≤ 255
  · obtain ⟨i, hi, rfl⟩ := nI_of2 (M := 255) (n := 255) (by decide) (Int32.not_lt.mpr h.1) h.2
    refine zx_wt h (br_f (by decide) ⟨vp_in_nI (by omega) (by omega), ?_⟩)
    rw [nI_clamp (by omega)]
    have hh := h1 i hi rfl
    rcases hH i (by omega) with ⟨a, b⟩ | ⟨n, n0, hn, a, b⟩
    · rw [b] at hh
      exact br_t a hh
    · rw [b, ← a] at hh
      refine br_f (fun z => ?_) ⟨vp_in_nI (by omega) (by omega), hh⟩
      rw [a, zb_n0 (by omega)] at z
      omega
  · exact zx_wf h (br_t rfl (h2 h))
theorem zz_gd_lt : ∀ (L : List Nat) (i : Nat) (h : i < L.length), zr_gd L i = nI L[i] := by
  intro L
  induction L with
  | nil => intro i h; exact absurd h (Nat.not_lt_zero i)
  | cons a L ih =>
    intro i h
    cases i with
    | zero => rfl
    | succ i => exact ih i (Nat.lt_of_succ_lt_succ h)
theorem zz_gd_ge : ∀ (L : List Nat) (i : Nat), L.length ≤ i → zr_gd L i = -8 := by
  intro L
  induction L with
  | nil => intro i h; rfl
  | cons a L ih =>
    intro i h
    cases i with
    | zero => exact absurd h (Nat.not_succ_le_zero _)
    | succ i => exact ih i (Nat.le_of_succ_le_succ h)
end
theorem i_vc_look {k : Nat} {u : SX} {v : SY} (I : i_Rel k u v) (hk : k + 5 ≤ 2564) (v1 : Int32) (v2 : Int32) : wpX_look (fun r => wpY_look (fun r' => r' = r ∧ i_Rel (k + 5) u v) v v1 v2) u v1 v2 := by
  refine zz_el (P := fun u v => wpX_look (fun r => wpY_look (fun r' => r' = r ∧ i_Rel (k + 5) u v) v v1 v2) u v1 v2) ?_ I
  intro cL pL rL wL ph pc ch cc rc aw wb wm pl pm fd lf gc wr se sc sv dm md ws pr lw nw cr rl gs ct hl th lm R
  have J : i_Rel (k + 5) (nI cL, nI pL, nI rL, nI wL, aw, wb, wm, nI ph, nI pc, pl, pm, nI ch, nI cc, fd, lf, nI rc, gc, wr, se, sc, sv, dm, md, ws, pr, lw, nw, cr, rl, gs, ct, hl) (fd, lf, wr, se, th, lm, ct, lw) := zz_in R
  obtain ⟨hL, hW, hS, hC, hX, hA, hP, hM, ⟨L, hQ⟩, hH⟩ := R
  obtain ⟨l1, l2, l3, l4, l5, l6, l7, l8, _⟩ := hL
  unfold wpX_look
  by_cases h1 : 0 ≤ v1 ∧ v1 ≤ 5
  · refine zx_wt h1 (br_f (by decide) ?_)
    obtain ⟨w, hw, rfl⟩ := nI_of2 (M := 5) (n := 5) (by decide) (Int32.not_lt.mpr h1.1) h1.2
    rcases (by omega : w = 0 ∨ w = 1 ∨ w = 2 ∨ w = 3 ∨ w = 4 ∨ w = 5) with rfl | rfl | rfl | rfl | rfl | rfl
    · refine br_t rfl (zx_look0 hX (fun i hi e => ?_) (fun hn => ?_))
      · refine zy_look hw rfl (fun j hj e' => ?_) (fun hn => ?_)
        · rw [e, nI_eq (by omega) (by omega)] at e'
          subst e'
          exact ⟨by rw [Nat.mul_zero, Nat.zero_add], J⟩
        · exact absurd (by subst e; exact zz_wn (n := 255) (by omega) rfl (by omega)) hn
      · refine zy_look hw rfl (fun j hj e' => ?_) (fun _ => ⟨rfl, J⟩)
        rw [Nat.mul_zero, Nat.zero_add]
        refine ⟨hX.2.1 j ?_ (by omega), J⟩
        by_cases h4 : 4 ≤ j
        · exact h4
        · exact absurd (by subst e'; exact zz_wn (n := 3) (by omega) rfl (by omega)) hn
    · refine br_f (by decide) (br_t rfl (zx_look1 l8 hA (fun i hi hb e => ?_) (fun hn => ?_)))
      · refine zy_look hw rfl (fun j hj e' => ?_) (fun hn => ?_)
        · rw [e, nI_eq (by omega) (by omega)] at e'
          subst e'
          exact ⟨rfl, J⟩
        · exact absurd (by subst e; exact zz_wn (n := 255) (by omega) rfl (by omega)) hn
      · refine zy_look hw rfl (fun j hj e' => ⟨hA.2.1 j (by omega) (hn j (by omega) e'), J⟩) (fun _ => ⟨rfl, J⟩)
    · refine br_f (by decide) (br_f (by decide) (br_t rfl (zx_look2 l4 hP (fun i hi e => ?_) (fun hn => ?_))))
      · have : pc ≤ pL := hP.2.1
        refine zy_look hw rfl (fun j hj e' => ?_) (fun hn => ?_)
        · rw [e, nI_eq (by omega) (by omega)] at e'
          subst e'
          exact ⟨rfl, J⟩
        · exact absurd (by subst e; exact zz_wn (n := 255) (by omega) rfl (by omega)) hn
      · refine zy_look hw rfl (fun j hj e' => ⟨hP.2.2.2.1 j (hn j e' (by omega)) (by omega), J⟩) (fun _ => ⟨rfl, J⟩)
    · refine br_f (by decide) (br_f (by decide) (br_f (by decide) (br_t rfl ?_)))
      obtain ⟨q1, q2, q3, q4, q5, q6, q7⟩ := hQ
      by_cases h : 0 ≤ v2 ∧ v2 ≤ nI rc - 1
      · refine zx_wt h (br_f (by decide) ?_)
        obtain ⟨i, hi, rfl⟩ := (zz_wp (by omega)).mp h
        rw [nI_clamp (by omega)]
        refine ⟨vp_in_nI (by omega) (by omega), zy_look hw rfl (fun j hj e' => ?_) (fun hn => ?_)⟩
        · rw [nI_eq (by omega) (by omega)] at e'
          subst e'
          exact ⟨(q5 i (by omega)).trans (q4 i hi).symm, J⟩
        · exact absurd (zz_wn (n := 255) (by omega) rfl (by omega)) hn
      · refine zx_wf h (br_t rfl (zy_look hw rfl (fun j hj e' => ?_) (fun _ => ⟨rfl, J⟩)))
        refine ⟨(q5 j (by omega)).trans (zz_gd_ge L j ?_), J⟩
        by_cases hh : j < rc
        · exact absurd ((zz_wp (by omega)).mpr ⟨j, hh, e'⟩) h
        · omega
    · refine br_f (by decide) (br_f (by decide) (br_f (by decide) (br_f (by decide) (br_t rfl ?_))))
      obtain ⟨q1, q2, q3, q4⟩ := hM
      by_cases h : 0 ≤ v2 ∧ v2 ≤ nI cc - 1
      · refine zx_wt h (br_f (by decide) ?_)
        obtain ⟨i, hi, rfl⟩ := (zz_wp (by omega)).mp h
        have ix : (nI ch + nI i) &&& 15 = nI ((ch + i) % 16) := by rw [nI_add, zb_m15 (by omega)]
        rw [ix, nI_clamp (n := (ch + i) % 16) (by omega)]
        refine ⟨vp_in_nI (by omega) (by omega), zy_look hw rfl (fun j hj e' => ?_) (fun hn => ?_)⟩
        · rw [nI_eq (by omega) (by omega)] at e'
          subst e'
          exact ⟨(q3 i hi).1, J⟩
        · exact absurd (zz_wn (n := 255) (by omega) rfl (by omega)) hn
      · refine zx_wf h (br_t rfl (zy_look hw rfl (fun j hj e' => ?_) (fun _ => ⟨rfl, J⟩)))
        refine ⟨q4 j ?_ (by omega), J⟩
        by_cases hh : j < cc
        · exact absurd ((zz_wp (by omega)).mpr ⟨j, hh, e'⟩) h
        · omega
    · refine br_f (by decide) (br_f (by decide) (br_f (by decide) (br_f (by decide) (br_f (by decide) (zx_look5 hH (fun i hi e => ?_) (fun hn => ?_))))))
      · refine zy_look hw rfl (fun j hj e' => ?_) (fun hn => ?_)
        · rw [e, nI_eq (by omega) (by omega)] at e'
          subst e'
          exact ⟨rfl, J⟩
        · exact absurd (by subst e; exact zz_wn (n := 255) (by omega) rfl (by omega)) hn
      · refine zy_look hw rfl (fun j hj e' => ?_) (fun _ => ⟨rfl, J⟩)
        exact absurd (by subst e'; exact zz_wn (n := 255) (by omega) rfl (by omega)) hn
  · refine zx_wf h1 (br_t rfl ?_)
    unfold wpY_look
    exact zy_wf h1 (br_t rfl ⟨rfl, J⟩)
end
section
/-! posted writes and accesses -/
section
variable {cL pL rL wL ph pc ch cc rc : Nat} {aw wb wm pl pm fd lf gc : Int32} {wr se sc sv dm md ws pr lw nw cr rl gs ct hl th lm : Nat → Int32}
variable {post : Int32 → SY → Prop}
theorem zy_acl {f n : Nat} {x1 x3 x4 x5 w : Int32} (hn : n ≤ 8) (hpL : pL ≤ 8) (e1 : x1 = nI f) (e5 : x5 = nI n) (hlm : lm 2 = nI pL) (h1 : ¬ 0 ≤ x3 → post (zr_nw (fun i => th (512 + i)) w (nI f) n) (fd, lf, wr, se, th, lm, ct, lw)) (h2 : 0 ≤ x3 → n = pL → post (-2) (fd, lf, wr, se, th, lm, ct, lw)) (h3 : 0 ≤ x3 → n ≠ pL → post x1 (fd, lf, wr, se, upd th (512 + n) ((x1 + (16 * x4)) + (32 * (x3 &&& 255))), lm, ct, lw)) : ∀ d j : Nat, j + d = n → wY_access_37 post x1 x3 x4 x5 fd lf wr se th lm ct lw (d + 1) (zr_nw (fun i => th (512 + i)) w (nI f) j) (nI (512 + j)) := by
  have ie : 512 + x5 = nI (512 + n) := by
    subst e5
    exact nI_add 512 n
  intro d
  induction d with
  | zero =>
    intro j hj
    have hj' : j = n := by omega
    subst hj'
    unfold wY_access_37
    rw [ie, nI_clamp (n := 512 + j) (by omega)]
    exact br_t (nI_le (Nat.le_refl _) (by omega)) (br_c (fun z => pk_eq j pL (h2 z) (fun ne => ⟨vp_in_nI (by omega) (by omega), nm_e (h3 z ne)⟩) e5 hlm) h1)
  | succ d ih =>
    intro j hj
    unfold wY_access_37
    rw [ie, nI_clamp (n := 512 + j) (by omega)]
    have hh := ih (j + 1) (by omega)
    refine pk_le (512 + n) (512 + j) (fun z => absurd z (by omega)) (fun _ => ⟨vp_in_nI (by omega) (by omega), br_c (fun z => ⟨vp_in_nI (by omega) (by omega), nm_e (nm_r (nI_1 (512 + j)) ?_)⟩) (fun z => nm_r (nI_1 (512 + j)) ?_)⟩)
    · have e : zr_nw (fun i => th (512 + i)) w (nI f) (j + 1) = th (512 + j) >>> ((5 : Int32) &&& 31) := if_pos (z.trans e1)
      rw [e] at hh
      exact hh
    · have e : zr_nw (fun i => th (512 + i)) w (nI f) (j + 1) = zr_nw (fun i => th (512 + i)) w (nI f) j := if_neg (fun y => z (y.trans e1.symm))
      rw [e] at hh
      exact hh
theorem zr_Pos_post {f w : Nat} {mk : Bool} (hp : pc < pL) (hL : pL ≤ 8) (hf : f < 16) (hw : w < 256) (h : zr_Pos pr ph pc pl pm pL nw lw th) : zr_Pos (upd pr ((ph + pc) % 8) (nI (f + 32 * w))) ph (pc + 1) (pl ||| ((1 : Int32) <<< (nI ((ph + pc) % 8) &&& 31))) (pm ||| (nI mk.toNat <<< (nI ((ph + pc) % 8) &&& 31))) pL (upd nw f (nI w)) lw (upd th (512 + pc) (nI (f + 16 * mk.toNat + 32 * w))) := by
  obtain ⟨h1, h2, h3, h4, h5, h6, h7, h8⟩ := h
  have hb0 : bt pl ((ph + pc) % 8) = false := by rw [h5 pc (by omega), decide_eq_false (by omega)]
  have hm0 : bt pm ((ph + pc) % 8) = false := by
    cases hx : bt pm ((ph + pc) % 8) with
    | false => rfl
    | true => rw [h7 _ hx] at hb0; exact nomatch hb0
  have hmk := zz_b1 mk
  refine ⟨h1, by omega, fun i hi => ?_, fun i a b => ?_, fun i hi => ?_, fun j hj => ?_, fun j hj => ?_, fun g hg => ?_⟩
  · rcases Nat.lt_or_ge i pc with y | y
    · have ne : (ph + i) % 8 ≠ (ph + pc) % 8 := by omega
      rw [pk_un ne, pk_un (by omega), zb_setb (by omega), decide_eq_false ne, Bool.and_false, Bool.or_false]
      exact h3 i y
    · have e : i = pc := by omega
      subst e
      rw [pk_us, pk_us, zb_setb (by omega), decide_eq_true rfl, hm0, Bool.and_true, Bool.false_or]
      exact ⟨f, w, hf, hw, rfl, rfl⟩
  · rw [pk_un (by omega)]
    exact h4 i (by omega) b
  · rw [zb_set (by omega), h5 i hi]
    by_cases e : i = pc
    · subst e
      rw [decide_eq_true (rfl : (ph + i) % 8 = (ph + i) % 8), Bool.or_true, decide_eq_true (by omega)]
    · rw [decide_eq_false (by omega : ¬ (ph + i) % 8 = (ph + pc) % 8), Bool.or_false]
      by_cases y : i < pc
      · rw [decide_eq_true y, decide_eq_true (by omega)]
      · rw [decide_eq_false y, decide_eq_false (by omega)]
  · rw [zb_set (by omega), h6 j hj, decide_eq_false (by omega)]
    rfl
  · rw [zb_setb (by omega), Bool.or_eq_true] at hj
    rw [zb_set (by omega), Bool.or_eq_true]
    rcases hj with y | y
    · exact Or.inl (h7 j y)
    · rw [Bool.and_eq_true] at y
      exact Or.inr y.2
  · have e1 : (fun i => upd th (512 + pc) (nI (f + 16 * mk.toNat + 32 * w)) (512 + i)) pc = nI (f + 16 * mk.toNat + 32 * w) := pk_us
    have e2 : nI (f + 16 * mk.toNat + 32 * w) &&& 15 = nI f := by
      rw [zb_m15 (by omega)]
      exact congrArg nI (by omega)
    have e3 : nI (f + 16 * mk.toNat + 32 * w) >>> ((5 : Int32) &&& 31) = nI w := by
      rw [zb_s5 (by omega)]
      exact congrArg nI (by omega)
    show _ = if (fun i => upd th (512 + pc) (nI (f + 16 * mk.toNat + 32 * w)) (512 + i)) pc &&& 15 = nI g then (fun i => upd th (512 + pc) (nI (f + 16 * mk.toNat + 32 * w)) (512 + i)) pc >>> ((5 : Int32) &&& 31) else zr_nw (fun i => upd th (512 + pc) (nI (f + 16 * mk.toNat + 32 * w)) (512 + i)) (lw g) (nI g) pc
    rw [e1, e2, e3]
    by_cases e : g = f
    · subst e
      rw [pk_us, if_pos rfl]
    · rw [pk_un e, if_neg (fun y => e ((nI_eq (by omega) (by omega)).mp y).symm), h8 g hg]
      refine (zr_nw_c pc fun i hi => ?_).symm
      have : upd th (512 + pc) (nI (f + 16 * mk.toNat + 32 * w)) (512 + i) = th (512 + i) := pk_un (by omega)
      show upd th (512 + pc) (nI (f + 16 * mk.toNat + 32 * w)) (512 + i) &&& 15 = _ ∧ upd th (512 + pc) (nI (f + 16 * mk.toNat + 32 * w)) (512 + i) >>> ((5 : Int32) &&& 31) = _
      rw [this]
      exact ⟨rfl, rfl⟩
/-- an access, for both sides -/
theorem zz_acc {f : Nat} {mk : Bool} {p0 q0 rt st x y p3 q3 : Int32} (R : zr_R cL pL rL wL ph pc ch cc rc aw wb wm pl pm gc wr se sc sv dm md ws pr lw nw cr rl gs hl th lm) (hf : f < 16) (e0 : p0 = nI f) (f0 : q0 = nI f) (f1 : st = rt) (f2 : y = x) (e3 : p3 = nI mk.toNat) (f3 : q3 = nI mk.toNat) : ∃ (r : Int32) (pc' : Nat) (pl' pm' : Int32) (pr' nw' th' : Nat → Int32), zr_R cL pL rL wL ph pc' ch cc rc aw wb wm pl' pm' gc wr se sc sv dm md ws pr' lw nw' cr rl gs hl th' lm ∧ (∀ post : Int32 → SX → Prop, post r (nI cL, nI pL, nI rL, nI wL, aw, wb, wm, nI ph, nI pc', pl', pm', nI ch, nI cc, fd, lf, nI rc, gc, wr, se, sc, sv, dm, md, ws, pr', lw, nw', cr, rl, gs, ct, hl) → wpX_access post (nI cL, nI pL, nI rL, nI wL, aw, wb, wm, nI ph, nI pc, pl, pm, nI ch, nI cc, fd, lf, nI rc, gc, wr, se, sc, sv, dm, md, ws, pr, lw, nw, cr, rl, gs, ct, hl) p0 rt x p3) ∧ (∀ post : Int32 → SY → Prop, post r (fd, lf, wr, se, th', lm, ct, lw) → wpY_access post (fd, lf, wr, se, th, lm, ct, lw) q0 st y q3) := by
  subst f1 f2
  subst e0 f0 e3 f3
  have R0 := R
  obtain ⟨hL, hW, hS, hC, hX, hA, hP, hM, hQ, hH⟩ := R
  obtain ⟨l1, l2, l3, l4, l5, l6, l7, l8, l9, l10, l11, l12⟩ := id hL
  have hpc : pc ≤ pL := hP.2.1
  have fe1 : ∀ i, i < pc → 0 ≤ th (256 * 2 + i) := by
    intro i hi
    obtain ⟨a, b, ha, hb, _, e⟩ := hP.2.2.1 i hi
    have := zz_b1 (bt pm ((ph + i) % 8))
    rw [show 256 * 2 + i = 512 + i from rfl, e]
    exact nI_pos' (by omega)
  have fe2 : pc < 16 → th (256 * 2 + pc) < 0 := by
    intro _
    rw [show 256 * 2 + pc = 512 + pc from rfl, hP.2.2.2.1 pc (by omega) (by omega)]
    decide
  by_cases hx : 0 ≤ y
  · by_cases h2 : st &&& 2 = 0
    · refine ⟨-7, pc, pl, pm, pr, nw, th, R0, fun post h => ?_, fun post h => ?_⟩
      · unfold wpX_access wX_access_9
        exact br_t hx (br_t h2 h)
      · unfold wpY_access wY_access_10
        exact br_t hx (br_t h2 h)
    · rcases Nat.lt_or_ge pc pL with hlt | hge
      · obtain ⟨w, hw, ew⟩ := pk_andE y (m := 255) 8 (by decide)
        refine ⟨nI f, pc + 1, _, _, _, _, upd th (512 + pc) (nI (f + 16 * mk.toNat + 32 * w)), ⟨hL, hW, hS, hC, zr_Ctx_fr hX (fun i hi => pk_un (by omega)), zr_Wal_fr (by omega) hA (fun i hi => pk_un (by omega)), zr_Pos_post (f := f) (w := w) (mk := mk) hlt l4 hf (by omega) hP, zr_Cmd_fr (by omega) hM (fun i hi => pk_un (by omega)), zr_ReqE_fr hQ (fun i hi => pk_un (by omega)), zr_Hel_fr hH (fun i hi => pk_un (by omega))⟩, fun post h => ?_, fun post h => ?_⟩
        · unfold wpX_access wX_access_9
          refine br_t hx (br_f h2 (br_t hx (br_t (nI_lt hlt (by omega)) ?_)))
          unfold wpX_post
          have ix : (nI ph + nI pc) &&& 7 = nI ((ph + pc) % 8) := by rw [nI_add, zb_m7 (by have := hP.1; omega)]
          have ev : nI f ||| ((y &&& 255) <<< ((5 : Int32) &&& 31)) = nI (f + 32 * w) := by
            rw [ew]
            refine (zb_orN 5 (by omega) (by omega) (by omega)).trans (congrArg nI (by omega))
          refine nm_r ix ⟨vp_in_nI (by omega) (by omega), ?_⟩
          rw [ev, ew, nI_clamp (n := (ph + pc) % 8) (by omega), nI_clamp (n := f) (by omega)]
          exact nm_e (nm_e (nm_e (nm_r (nI_1 pc) ⟨vp_in_nI (by omega) (by omega), nm_e h⟩)))
        · unfold wpY_access wY_access_10
          refine br_t hx (br_f h2 (zy_fe pc 2 (by omega) (by omega) rfl fe1 fe2 ⟨vp_in_nI (by omega) (by omega), nm_e ⟨pc + 1, ?_⟩⟩))
          rw [nI_clamp (n := f) (by omega)]
          refine zy_acl (f := f) (n := pc) (w := lw f) (by omega) l4 rfl rfl l10 (fun z => absurd hx z) (fun _ z => absurd z (by omega)) (fun _ _ => ?_) pc 0 (by omega)
          have ev : (nI f + (16 * nI mk.toNat)) + (32 * (y &&& 255)) = nI (f + 16 * mk.toNat + 32 * w) := by
            rw [ew]
            show (nI f + (nI 16 * nI mk.toNat)) + (nI 32 * nI w) = _
            rw [pk_mul, pk_mul, nI_add, nI_add]
          rw [ev]
          exact h
      · have epc : pc = pL := by omega
        refine ⟨-2, pc, pl, pm, pr, nw, th, R0, fun post h => ?_, fun post h => ?_⟩
        · unfold wpX_access wX_access_9
          exact br_t hx (br_f h2 (br_t hx (br_f (nI_nlt hge (by omega)) h)))
        · unfold wpY_access wY_access_10
          refine br_t hx (br_f h2 (zy_fe pc 2 (by omega) (by omega) rfl fe1 fe2 ⟨vp_in_nI (by omega) (by omega), nm_e ⟨pc + 1, ?_⟩⟩))
          rw [nI_clamp (n := f) (by omega)]
          exact zy_acl (f := f) (n := pc) (w := lw f) (by omega) l4 rfl rfl l10 (fun z => absurd hx z) (fun _ _ => h) (fun _ z => absurd epc z) pc 0 (by omega)
  · by_cases h1 : st &&& 1 = 0
    · refine ⟨-7, pc, pl, pm, pr, nw, th, R0, fun post h => ?_, fun post h => ?_⟩
      · unfold wpX_access wX_access_9
        exact br_f hx (br_t h1 h)
      · unfold wpY_access wY_access_10
        exact br_f hx (br_t h1 h)
    · refine ⟨nw f, pc, pl, pm, pr, nw, th, R0, fun post h => ?_, fun post h => ?_⟩
      · unfold wpX_access wX_access_9
        rw [nI_clamp (n := f) (by omega)]
        exact br_f hx (br_f h1 (br_f hx ⟨vp_in_nI (by omega) (by omega), h⟩))
      · unfold wpY_access wY_access_10
        refine br_f hx (br_f h1 (zy_fe pc 2 (by omega) (by omega) rfl fe1 fe2 ⟨vp_in_nI (by omega) (by omega), nm_e ⟨pc + 1, ?_⟩⟩))
        rw [nI_clamp (n := f) (by omega)]
        refine zy_acl (f := f) (n := pc) (w := lw f) (by omega) l4 rfl rfl l10 (fun z => ?_) (fun z _ => absurd z hx) (fun z _ => absurd z hx) pc 0 (by omega)
        rw [← hP.2.2.2.2.2.2.2 f hf]
        exact h
end
end
section
/-! begin, finish, direct -/
theorem zz_least (b : Int32) : ∀ n : Nat, ∃ s : Nat, s ≤ n ∧ (∀ i, i < s → bt b i = true) ∧ (s < n → bt b s = false) := by
  intro n
  induction n with
  | zero => exact ⟨0, Nat.le_refl _, fun i hi => absurd hi (Nat.not_lt_zero i), fun h => absurd h (Nat.lt_irrefl 0)⟩
  | succ n ih =>
    obtain ⟨s, hs, h1, h2⟩ := ih
    rcases Nat.lt_or_ge s n with h | h
    · exact ⟨s, by omega, h1, fun _ => h2 h⟩
    · have e : s = n := by omega
      subst e
      cases hb : bt b s with
      | false => exact ⟨s, by omega, h1, fun _ => hb⟩
      | true =>
        refine ⟨s + 1, Nat.le_refl _, fun i hi => ?_, fun h => absurd h (by omega)⟩
        rcases Nat.lt_or_ge i s with y | y
        · exact h1 i y
        · have : i = s := by omega
          subst this
          exact hb
theorem zz_bf {b : Bool} (h : ¬ b = true) : b = false := by cases b; rfl; exact absurd rfl h
theorem zz_bt {b : Bool} (h : ¬ b = false) : b = true := by cases b; exact absurd rfl h; rfl
section
variable {cL pL rL wL ph pc ch cc rc : Nat} {aw wb wm pl pm fd lf gc : Int32} {wr se sc sv dm md ws pr lw nw cr rl gs ct hl th lm : Nat → Int32}
theorem zy_few {post1 : Int32 → Prop} {s : Nat} (hw : wL ≤ 8) (hA : zr_Wal ws wb wm wL th) (hs : s ≤ wL) (h1 : ∀ i, i < s → bt wb i = true) (h2 : s < wL → bt wb s = false) (h : post1 (nI s)) : wpY_firstEmpty post1 (fd, lf, wr, se, th, lm, ct, lw) 1 := by
  refine zy_fe s 1 (by omega) (by omega) rfl (fun i hi => ?_) (fun _ => ?_) h
  · obtain ⟨f, d, w, hf, hd, hw', _, e⟩ := (hA.1 i (h1 i hi)).2
    have := zz_b1 (bt wm i)
    rw [show 256 * 1 + i = 256 + i from rfl, e]
    exact nI_pos' (by omega)
  · have hb : bt wb s = false := by
      rcases Nat.lt_or_ge s wL with y | y
      · exact h2 y
      · exact zz_bf (fun z => absurd (hA.1 s z).1 (by omega))
    rw [show 256 * 1 + s = 256 + s from rfl, hA.2.1 s (by omega) hb]
    decide
theorem zr_Wal_new {s f d w : Nat} (hw : wL ≤ 8) (hs : s < wL) (hb : bt wb s = false) (hf : f < 64) (hd : d < 2) (hw' : w ≤ 256) (h : zr_Wal ws wb wm wL th) : zr_Wal (upd ws s (nI (f + 64 * d + 256 * w))) (wb ||| ((1 : Int32) <<< (nI s &&& 31))) wm wL (upd th (256 + s) (nI (f + 64 * d + 256 * w))) := by
  obtain ⟨h1, h2, h3⟩ := h
  have hm : bt wm s = false := zz_bf (fun z => by rw [h3 s z] at hb; exact nomatch hb)
  refine ⟨fun i hi => ?_, fun i hi hi' => ?_, fun i hi => ?_⟩
  · by_cases e : i = s
    · subst e
      rw [pk_us, pk_us, hm]
      exact ⟨hs, f, d, w, hf, hd, hw', rfl, rfl⟩
    · rw [zb_set (by omega), decide_eq_false e, Bool.or_false] at hi
      rw [pk_un e, pk_un (by omega)]
      exact h1 i hi
  · rw [zb_set (by omega), Bool.or_eq_false_iff, decide_eq_false_iff_not] at hi'
    rw [pk_un (by omega)]
    exact h2 i hi hi'.1
  · rw [zb_set (by omega), h3 i hi]
    rfl
theorem zr_Wal_end {s : Nat} (hs : s < 8) (h : zr_Wal ws wb wm wL th) : zr_Wal ws (wb &&& (((1 : Int32) <<< (nI s &&& 31)) ^^^ (-1))) (wm &&& (((1 : Int32) <<< (nI s &&& 31)) ^^^ (-1))) wL (upd th (256 + s) (-8)) := by
  obtain ⟨h1, h2, h3⟩ := h
  refine ⟨fun i hi => ?_, fun i hi hi' => ?_, fun i hi => ?_⟩
  · rw [zb_clr (by omega), Bool.and_eq_true, Bool.not_eq_true', decide_eq_false_iff_not] at hi
    rw [zb_clr (by omega), decide_eq_false hi.2, Bool.not_false, Bool.and_true, pk_un (by omega)]
    exact h1 i hi.1
  · by_cases e : i = s
    · subst e
      exact pk_us
    · rw [zb_clr (by omega), decide_eq_false e, Bool.not_false, Bool.and_true] at hi'
      rw [pk_un (by omega)]
      exact h2 i hi hi'
  · rw [zb_clr (by omega), Bool.and_eq_true] at hi ⊢
    exact ⟨h3 i hi.1, hi.2⟩
theorem zr_R_wal {ws' th' : Nat → Int32} {wb' wm' : Int32} {s : Nat} {x : Int32} (hs : s < 256) (et : th' = upd th (256 + s) x) (R : zr_R cL pL rL wL ph pc ch cc rc aw wb wm pl pm gc wr se sc sv dm md ws pr lw nw cr rl gs hl th lm) (h : zr_Wal ws' wb' wm' wL th') : zr_R cL pL rL wL ph pc ch cc rc aw wb' wm' pl pm gc wr se sc sv dm md ws' pr lw nw cr rl gs hl th' lm := by
  subst et
  obtain ⟨hL, hW, hS, hC, hX, hA, hP, hM, hQ, hH⟩ := R
  obtain ⟨l1, l2, l3, l4, l5, l6, l7, l8, _⟩ := id hL
  exact ⟨hL, hW, hS, hC, zr_Ctx_fr hX (fun i hi => pk_un (by omega)), h, zr_Pos_fr (by omega) hP (fun i hi => pk_un (by omega)), zr_Cmd_fr (by omega) hM (fun i hi => pk_un (by omega)), zr_ReqE_fr hQ (fun i hi => pk_un (by omega)), zr_Hel_fr hH (fun i hi => pk_un (by omega))⟩
/-- the last step of begin, for both sides -/
theorem zz_beg {k dv s n d m w : Nat} {z : Int32} (R : zr_R cL pL rL wL ph pc ch cc rc aw wb wm pl pm gc wr se sc sv dm md ws pr lw nw cr rl gs hl th lm) (hdv : dv ≤ 3) (hs : s < wL) (hb : bt wb s = false) (hn : n < 64) (hd : d < 2) (hm : m < 3) (hw : w ≤ 256) (ez : z = nI w) (e1 : dm dv = nI d) (e3 : th dv = nI (d + 2 * m + 8 * (bt aw dv).toNat)) {Q : Int32 → SX → Prop} (hQ : wY_begin_64 (fun r' v' => r' = nI s ∧ i_Rel (k + 5) (nI cL, nI pL, nI rL, nI wL, aw, wb ||| ((1 : Int32) <<< (nI s &&& 31)), wm, nI ph, nI pc, pl, pm, nI ch, nI cc, fd, lf, nI rc, gc, wr, se, sc, sv, dm, md, upd ws s (nI (n + 64 * d + 256 * w)), pr, lw, nw, cr, rl, gs, ct, hl) v') (nI dv) (nI s) (nI n) z fd lf wr se th lm ct lw → Q (nI s) (nI cL, nI pL, nI rL, nI wL, aw, wb ||| ((1 : Int32) <<< (nI s &&& 31)), wm, nI ph, nI pc, pl, pm, nI ch, nI cc, fd, lf, nI rc, gc, wr, se, sc, sv, dm, md, upd ws s (nI (n + 64 * d + 256 * w)), pr, lw, nw, cr, rl, gs, ct, hl)) : wX_begin_83 Q (nI dv) (nI s) (nI n) z (nI cL) (nI pL) (nI rL) (nI wL) aw wb wm (nI ph) (nI pc) pl pm (nI ch) (nI cc) fd lf (nI rc) gc wr se sc sv dm md ws pr lw nw cr rl gs ct hl := by
  obtain ⟨l1, l2, l3, l4, l5, l6, l7, l8, _⟩ := id R.1
  subst ez
  unfold wX_begin_83
  have ev : (nI n ||| (dm dv <<< ((6 : Int32) &&& 31))) ||| (nI w <<< ((8 : Int32) &&& 31)) = nI (n + 64 * d + 256 * w) := by
    rw [e1]
    have a : nI n ||| (nI d <<< ((6 : Int32) &&& 31)) = nI (n + 64 * d) := (zb_orN 6 (by omega) (by omega) (by omega)).trans (congrArg nI (by omega))
    rw [a]
    exact (zb_orN 8 (by omega) (by omega) (by omega)).trans (congrArg nI (by omega))
  rw [nI_clamp (n := dv) (by omega), nI_clamp (n := s) (by omega), ev]
  refine ⟨vp_in_nI (by omega) (by omega), vp_in_nI (by omega) (by omega), nm_e (nm_e (hQ ?_))⟩
  unfold wY_begin_64
  have ix : (256 : Int32) + nI s = nI (256 + s) := nI_add 256 s
  have hb1 := zz_b1 (bt aw dv)
  rw [ix, nI_clamp (n := 256 + s) (by omega), nI_clamp (n := dv) (by omega), e3, zz_ctxd hd hm hb1]
  have ey : (nI n + (64 * nI d)) + (256 * nI w) = nI (n + 64 * d + 256 * w) := by
    show (nI n + (nI 64 * nI d)) + (nI 256 * nI w) = _
    rw [pk_mul, pk_mul, nI_add, nI_add]
  rw [ey]
  refine br_t (nI_pos' (by omega)) ⟨vp_in_nI (by omega) (by omega), vp_in_nI (by omega) (by omega), nm_e ⟨rfl, zz_in ?_⟩⟩
  exact zr_R_wal (by omega) rfl R (zr_Wal_new l8 hs hb hn hd hw R.2.2.2.2.2.1)
end
theorem zz_data (x : Int32) : ∃ w : Nat, w < 256 ∧ (x &&& 255) + 1 = nI (w + 1) := by
  obtain ⟨w, hw, e⟩ := pk_andE x (m := 255) 8 (by decide)
  exact ⟨w, hw, by rw [e, nI_1]⟩
theorem i_vc_begin {k : Nat} {u : SX} {v : SY} (I : i_Rel k u v) (hk : k + 5 ≤ 2564) (v1 : Int32) (v2 : Int32) (v3 : Int32) (v4 : Int32) : wpX_begin (fun r u' => wpY_begin (fun r' v' => r' = r ∧ i_Rel (k + 5) u' v') v v1 v2 v3 v4) u v1 v2 v3 v4 := by
  refine zz_el (P := fun u v => wpX_begin (fun r u' => wpY_begin (fun r' v' => r' = r ∧ i_Rel (k + 5) u' v') v v1 v2 v3 v4) u v1 v2 v3 v4) ?_ I
  intro cL pL rL wL ph pc ch cc rc aw wb wm pl pm fd lf gc wr se sc sv dm md ws pr lw nw cr rl gs ct hl th lm R
  obtain ⟨l1, l2, l3, l4, l5, l6, l7, l8, l9, l10, l11, l12⟩ := id R.1
  have hA := R.2.2.2.2.2.1
  obtain ⟨s, hs, hs1, hs2⟩ := zz_least wb wL
  unfold wpX_begin wpY_begin
  by_cases ok : zz_ok v1 v2 v3
  · refine zx_vt ok (br_f (by decide) ?_)
    obtain ⟨dv, t, p, hdv, ht, hp, rfl, rfl, rfl⟩ := zz_ok_e ok
    obtain ⟨d, m, hd, hm, e1, e2, e3⟩ := R.2.2.2.2.1.1 dv (by omega)
    have hb1 := zz_b1 (bt aw dv)
    rw [nI_clamp (n := dv) (by omega)]
    refine ⟨vp_in_nI (by omega) (by omega), pk_eq m 0 (fun hm0 => ?_) (fun hm0 => ?_) e2 rfl⟩
    · exact zy_rt ok hdv rfl hd hm hb1 e3 (fun _ => zy_few l8 hA hs hs1 hs2 (br_f (by decide) ⟨rfl, zz_in R⟩)) (fun h => absurd hm0 h)
    · have hY : ∀ {Q : Int32 → Prop}, Q 0 → wpY_refusal Q (fd, lf, wr, se, th, lm, ct, lw) (nI dv) (nI t) (nI p) := fun q => zy_rt ok hdv rfl hd hm hb1 e3 (fun h => absurd h hm0) (fun _ => q)
      refine zx_lfs hs l8 hs1 hs2 (fun hlt => ?_) (fun heq => ?_)
      · refine br_t (nI_pos' (by omega)) ⟨vp_in_nI (by omega) (by omega), vp_in_nI (by omega) (by omega), ?_⟩
        refine zx_l1 hm hd ht (by omega) R.2.2.1 R.2.2.2.1 e2 e1 rfl rfl (fun sc' sv' hC' => ?_)
        have R' := zr_R_ca R hC'
        rcases zr_l1_r (m := m) (d := d) (t := t) (p := p) R.2.2.1 (by omega) with q | q | ⟨n, hn, q⟩
        · rw [q]
          refine br_f (by decide) (hY (zy_few l8 hA hs hs1 hs2 (br_t rfl (pk_eq s wL (fun z => absurd z (by omega)) (fun _ => ?_) rfl l12))))
          refine zy_l1 hdv hd hm hb1 ht (by omega) R.2.2.1 e3 rfl rfl rfl ?_
          rw [q]
          unfold wY_begin_64
          exact br_c (fun _ => br_f (by decide) ⟨rfl, zz_in R'⟩) (fun _ => br_f (by decide) ⟨rfl, zz_in R'⟩)
        · rw [q]
          refine br_f (by decide) (hY (zy_few l8 hA hs hs1 hs2 (br_t rfl (pk_eq s wL (fun z => absurd z (by omega)) (fun _ => ?_) rfl l12))))
          refine zy_l1 hdv hd hm hb1 ht (by omega) R.2.2.1 e3 rfl rfl rfl ?_
          rw [q]
          unfold wY_begin_64
          exact br_c (fun _ => br_f (by decide) ⟨rfl, zz_in R'⟩) (fun _ => br_f (by decide) ⟨rfl, zz_in R'⟩)
        · rw [q]
          refine br_t (nI_pos' (by omega)) (br_c (fun hx => ?_) (fun hx => ?_))
          · obtain ⟨w, hw, ew⟩ := zz_data v4
            refine zz_beg (k := k) (w := w + 1) R' hdv hlt (hs2 hlt) hn hd hm (by omega) ew e1 e3 (fun hh => ?_)
            refine hY (zy_few l8 hA hs hs1 hs2 (br_t rfl (pk_eq s wL (fun z => absurd z (by omega)) (fun _ => ?_) rfl l12)))
            refine zy_l1 hdv hd hm hb1 ht (by omega) R.2.2.1 e3 rfl rfl rfl ?_
            rw [q]
            exact br_t hx hh
          · refine zz_beg (k := k) (w := 0) R' hdv hlt (hs2 hlt) hn hd hm (by omega) rfl e1 e3 (fun hh => ?_)
            refine hY (zy_few l8 hA hs hs1 hs2 (br_t rfl (pk_eq s wL (fun z => absurd z (by omega)) (fun _ => ?_) rfl l12)))
            refine zy_l1 hdv hd hm hb1 ht (by omega) R.2.2.1 e3 rfl rfl rfl ?_
            rw [q]
            exact br_f hx hh
      · refine br_f (by decide) (hY (zy_few l8 hA hs hs1 hs2 (br_t rfl (pk_eq s wL (fun _ => ⟨rfl, zz_in R⟩) (fun z => absurd heq z) rfl l12))))
  · refine zx_vf ok (br_t rfl (zy_rf ok (zy_few l8 hA hs hs1 hs2 (br_f (by decide) ⟨rfl, zz_in R⟩))))
end
section
/-! finish, direct -/
section
variable {cL pL rL wL ph pc ch cc rc : Nat} {aw wb wm pl pm fd lf gc : Int32} {wr se sc sv dm md ws pr lw nw cr rl gs ct hl th lm : Nat → Int32}
theorem zz_fin93 {s : Nat} (hs : s < 8) (R : zr_R cL pL rL wL ph pc ch cc rc aw wb wm pl pm gc wr se sc sv dm md ws pr lw nw cr rl gs hl th lm) (r : Int32) : ∃ (wb' wm' : Int32) (th' : Nat → Int32), zr_R cL pL rL wL ph pc ch cc rc aw wb' wm' pl pm gc wr se sc sv dm md ws pr lw nw cr rl gs hl th' lm ∧ (∀ post : Int32 → SX → Prop, post r (nI cL, nI pL, nI rL, nI wL, aw, wb', wm', nI ph, nI pc, pl, pm, nI ch, nI cc, fd, lf, nI rc, gc, wr, se, sc, sv, dm, md, ws, pr, lw, nw, cr, rl, gs, ct, hl) → wX_finish_93 post (nI s) r (nI cL) (nI pL) (nI rL) (nI wL) aw wb wm (nI ph) (nI pc) pl pm (nI ch) (nI cc) fd lf (nI rc) gc wr se sc sv dm md ws pr lw nw cr rl gs ct hl) ∧ (∀ post : Int32 → SY → Prop, post r (fd, lf, wr, se, th', lm, ct, lw) → wY_finish_89 post (nI s) r fd lf wr se th lm ct lw) := by
  by_cases h : r = -2
  · refine ⟨wb, wm, th, R, fun post p => ?_, fun post p => ?_⟩
    · unfold wX_finish_93
      exact br_t h p
    · unfold wY_finish_89
      exact br_t h p
  · refine ⟨_, _, _, zr_R_wal (by omega) rfl R (zr_Wal_end hs R.2.2.2.2.2.1), fun post p => ?_, fun post p => ?_⟩
    · unfold wX_finish_93
      exact br_f h (nm_e (nm_e p))
    · unfold wY_finish_89
      have ix : (256 : Int32) + nI s = nI (256 + s) := nI_add 256 s
      rw [ix, nI_clamp (by omega)]
      exact br_f h ⟨vp_in_nI (by omega) (by omega), nm_e p⟩
end
theorem zz_and64 {a b n : Nat} (h : a % 64 = b % 64) (hn : n < 64) : nI a &&& nI n = nI b &&& nI n := by
  rw [nx_and, nx_and, zb_nand 6 (n := a) hn, zb_nand 6 (n := b) hn]
  exact congrArg nI (congrArg (· &&& n) h)
theorem i_vc_finish {k : Nat} {u : SX} {v : SY} (I : i_Rel k u v) (hk : k + 5 ≤ 2564) (v1 : Int32) : wpX_finish (fun r u' => wpY_finish (fun r' v' => r' = r ∧ i_Rel (k + 5) u' v') v v1) u v1 := by
  refine zz_el (P := fun u v => wpX_finish (fun r u' => wpY_finish (fun r' v' => r' = r ∧ i_Rel (k + 5) u' v') v v1) u v1) ?_ I
  intro cL pL rL wL ph pc ch cc rc aw wb wm pl pm fd lf gc wr se sc sv dm md ws pr lw nw cr rl gs ct hl th lm R
  obtain ⟨l1, l2, l3, l4, l5, l6, l7, l8, l9, l10, l11, l12⟩ := id R.1
  have hA := R.2.2.2.2.2.1
  unfold wpX_finish wpY_finish
  dsimp only
  rw [l12]
  refine br_c (fun z => br_t z ⟨rfl, zz_in R⟩) (fun z => ?_)
  obtain ⟨s, hs, rfl⟩ := nI_of z
  refine pk_lt s wL (fun hlt => ?_) (fun hge => br_f z (br_f (nI_nlt hge (by omega)) ⟨rfl, zz_in R⟩))
  have ix : (256 : Int32) + nI s = nI (256 + s) := nI_add 256 s
  rw [ix, nI_clamp (n := 256 + s) (by omega), nI_clamp (n := s) (by omega), zb_z (by omega)]
  have hlt' : nI s < nI wL := nI_lt hlt (by omega)
  refine br_c (fun hb => br_f z (br_t hlt' ⟨vp_in_nI (by omega) (by omega), nm_r (hA.2.1 s (by omega) hb) (br_f (by decide) ⟨rfl, zz_in R⟩)⟩)) (fun hb => ⟨vp_in_nI (by omega) (by omega), ?_⟩)
  obtain ⟨f, d, w, hf, hd, hw, e1, e2⟩ := (hA.1 s (zz_bt hb)).2
  have hm := zz_b1 (bt wm s)
  rw [e1, e2]
  refine nm_e ?_
  have x6 : (nI (f + 64 * d + 256 * w) >>> ((6 : Int32) &&& 31)) &&& 1 = nI d := by
    rw [zb_s6 (by omega), zb_m1 (by omega)]
    exact congrArg nI (by omega)
  have x15 : nI (f + 64 * d + 256 * w) &&& 15 = nI (f % 16) := by
    rw [zb_m15 (by omega)]
    exact congrArg nI (by omega)
  have y6 : 80 + 20 * ((nI (f + 64 * d + 128 * (bt wm s).toNat + 256 * w) >>> ((6 : Int32) &&& 31)) &&& 1) = nI (80 + 20 * d) := by
    rw [zb_s6 (by omega), zb_m1 (by omega)]
    show nI 80 + nI 20 * nI _ = _
    rw [pk_mul, nI_add]
    exact congrArg nI (by omega)
  have y15 : nI (f + 64 * d + 128 * (bt wm s).toNat + 256 * w) &&& 15 = nI (f % 16) := by
    rw [zb_m15 (by omega)]
    exact congrArg nI (by omega)
  refine zx_l2 hd (p := f % 16) (by omega) R.2.2.1 R.2.2.2.1 x6 x15 (fun sc' sv' hC' => ?_)
  have R1 := zr_R_ca R hC'
  rcases zr_lk_r R.2.2.1 (80 + 20 * d) (f % 16) (-6) with q | ⟨n, hn, q⟩
  · obtain ⟨wb', wm', th', R2, fX, fY⟩ := zz_fin93 (s := s) (ct := ct) (fd := fd) (lf := lf) (by omega) R1 (-6)
    rw [q]
    refine br_t (by decide) (fX _ ?_)
    refine br_f z (br_t hlt' ⟨vp_in_nI (by omega) (by omega), nm_e (br_t (nI_pos' (by omega)) (zy_lk (by omega) (by omega) y6 y15 ?_))⟩)
    rw [q]
    exact br_t (by decide) (fY _ ⟨rfl, zz_in R2⟩)
  · rw [q]
    obtain ⟨r, pc', pl', pm', pr', nw', th', R2, aX, aY⟩ := zz_acc (f := n % 16) (mk := bt wm s) (ct := ct) (fd := fd) (lf := lf) (p0 := nI n &&& 15) (q0 := nI n &&& 15) (rt := ((nI (f + 64 * d + 256 * w) &&& nI n) >>> ((4 : Int32) &&& 31)) &&& 3) (st := ((nI (f + 64 * d + 128 * (bt wm s).toNat + 256 * w) &&& nI n) >>> ((4 : Int32) &&& 31)) &&& 3) (x := (nI (f + 64 * d + 256 * w) >>> ((8 : Int32) &&& 31)) - 1) (y := (nI (f + 64 * d + 128 * (bt wm s).toNat + 256 * w) >>> ((8 : Int32) &&& 31)) - 1) (p3 := (wm >>> (nI s &&& 31)) &&& 1) (q3 := (nI (f + 64 * d + 128 * (bt wm s).toNat + 256 * w) >>> ((7 : Int32) &&& 31)) &&& 1) R1 (by omega) (zb_m15 (by omega)) (zb_m15 (by omega)) (by rw [zz_and64 (b := f + 64 * d + 256 * w) (by omega) hn]) (by rw [zb_s8 (by omega), zb_s8 (by omega)]; exact congrArg (fun j => nI j - 1) (by omega)) (zb_t (by omega)) (by rw [zb_s7 (by omega), zb_m1 (by omega)]; exact congrArg nI (by omega))
    obtain ⟨wb', wm', th'', R3, fX, fY⟩ := zz_fin93 (s := s) (ct := ct) (fd := fd) (lf := lf) (by omega) R2 r
    refine br_f (nI_pos (by omega)) (nm_e (aX _ (fX _ ?_)))
    refine br_f z (br_t hlt' ⟨vp_in_nI (by omega) (by omega), nm_e (br_t (nI_pos' (by omega)) (zy_lk (by omega) (by omega) y6 y15 ?_))⟩)
    rw [q]
    exact br_f (nI_pos (by omega)) (aY _ (fY _ ⟨rfl, zz_in R3⟩))
theorem i_vc_direct {k : Nat} {u : SX} {v : SY} (I : i_Rel k u v) (hk : k + 5 ≤ 2564) (v1 : Int32) (v2 : Int32) (v3 : Int32) (v4 : Int32) : wpX_direct (fun r u' => wpY_direct (fun r' v' => r' = r ∧ i_Rel (k + 5) u' v') v v1 v2 v3 v4) u v1 v2 v3 v4 := by
  refine zz_el (P := fun u v => wpX_direct (fun r u' => wpY_direct (fun r' v' => r' = r ∧ i_Rel (k + 5) u' v') v v1 v2 v3 v4) u v1 v2 v3 v4) ?_ I
  intro cL pL rL wL ph pc ch cc rc aw wb wm pl pm fd lf gc wr se sc sv dm md ws pr lw nw cr rl gs ct hl th lm R
  unfold wpX_direct wpY_direct
  by_cases ok : zz_ok v1 v2 v3
  · refine zx_vt ok (br_f (by decide) ?_)
    obtain ⟨dv, t, p, hdv, ht, hp, rfl, rfl, rfl⟩ := zz_ok_e ok
    obtain ⟨d, m, hd, hm, e1, e2, e3⟩ := R.2.2.2.2.1.1 dv (by omega)
    have hb1 := zz_b1 (bt aw dv)
    rw [nI_clamp (n := dv) (by omega)]
    refine ⟨vp_in_nI (by omega) (by omega), pk_eq m 0 (fun hm0 => ?_) (fun hm0 => ?_) e2 rfl⟩
    · exact zy_rt ok hdv rfl hd hm hb1 e3 (fun _ => br_f (by decide) ⟨rfl, zz_in R⟩) (fun h => absurd hm0 h)
    · have hY : ∀ {Q : Int32 → Prop}, Q 0 → wpY_refusal Q (fd, lf, wr, se, th, lm, ct, lw) (nI dv) (nI t) (nI p) := fun q => zy_rt ok hdv rfl hd hm hb1 e3 (fun h => absurd h hm0) (fun _ => q)
      have ix : ((nI dv * 64) + (nI t * 16)) + nI p = nI (64 * dv + 16 * t + p) := by
        show ((nI dv * nI 64) + (nI t * nI 16)) + nI p = _
        rw [pk_mul, pk_mul, nI_add, nI_add]
        exact congrArg nI (by omega)
      have iy : ((1280 + (64 * nI dv)) + (16 * nI t)) + nI p = nI (1280 + (64 * dv + 16 * t + p)) := by
        show ((nI 1280 + (nI 64 * nI dv)) + (nI 16 * nI t)) + nI p = _
        rw [pk_mul, pk_mul, nI_add, nI_add, nI_add]
        exact congrArg nI (by omega)
      rw [ix, iy, nI_clamp (n := 64 * dv + 16 * t + p) (by omega), nI_clamp (n := 1280 + (64 * dv + 16 * t + p)) (by omega)]
      refine ⟨vp_in_nI (by omega) (by omega), ?_⟩
      rcases R.2.2.2.2.2.2.2.2.2 (64 * dv + 16 * t + p) (by omega) with ⟨a, b⟩ | ⟨n, n0, hn, a, b⟩
      · exact nm_r a (br_t rfl (hY (br_t rfl ⟨vp_in_nI (by omega) (by omega), nm_r b (br_f (by decide) ⟨rfl, zz_in R⟩)⟩)))
      · refine nm_r a (br_f (nI_ne0 n0 (by omega)) ?_)
        obtain ⟨r, pc', pl', pm', pr', nw', th', R2, aX, aY⟩ := zz_acc (f := n % 16) (mk := false) (ct := ct) (fd := fd) (lf := lf) (p0 := nI n &&& 15) (q0 := nI n &&& 15) (rt := (nI n >>> ((4 : Int32) &&& 31)) &&& 3) (st := (nI n >>> ((4 : Int32) &&& 31)) &&& 3) (x := v4) (y := v4) (p3 := 0) (q3 := 0) R (by omega) (zb_m15 (by omega)) (zb_m15 (by omega)) rfl rfl rfl rfl
        refine aX _ ?_
        exact hY (br_t rfl ⟨vp_in_nI (by omega) (by omega), nm_r b (br_t (nI_pos' (by omega)) (aY _ ⟨rfl, zz_in R2⟩))⟩)
  · exact zx_vf ok (br_t rfl (zy_rf ok (br_f (by decide) ⟨rfl, zz_in R⟩)))
end
section
/-! drain, submit -/
theorem zr_nw_sh (t : Nat → Int32) (w f : Int32) : ∀ n, zr_nw t w f (n + 1) = zr_nw (fun i => t (i + 1)) (if t 0 &&& 15 = f then t 0 >>> ((5 : Int32) &&& 31) else w) f n := by
  intro n
  induction n with
  | zero => rfl
  | succ n ih =>
    show (if t (n + 1) &&& 15 = f then t (n + 1) >>> ((5 : Int32) &&& 31) else zr_nw t w f (n + 1)) = (if t (n + 1) &&& 15 = f then t (n + 1) >>> ((5 : Int32) &&& 31) else zr_nw (fun i => t (i + 1)) (if t 0 &&& 15 = f then t 0 >>> ((5 : Int32) &&& 31) else w) f n)
    rw [ih]
section
variable {cL pL rL wL ph pc ch cc rc : Nat} {aw wb wm pl pm fd lf gc : Int32} {wr se sc sv dm md ws pr lw nw cr rl gs ct hl th lm : Nat → Int32}
theorem zr_Pos_land {f w : Nat} (hpc : 0 < pc) (hL : pL ≤ 8) (hf : f < 16) (hw : w < 256) (e1 : pr ph = nI (f + 32 * w)) (e2 : th 512 = nI (f + 16 * (bt pm ph).toNat + 32 * w)) (h : zr_Pos pr ph pc pl pm pL nw lw th) : zr_Pos pr ((ph + 1) % 8) (pc - 1) (pl &&& (((1 : Int32) <<< (nI ph &&& 31)) ^^^ (-1))) (pm &&& (((1 : Int32) <<< (nI ph &&& 31)) ^^^ (-1))) pL nw (upd lw f (nI w)) (zr_rm th 512 528) := by
  obtain ⟨h1, h2, h3, h4, h5, h6, h7, h8⟩ := h
  have hr : ∀ i, i < 16 → zr_rm th 512 528 (512 + i) = th (512 + (i + 1)) := fun i hi => if_pos (by omega)
  have hx : ∀ i, ((ph + 1) % 8 + i) % 8 = (ph + (i + 1)) % 8 := fun i => by omega
  refine ⟨by omega, by omega, fun i hi => ?_, fun i a b => ?_, fun i hi => ?_, fun j hj => ?_, fun j hj => ?_, fun g hg => ?_⟩
  · rw [hx, hr i (by omega), zb_clr (by omega), decide_eq_false (by omega : ¬ (ph + (i + 1)) % 8 = ph), Bool.not_false, Bool.and_true]
    exact h3 (i + 1) (by omega)
  · rcases Nat.lt_or_ge i 16 with y | y
    · rw [hr i y]
      exact h4 (i + 1) (by omega) (by omega)
    · have : zr_rm th 512 528 (512 + i) = th (512 + i) := if_neg (by omega)
      rw [this]
      exact h4 i (by omega) b
  · rw [hx, zb_clr (by omega)]
    rcases (by omega : i < 7 ∨ i = 7) with y | y
    · rw [decide_eq_false (by omega : ¬ (ph + (i + 1)) % 8 = ph), Bool.not_false, Bool.and_true, h5 (i + 1) (by omega)]
      by_cases z : i + 1 < pc
      · rw [decide_eq_true z, decide_eq_true (by omega)]
      · rw [decide_eq_false z, decide_eq_false (by omega)]
    · rw [decide_eq_true (by omega : (ph + (i + 1)) % 8 = ph), Bool.not_true, Bool.and_false, decide_eq_false (by omega)]
  · rw [zb_clr (by omega), h6 j hj, Bool.false_and]
  · rw [zb_clr (by omega), Bool.and_eq_true] at hj ⊢
    exact ⟨h7 j hj.1, hj.2⟩
  · have hb := zz_b1 (bt pm ph)
    have a1 : th (512 + 0) &&& 15 = nI f := by
      show th 512 &&& 15 = nI f
      rw [e2, zb_m15 (by omega)]
      exact congrArg nI (by omega)
    have a2 : th (512 + 0) >>> ((5 : Int32) &&& 31) = nI w := by
      show th 512 >>> ((5 : Int32) &&& 31) = nI w
      rw [e2, zb_s5 (by omega)]
      exact congrArg nI (by omega)
    obtain ⟨n, rfl⟩ : ∃ n, pc = n + 1 := ⟨pc - 1, by omega⟩
    rw [h8 g hg, zr_nw_sh]
    show zr_nw (fun i => th (512 + (i + 1))) (if th (512 + 0) &&& 15 = nI g then th (512 + 0) >>> ((5 : Int32) &&& 31) else lw g) (nI g) n = zr_nw (fun i => zr_rm th 512 528 (512 + i)) (upd lw f (nI w) g) (nI g) n
    rw [a1, a2]
    have e3 : (if nI f = nI g then nI w else lw g) = upd lw f (nI w) g := by
      by_cases e : g = f
      · subst e
        rw [if_pos rfl, pk_us]
      · rw [if_neg (fun y => e ((nI_eq (by omega) (by omega)).mp y).symm), pk_un e]
    rw [e3]
    refine zr_nw_c n (fun i hi => ?_)
    show th (512 + (i + 1)) &&& 15 = zr_rm th 512 528 (512 + i) &&& 15 ∧ th (512 + (i + 1)) >>> ((5 : Int32) &&& 31) = zr_rm th 512 528 (512 + i) >>> ((5 : Int32) &&& 31)
    rw [hr i (by omega)]
    exact ⟨rfl, rfl⟩
theorem zr_R_land {f w : Nat} (hpc : 0 < pc) (hf : f < 16) (hw : w < 256) (e1 : pr ph = nI (f + 32 * w)) (e2 : th 512 = nI (f + 16 * (bt pm ph).toNat + 32 * w)) (R : zr_R cL pL rL wL ph pc ch cc rc aw wb wm pl pm gc wr se sc sv dm md ws pr lw nw cr rl gs hl th lm) : zr_R cL pL rL wL ((ph + 1) % 8) (pc - 1) ch cc rc aw wb wm (pl &&& (((1 : Int32) <<< (nI ph &&& 31)) ^^^ (-1))) (pm &&& (((1 : Int32) <<< (nI ph &&& 31)) ^^^ (-1))) gc wr se sc sv dm md ws pr (upd lw f (nI w)) nw cr rl gs hl (zr_rm th 512 528) lm := by
  obtain ⟨hL, hW, hS, hC, hX, hA, hP, hM, hQ, hH⟩ := R
  obtain ⟨l1, l2, l3, l4, l5, l6, l7, l8, _⟩ := id hL
  exact ⟨hL, hW, hS, hC, zr_Ctx_fr hX (fun i hi => if_neg (by omega)), zr_Wal_fr (by omega) hA (fun i hi => if_neg (by omega)), zr_Pos_land hpc l4 hf hw e1 e2 hP, zr_Cmd_fr (by omega) hM (fun i hi => if_neg (by omega)), zr_ReqE_fr hQ (fun i hi => if_neg (by omega)), zr_Hel_fr hH (fun i hi => if_neg (by omega))⟩
end
theorem zz_drain {c : Nat} {v1 : Int32} (hc : c ≤ 8) (hv : ∀ j, j < c → ¬ v1 ≤ nI j) : ∀ (d j : Nat), j + d = c → ∀ {cL pL rL wL ph pc ch cc rc : Nat} {aw wb wm pl pm fd lf gc : Int32} {wr se sc sv dm md ws pr lw nw cr rl gs ct hl th lm : Nat → Int32}, d ≤ pc → (v1 ≤ nI c ∨ d = pc) → zr_R cL pL rL wL ph pc ch cc rc aw wb wm pl pm gc wr se sc sv dm md ws pr lw nw cr rl gs hl th lm → ∃ (ph' pc' : Nat) (pl' pm' : Int32) (lw' th' : Nat → Int32), zr_R cL pL rL wL ph' pc' ch cc rc aw wb wm pl' pm' gc wr se sc sv dm md ws pr lw' nw cr rl gs hl th' lm ∧ (∀ post : Int32 → SX → Prop, post (nI c) (nI cL, nI pL, nI rL, nI wL, aw, wb, wm, nI ph', nI pc', pl', pm', nI ch, nI cc, fd, lf, nI rc, gc, wr, se, sc, sv, dm, md, ws, pr, lw', nw, cr, rl, gs, ct, hl) → wX_drain_13 post (nI c) (d + 1) (nI j) (nI cL) (nI pL) (nI rL) (nI wL) aw wb wm (nI ph) (nI pc) pl pm (nI ch) (nI cc) fd lf (nI rc) gc wr se sc sv dm md ws pr lw nw cr rl gs ct hl) ∧ (∀ post : Int32 → SY → Prop, post (nI c) (fd, lf, wr, se, th', lm, ct, lw') → wY_drain_2 post v1 (d + 1) (nI j) fd lf wr se th lm ct lw) := by
  intro d
  induction d with
  | zero =>
    intro j hj cL pL rL wL ph pc ch cc rc aw wb wm pl pm fd lf gc wr se sc sv dm md ws pr lw nw cr rl gs ct hl th lm hd hE R
    have hj' : j = c := by omega
    subst hj'
    refine ⟨ph, pc, pl, pm, lw, th, R, fun post h => ?_, fun post h => ?_⟩
    · unfold wX_drain_13
      exact br_t (nI_le (Nat.le_refl _) (by omega)) h
    · unfold wY_drain_2
      refine br_c (fun _ => h) (fun z => br_c (fun _ => h) (fun y => ?_))
      rcases hE with e | e
      · exact absurd e z
      · have : th 512 = -8 := R.2.2.2.2.2.2.1.2.2.2.1 0 (by omega) (by omega)
        rw [this]
        exact br_t (by decide) h
  | succ d ih =>
    intro j hj cL pL rL wL ph pc ch cc rc aw wb wm pl pm fd lf gc wr se sc sv dm md ws pr lw nw cr rl gs ct hl th lm hd hE R
    have hph : ph < 8 := R.2.2.2.2.2.2.1.1
    have hb := zz_b1 (bt pm ph)
    have h0 := R.2.2.2.2.2.2.1.2.2.1 0 (by omega)
    rw [Nat.add_zero, Nat.add_zero, Nat.mod_eq_of_lt hph] at h0
    obtain ⟨f, w, hf, hw, e1, e2⟩ := h0
    have R1 := zr_R_land (by omega) hf hw e1 e2 R
    obtain ⟨ph', pc', pl', pm', lw', th', R2, iX, iY⟩ := ih (j + 1) (by omega) (ct := ct) (fd := fd) (lf := lf) (by omega) (hE.imp id (fun e => by omega)) R1
    refine ⟨ph', pc', pl', pm', lw', th', R2, fun post h => ?_, fun post h => ?_⟩
    · unfold wX_drain_13
      refine br_f (nI_ge (by omega) (by omega)) ?_
      unfold wpX_landOldest
      dsimp only
      rw [nI_clamp (n := ph) (by omega)]
      refine ⟨vp_in_nI (by omega) (by omega), nm_r e1 ?_⟩
      have a1 : nI (f + 32 * w) &&& 15 = nI f := by
        rw [zb_m15 (by omega)]
        exact congrArg nI (by omega)
      have a2 : nI (f + 32 * w) >>> ((5 : Int32) &&& 31) = nI w := by
        rw [zb_s5 (by omega)]
        exact congrArg nI (by omega)
      have a3 : (nI ph + 1) &&& 7 = nI ((ph + 1) % 8) := by rw [nI_1, zb_m7 (by omega)]
      have a4 : nI pc - 1 = nI (pc - 1) := pk_sub (b := 1) (by omega)
      rw [a1, a2, nI_clamp (n := f) (by omega)]
      exact ⟨vp_in_nI (by omega) (by omega), nm_e (nm_e (nm_e (nm_r a3 (nm_r a4 (nm_r (nI_1 j) (iX post h))))))⟩
    · unfold wY_drain_2
      have a1 : th 512 &&& 15 = nI f := by
        rw [e2, zb_m15 (by omega)]
        exact congrArg nI (by omega)
      have a2 : th 512 >>> ((5 : Int32) &&& 31) = nI w := by
        rw [e2, zb_s5 (by omega)]
        exact congrArg nI (by omega)
      have a5 : ¬ th 512 < 0 := by
        rw [e2]
        exact nI_pos (by omega)
      refine br_f (hv j (by omega)) (br_f (nI_ge (b := 8) (by omega) (by omega)) (br_f a5 ?_))
      rw [a1, a2, nI_clamp (n := f) (by omega)]
      refine ⟨vp_in_nI (by omega) (by omega), nm_e (zy_rm 2 0 (by omega) (by omega) rfl rfl (nm_r (nI_1 j) (iY post h)))⟩
theorem i_vc_drain {k : Nat} {u : SX} {v : SY} (I : i_Rel k u v) (hk : k + 5 ≤ 2564) (v1 : Int32) : wpX_drain (fun r u' => wpY_drain (fun r' v' => r' = r ∧ i_Rel (k + 5) u' v') v v1) u v1 := by
  refine zz_el (P := fun u v => wpX_drain (fun r u' => wpY_drain (fun r' v' => r' = r ∧ i_Rel (k + 5) u' v') v v1) u v1) ?_ I
  intro cL pL rL wL ph pc ch cc rc aw wb wm pl pm fd lf gc wr se sc sv dm md ws pr lw nw cr rl gs ct hl th lm R
  obtain ⟨l1, l2, l3, l4, l5, l6, l7, l8, _⟩ := id R.1
  have hpc : pc ≤ pL := R.2.2.2.2.2.2.1.2.1
  have main : ∀ c : Nat, c ≤ pc → (∀ j, j < c → ¬ v1 ≤ nI j) → (v1 ≤ nI c ∨ c = pc) → ∃ n13 : Nat, wX_drain_13 (fun r u' => wpY_drain (fun r' v' => r' = r ∧ i_Rel (k + 5) u' v') (fd, lf, wr, se, th, lm, ct, lw) v1) (nI c) n13 0 (nI cL) (nI pL) (nI rL) (nI wL) aw wb wm (nI ph) (nI pc) pl pm (nI ch) (nI cc) fd lf (nI rc) gc wr se sc sv dm md ws pr lw nw cr rl gs ct hl := by
    intro c hc hv hE
    obtain ⟨ph', pc', pl', pm', lw', th', R2, iX, iY⟩ := zz_drain (by omega) hv c 0 (by omega) (ct := ct) (fd := fd) (lf := lf) hc hE R
    refine ⟨c + 1, iX _ ?_⟩
    unfold wpY_drain
    exact ⟨c + 1, iY _ ⟨rfl, zz_in R2⟩⟩
  unfold wpX_drain wpX_clamp
  refine br_c (fun z => ?_) (fun z => ?_)
  · obtain ⟨n, hn, rfl⟩ := nI_of (Int32.not_lt.mpr z)
    refine pk_le n pc (fun h => main n h (fun j hj => nI_ge hj hn) (Or.inl (nI_le (Nat.le_refl _) hn))) (fun h => main pc (Nat.le_refl _) (fun j hj => nI_ge (by omega) hn) (Or.inr rfl))
  · exact main 0 (Nat.zero_le _) (fun j hj => absurd hj (Nat.not_lt_zero j)) (Or.inl (Int32.le_of_lt (Int32.not_le.mp z)))
end
section
/-! submit; the constructors -/
def zz_W (x n : Int32) : Prop := 0 ≤ x ∧ x ≤ n
def zz_cmd (kd a b c : Int32) : Prop := (kd = 3 ∧ zz_W a 255) ∨ (kd = 2 ∧ zz_W a 3 ∧ zz_W b 63 ∧ zz_W c 6) ∨ (kd = 1 ∧ zz_W a 3 ∧ zz_W b 15 ∧ zz_W c 4) ∨ (kd = 0 ∧ zz_W a 1 ∧ zz_W b 15 ∧ zz_W c 4)
section
variable {cL pL rL wL ph pc ch cc rc : Nat} {aw wb wm pl pm fd lf gc : Int32} {wr se sc sv dm md ws pr lw nw cr rl gs ct hl th lm : Nat → Int32}
variable {post1 : Int32 → Prop} {post : Int32 → SY → Prop}
theorem zx_vc76 {x2 x3 x4 z0 : Int32} (h1 : zz_W x2 z0 → zz_W x3 15 → zz_W x4 4 → post1 1) (h0 : ¬ (zz_W x2 z0 ∧ zz_W x3 15 ∧ zz_W x4 4) → post1 0) : wX_validCommand_76 post1 x2 x3 x4 z0 (nI cL) (nI pL) (nI rL) (nI wL) aw wb wm (nI ph) (nI pc) pl pm (nI ch) (nI cc) fd lf (nI rc) gc wr se sc sv dm md ws pr lw nw cr rl gs ct hl := by
  unfold wX_validCommand_76
  by_cases a : zz_W x2 z0
  · refine zx_wt a (br_f (by decide) ?_)
    by_cases b : zz_W x3 15
    · refine zx_wt b (br_f (by decide) ?_)
      by_cases c : zz_W x4 4
      · exact zx_wt c (br_f (by decide) (h1 a b c))
      · exact zx_wf c (br_t rfl (h0 (fun z => c z.2.2)))
    · exact zx_wf b (br_t rfl (h0 (fun z => b z.2.1)))
  · exact zx_wf a (br_t rfl (h0 (fun z => a z.1)))
theorem zx_vc {kd a b c : Int32} (h1 : zz_cmd kd a b c → post1 1) (h0 : ¬ zz_cmd kd a b c → post1 0) : wpX_validCommand post1 (nI cL, nI pL, nI rL, nI wL, aw, wb, wm, nI ph, nI pc, pl, pm, nI ch, nI cc, fd, lf, nI rc, gc, wr, se, sc, sv, dm, md, ws, pr, lw, nw, cr, rl, gs, ct, hl) kd a b c := by
  unfold wpX_validCommand
  refine br_c (fun k3 => ?_) (fun k3 => br_c (fun k2 => ?_) (fun k2 => br_c (fun k1 => ?_) (fun k1 => br_c (fun k0 => ?_) (fun k0 => ?_))))
  · by_cases x : zz_W a 255
    · exact zx_wt x ⟨narrow_b1, h1 (Or.inl ⟨k3, x⟩)⟩
    · refine zx_wf x ⟨narrow_b0, h0 ?_⟩
      rintro (z | z | z | z)
      · exact x z.2
      · exact absurd (k3.symm.trans z.1) (by decide)
      · exact absurd (k3.symm.trans z.1) (by decide)
      · exact absurd (k3.symm.trans z.1) (by decide)
  · have hn : ¬ (zz_W a 3 ∧ zz_W b 63 ∧ zz_W c 6) → post1 0 := by
      intro hh
      refine h0 ?_
      rintro (z | z | z | z)
      · exact k3 z.1
      · exact hh z.2
      · exact absurd (k2.symm.trans z.1) (by decide)
      · exact absurd (k2.symm.trans z.1) (by decide)
    by_cases x : zz_W a 3
    · refine zx_wt x (br_f (by decide) ?_)
      by_cases y : zz_W b 63
      · refine zx_wt y (br_f (by decide) ?_)
        by_cases w : zz_W c 6
        · exact zx_wt w (br_f (by decide) (h1 (Or.inr (Or.inl ⟨k2, x, y, w⟩))))
        · exact zx_wf w (br_t rfl (hn (fun z => w z.2.2)))
      · exact zx_wf y (br_t rfl (hn (fun z => y z.2.1)))
    · exact zx_wf x (br_t rfl (hn (fun z => x z.1)))
  · unfold wX_validCommand_66
    refine br_t k1 (zx_vc76 (fun x y w => h1 (Or.inr (Or.inr (Or.inl ⟨k1, x, y, w⟩)))) (fun hh => h0 ?_))
    rintro (z | z | z | z)
    · exact k3 z.1
    · exact k2 z.1
    · exact hh z.2
    · exact absurd (k1.symm.trans z.1) (by decide)
  · unfold wX_validCommand_66
    refine br_f k1 (zx_vc76 (fun x y w => h1 (Or.inr (Or.inr (Or.inr ⟨k0, x, y, w⟩)))) (fun hh => h0 ?_))
    rintro (z | z | z | z)
    · exact k3 z.1
    · exact k2 z.1
    · exact k1 z.1
    · exact hh z.2
  · refine h0 ?_
    rintro (z | z | z | z)
    · exact k3 z.1
    · exact k2 z.1
    · exact k1 z.1
    · exact k0 z.1
theorem zy_fec {Q : Int32 → Prop} (hc : cL ≤ 16) (hM : zr_Cmd cr ch cc cL th) (h : Q (nI cc)) : wpY_firstEmpty Q (fd, lf, wr, se, th, lm, ct, lw) 4 := by
  obtain ⟨h1, h2, h3, h4⟩ := hM
  refine zy_fe cc 4 (by omega) (by omega) rfl (fun i hi => ?_) (fun hh => ?_) h
  · obtain ⟨e, kd, c, b, a, ar, e2, z⟩ := h3 i hi
    rw [show 256 * 4 + i = 1024 + i from rfl, e, e2]
    exact nI_pos' (by omega)
  · rw [show 256 * 4 + cc = 1024 + cc from rfl, h4 cc (Nat.le_refl _) (by omega)]
    decide
theorem zy_sub {kd a b c : Int32} (hc : cL ≤ 16) (hM : zr_Cmd cr ch cc cL th) (h1 : zz_cmd kd a b c → wY_submit_105 post kd a b c (nI cc) fd lf wr se th lm ct lw) (h0 : ¬ zz_cmd kd a b c → post (-1) (fd, lf, wr, se, th, lm, ct, lw)) : wpY_submit post (fd, lf, wr, se, th, lm, ct, lw) kd a b c := by
  unfold wpY_submit
  refine zy_fec hc hM (br_c (fun k3 => ?_) (fun k3 => br_c (fun k0 => ?_) (fun k0 => ?_)))
  · subst k3
    unfold wY_submit_27
    refine zy_wt (by decide) (br_f (by decide) ?_)
    by_cases x : zz_W a 255
    · refine zy_wt x (br_f (by decide) (br_t (by decide) ?_))
      unfold wY_submit_77
      exact br_f (by decide) (h1 (Or.inl ⟨rfl, x⟩))
    · refine zy_wf x (br_t rfl (h0 ?_))
      rintro (z | z | z | z)
      · exact x z.2
      · exact absurd z.1 (by decide)
      · exact absurd z.1 (by decide)
      · exact absurd z.1 (by decide)
  · subst k0
    have hn : ¬ (zz_W a 1 ∧ zz_W b 15 ∧ zz_W c 4) → post (-1) (fd, lf, wr, se, th, lm, ct, lw) := by
      intro hh
      refine h0 ?_
      rintro (z | z | z | z)
      · exact absurd z.1 (by decide)
      · exact absurd z.1 (by decide)
      · exact absurd z.1 (by decide)
      · exact hh z.2
    unfold wY_submit_27
    refine zy_wt (by decide) (br_f (by decide) ?_)
    by_cases x : zz_W a 1
    · refine zy_wt x (br_f (by decide) (br_f (by decide) ?_))
      by_cases y : zz_W b 15
      · refine zy_wt y (br_f (by decide) ?_)
        by_cases w : zz_W c 4
        · refine zy_wt w (br_f (by decide) ?_)
          unfold wY_submit_77
          exact br_f (by decide) (h1 (Or.inr (Or.inr (Or.inr ⟨rfl, x, y, w⟩))))
        · exact zy_wf w (br_t rfl (hn (fun z => w z.2.2)))
      · exact zy_wf y (br_t rfl (hn (fun z => y z.2.1)))
    · exact zy_wf x (br_t rfl (hn (fun z => x z.1)))
  · unfold wY_submit_27
    by_cases hk : zz_W kd 3
    · refine zy_wt hk (br_f (by decide) ?_)
      obtain ⟨j, hj, rfl⟩ := nI_of2 (M := 3) (n := 3) (by decide) (Int32.not_lt.mpr hk.1) hk.2
      rcases (by omega : j = 0 ∨ j = 1 ∨ j = 2 ∨ j = 3) with rfl | rfl | rfl | rfl
      · exact absurd rfl k0
      · have hn : ¬ (zz_W a 3 ∧ zz_W b 15 ∧ zz_W c 4) → post (-1) (fd, lf, wr, se, th, lm, ct, lw) := by
          intro hh
          refine h0 ?_
          rintro (z | z | z | z)
          · exact absurd z.1 (by decide)
          · exact absurd z.1 (by decide)
          · exact hh z.2
          · exact absurd z.1 (by decide)
        by_cases x : zz_W a 3
        · refine zy_wt x (br_f (by decide) (br_f (by decide) ?_))
          by_cases y : zz_W b 15
          · refine zy_wt y (br_f (by decide) ?_)
            by_cases w : zz_W c 4
            · refine zy_wt w (br_f (by decide) ?_)
              unfold wY_submit_77
              exact br_f (by decide) (h1 (Or.inr (Or.inr (Or.inl ⟨rfl, x, y, w⟩))))
            · exact zy_wf w (br_t rfl (hn (fun z => w z.2.2)))
          · exact zy_wf y (br_t rfl (hn (fun z => y z.2.1)))
        · exact zy_wf x (br_t rfl (hn (fun z => x z.1)))
      · have hn : ¬ (zz_W a 3 ∧ zz_W b 63 ∧ zz_W c 6) → post (-1) (fd, lf, wr, se, th, lm, ct, lw) := by
          intro hh
          refine h0 ?_
          rintro (z | z | z | z)
          · exact absurd z.1 (by decide)
          · exact hh z.2
          · exact absurd z.1 (by decide)
          · exact absurd z.1 (by decide)
        by_cases x : zz_W a 3
        · refine zy_wt x (br_f (by decide) (br_t (by decide) ?_))
          unfold wY_submit_77
          refine br_t rfl ?_
          by_cases y : zz_W b 63
          · refine zy_wt y (br_f (by decide) ?_)
            by_cases w : zz_W c 6
            · exact zy_wt w (br_f (by decide) (h1 (Or.inr (Or.inl ⟨rfl, x, y, w⟩))))
            · exact zy_wf w (br_t rfl (hn (fun z => w z.2.2)))
          · exact zy_wf y (br_t rfl (hn (fun z => y z.2.1)))
        · exact zy_wf x (br_t rfl (hn (fun z => x z.1)))
      · exact absurd rfl k3
    · refine zy_wf hk (br_t rfl (h0 ?_))
      rintro (z | z | z | z)
      · exact hk (by rw [z.1]; exact ⟨by decide, by decide⟩)
      · exact hk (by rw [z.1]; exact ⟨by decide, by decide⟩)
      · exact hk (by rw [z.1]; exact ⟨by decide, by decide⟩)
      · exact hk (by rw [z.1]; exact ⟨by decide, by decide⟩)
theorem zr_R_cmd {x : Int32} (hc : cc < cL) (hx : zr_Ok x) (R : zr_R cL pL rL wL ph pc ch cc rc aw wb wm pl pm gc wr se sc sv dm md ws pr lw nw cr rl gs hl th lm) : zr_R cL pL rL wL ph pc ch (cc + 1) rc aw wb wm pl pm gc wr se sc sv dm md ws pr lw nw (upd cr ((ch + cc) % 16) x) rl gs hl (upd th (1024 + cc) x) lm := by
  obtain ⟨hL, hW, hS, hC, hX, hA, hP, hM, hQ, hH⟩ := R
  obtain ⟨l1, l2, l3, l4, l5, l6, l7, l8, _⟩ := id hL
  obtain ⟨h1, h2, h3, h4⟩ := hM
  refine ⟨hL, hW, hS, hC, zr_Ctx_fr hX (fun i hi => pk_un (by omega)), zr_Wal_fr (by omega) hA (fun i hi => pk_un (by omega)), zr_Pos_fr (by omega) hP (fun i hi => pk_un (by omega)), ⟨h1, by omega, fun i hi => ?_, fun i a b => ?_⟩, zr_ReqE_fr hQ (fun i hi => pk_un (by omega)), zr_Hel_fr hH (fun i hi => pk_un (by omega))⟩
  · by_cases e : i = cc
    · subst e
      rw [pk_us, pk_us]
      exact ⟨rfl, hx⟩
    · rw [pk_un (by omega), pk_un (by omega)]
      exact h3 i (by omega)
  · rw [pk_un (by omega)]
    exact h4 i (by omega) b
end
theorem zb_orr (x a c b : Int32) : (x ||| a) ||| (c ||| b) = ((x ||| c) ||| b) ||| a := by
  apply b_ext
  intro i _
  simp only [b_or]
  cases bt x i <;> cases bt a i <;> cases bt c i <;> cases bt b i <;> rfl
theorem zz_word {kd a b c : Nat} (hk : kd < 4) (hc : c < 8) (hb : b < 64) (ha : a < 256) : (nI kd ||| (nI a <<< ((11 : Int32) &&& 31))) ||| ((nI c <<< ((2 : Int32) &&& 31)) ||| (nI b <<< ((5 : Int32) &&& 31))) = nI (kd + 4 * c + 32 * b + 2048 * a + 524288 * 0) := by
  rw [zb_orr]
  have e1 : nI kd ||| (nI c <<< ((2 : Int32) &&& 31)) = nI (kd + 4 * c) := (zb_orN 2 (by omega) (by omega) (by omega)).trans (congrArg nI (by omega))
  have e2 : nI (kd + 4 * c) ||| (nI b <<< ((5 : Int32) &&& 31)) = nI (kd + 4 * c + 32 * b) := (zb_orN 5 (by omega) (by omega) (by omega)).trans (congrArg nI (by omega))
  rw [e1, e2]
  exact (zb_orN 11 (by omega) (by omega) (by omega)).trans (congrArg nI (by omega))
theorem zz_W_e {x M : Int32} {n : Nat} (hM : M.toInt = n) (h : zz_W x M) : ∃ j : Nat, j ≤ n ∧ x = nI j := nI_of2 hM (Int32.not_lt.mpr h.1) h.2
theorem i_vc_submit {k : Nat} {u : SX} {v : SY} (I : i_Rel k u v) (hk : k + 5 ≤ 2564) (v1 : Int32) (v2 : Int32) (v3 : Int32) (v4 : Int32) : wpX_submit (fun r u' => wpY_submit (fun r' v' => r' = r ∧ i_Rel (k + 5) u' v') v v1 v2 v3 v4) u v1 v2 v3 v4 := by
  refine zz_el (P := fun u v => wpX_submit (fun r u' => wpY_submit (fun r' v' => r' = r ∧ i_Rel (k + 5) u' v') v v1 v2 v3 v4) u v1 v2 v3 v4) ?_ I
  intro cL pL rL wL ph pc ch cc rc aw wb wm pl pm fd lf gc wr se sc sv dm md ws pr lw nw cr rl gs ct hl th lm R
  obtain ⟨l1, l2, l3, l4, l5, l6, l7, l8, l9, l10, l11, l12⟩ := id R.1
  have hM := R.2.2.2.2.2.2.2.1
  have hcc : cc ≤ cL := hM.2.1
  have hch : ch < 16 := hM.1
  have ix : (nI ch + nI cc) &&& 15 = nI ((ch + cc) % 16) := by rw [nI_add, zb_m15 (by omega)]
  have iy : (1024 : Int32) + nI cc = nI (1024 + cc) := nI_add 1024 cc
  unfold wpX_submit
  refine zx_vc (fun hv => br_f (by decide) ?_) (fun hv => br_t rfl (zy_sub l2 hM (fun z => absurd z hv) (fun _ => ⟨rfl, zz_in R⟩)))
  refine pk_lt cc cL (fun hlt => nm_e ?_) (fun hge => zy_sub l2 hM (fun _ => ?_) (fun z => absurd hv z))
  · have fin : ∀ x : Int32, zr_Ok x → ∀ y : Int32, y = x → (wX_submit_54 (fun r u' => wpY_submit (fun r' v' => r' = r ∧ i_Rel (k + 5) u' v') (fd, lf, wr, se, th, lm, ct, lw) v1 v2 v3 v4) x (nI cL) (nI pL) (nI rL) (nI wL) aw wb wm (nI ph) (nI pc) pl pm (nI ch) (nI cc) fd lf (nI rc) gc wr se sc sv dm md ws pr lw nw cr rl gs ct hl ↔ True ∧ wpY_submit (fun r' v' => r' = nI (cc + 1) ∧ i_Rel (k + 5) (nI cL, nI pL, nI rL, nI wL, aw, wb, wm, nI ph, nI pc, pl, pm, nI ch, nI (cc + 1), fd, lf, nI rc, gc, wr, se, sc, sv, dm, md, ws, pr, lw, nw, upd cr ((ch + cc) % 16) x, rl, gs, ct, hl) v') (fd, lf, wr, se, th, lm, ct, lw) v1 v2 v3 v4) := by
      intro x _ y _
      unfold wX_submit_54
      rw [ix, nI_clamp (n := (ch + cc) % 16) (by omega)]
      constructor
      · intro h
        exact ⟨trivial, by have := h.2 _ rfl _ rfl; rw [nI_1] at this; exact this⟩
      · intro h
        exact ⟨vp_in_nI (by omega) (by omega), nm_e (nm_r (nI_1 cc) h.2)⟩
    have last : ∀ x : Int32, zr_Ok x → wY_submit_105 (fun r' v' => r' = nI (cc + 1) ∧ i_Rel (k + 5) (nI cL, nI pL, nI rL, nI wL, aw, wb, wm, nI ph, nI pc, pl, pm, nI ch, nI (cc + 1), fd, lf, nI rc, gc, wr, se, sc, sv, dm, md, ws, pr, lw, nw, upd cr ((ch + cc) % 16) x, rl, gs, ct, hl) v') v1 v2 v3 v4 (nI cc) fd lf wr se th lm ct lw → wX_submit_54 (fun r u' => wpY_submit (fun r' v' => r' = r ∧ i_Rel (k + 5) u' v') (fd, lf, wr, se, th, lm, ct, lw) v1 v2 v3 v4) x (nI cL) (nI pL) (nI rL) (nI wL) aw wb wm (nI ph) (nI pc) pl pm (nI ch) (nI cc) fd lf (nI rc) gc wr se sc sv dm md ws pr lw nw cr rl gs ct hl := by
      intro x hx h
      refine (fin x hx x rfl).mpr ⟨trivial, zy_sub l2 hM (fun _ => h) (fun z => absurd hv z)⟩
    have lasty : ∀ x : Int32, zr_Ok x → (v1 = 3 → (v1 + (2048 * v2)) + 0 = x) → (¬ v1 = 3 → (v1 + (2048 * v2)) + ((4 * v4) + (32 * v3)) = x) → wY_submit_105 (fun r' v' => r' = nI (cc + 1) ∧ i_Rel (k + 5) (nI cL, nI pL, nI rL, nI wL, aw, wb, wm, nI ph, nI pc, pl, pm, nI ch, nI (cc + 1), fd, lf, nI rc, gc, wr, se, sc, sv, dm, md, ws, pr, lw, nw, upd cr ((ch + cc) % 16) x, rl, gs, ct, hl) v') v1 v2 v3 v4 (nI cc) fd lf wr se th lm ct lw := by
      intro x hx e3 e0
      unfold wY_submit_105
      rw [iy, nI_clamp (n := 1024 + cc) (by omega), nI_1]
      refine pk_eq cc cL (fun z => absurd z (by omega)) (fun _ => br_c (fun z => ⟨vp_in_nI (by omega) (by omega), ?_⟩) (fun z => ⟨vp_in_nI (by omega) (by omega), ?_⟩)) rfl l9
      · exact nm_r (congrArg _ (e3 z)) ⟨rfl, zz_in (zr_R_cmd hlt hx R)⟩
      · exact nm_r (congrArg _ (e0 z)) ⟨rfl, zz_in (zr_R_cmd hlt hx R)⟩
    have build : ∀ kd a b c : Nat, v1 = nI kd → v2 = nI a → v3 = nI b → v4 = nI c → kd < 3 → a < 4 → b < 64 → c < 8 → zr_Ok (nI (kd + 4 * c + 32 * b + 2048 * a + 524288 * 0)) → wX_submit_54 (fun r u' => wpY_submit (fun r' v' => r' = r ∧ i_Rel (k + 5) u' v') (fd, lf, wr, se, th, lm, ct, lw) v1 v2 v3 v4) ((v1 ||| (v2 <<< ((11 : Int32) &&& 31))) ||| ((v4 <<< ((2 : Int32) &&& 31)) ||| (v3 <<< ((5 : Int32) &&& 31)))) (nI cL) (nI pL) (nI rL) (nI wL) aw wb wm (nI ph) (nI pc) pl pm (nI ch) (nI cc) fd lf (nI rc) gc wr se sc sv dm md ws pr lw nw cr rl gs ct hl := by
      intro kd a b c q1 q2 q3 q4 hkd ha hb hc hok
      have ew : (v1 ||| (v2 <<< ((11 : Int32) &&& 31))) ||| ((v4 <<< ((2 : Int32) &&& 31)) ||| (v3 <<< ((5 : Int32) &&& 31))) = nI (kd + 4 * c + 32 * b + 2048 * a + 524288 * 0) := by
        rw [q1, q2, q3, q4]
        exact zz_word (by omega) (by omega) (by omega) (by omega)
      rw [ew]
      refine last _ hok (lasty _ hok (fun z => ?_) (fun _ => ?_))
      · rw [q1] at z
        exact absurd ((nI_eq (b := 3) (by omega) (by omega)).mp z) (by omega)
      · rw [q1, q2, q3, q4]
        show (nI kd + nI 2048 * nI a) + ((nI 4 * nI c) + (nI 32 * nI b)) = _
        rw [pk_mul, pk_mul, pk_mul, nI_add, nI_add, nI_add]
        exact congrArg nI (by omega)
    refine br_c (fun k3 => ?_) (fun k3 => nm_e ?_)
    · rcases hv with z | z | z | z
      · obtain ⟨a, ha, ea⟩ := zz_W_e (n := 255) (by decide) z.2
        have ew : v1 ||| (v2 <<< ((11 : Int32) &&& 31)) = nI (3 + 4 * 0 + 32 * 0 + 2048 * a + 524288 * 0) := by
          rw [k3, ea]
          exact (zb_orN (a := 3) 11 (by omega) (by omega) (by omega)).trans (congrArg nI (by omega))
        have hok : zr_Ok (nI (3 + 4 * 0 + 32 * 0 + 2048 * a + 524288 * 0)) := ⟨3, 0, 0, a, 0, rfl, Or.inl ⟨rfl, by omega, by omega, rfl, rfl⟩⟩
        rw [ew]
        refine last _ hok (lasty _ hok (fun _ => ?_) (fun z => absurd k3 z))
        rw [k3, ea]
        show (nI 3 + nI 2048 * nI a) + nI 0 = _
        rw [pk_mul, nI_add, nI_add]
      · exact absurd (k3.symm.trans z.1) (by decide)
      · exact absurd (k3.symm.trans z.1) (by decide)
      · exact absurd (k3.symm.trans z.1) (by decide)
    · rcases hv with z | ⟨z, za, zb, zc⟩ | ⟨z, za, zb, zc⟩ | ⟨z, za, zb, zc⟩
      · exact absurd z.1 k3
      · obtain ⟨a, ha, ea⟩ := zz_W_e (n := 3) (by decide) za
        obtain ⟨b, hb, eb⟩ := zz_W_e (n := 63) (by decide) zb
        obtain ⟨c, hc, ec⟩ := zz_W_e (n := 6) (by decide) zc
        exact build 2 a b c z ea eb ec (by omega) (by omega) (by omega) (by omega) ⟨2, c, b, a, 0, rfl, Or.inr (Or.inl ⟨rfl, rfl, by omega, by omega, by omega⟩)⟩
      · obtain ⟨a, ha, ea⟩ := zz_W_e (n := 3) (by decide) za
        obtain ⟨b, hb, eb⟩ := zz_W_e (n := 15) (by decide) zb
        obtain ⟨c, hc, ec⟩ := zz_W_e (n := 4) (by decide) zc
        exact build 1 a b c z ea eb ec (by omega) (by omega) (by omega) (by omega) ⟨1, c, b, a, 0, rfl, Or.inr (Or.inr (Or.inl ⟨rfl, rfl, by omega, by omega, by omega⟩))⟩
      · obtain ⟨a, ha, ea⟩ := zz_W_e (n := 1) (by decide) za
        obtain ⟨b, hb, eb⟩ := zz_W_e (n := 15) (by decide) zb
        obtain ⟨c, hc, ec⟩ := zz_W_e (n := 4) (by decide) zc
        exact build 0 a b c z ea eb ec (by omega) (by omega) (by omega) (by omega) ⟨0, c, b, a, 0, rfl, Or.inr (Or.inr (Or.inr ⟨rfl, rfl, by omega, by omega, by omega⟩))⟩
  · unfold wY_submit_105
    exact pk_eq cc cL (fun _ => ⟨rfl, zz_in R⟩) (fun z => absurd (by omega) z) rfl l9
end
section
/-! the constructors -/
def zz_cl (x lo hi : Int32) : Int32 := if lo ≤ x then (if x ≤ hi then x else hi) else lo
theorem zz_cl3 {x lo hi : Int32} {P : Int32 → Prop} (h : P (zz_cl x lo hi)) : (lo ≤ x → ((x ≤ hi → P x) ∧ (¬ x ≤ hi → P hi))) ∧ (¬ lo ≤ x → P lo) := by
  unfold zz_cl at h
  refine br_c (fun z => br_c (fun y => ?_) (fun y => ?_)) (fun z => ?_)
  · rw [if_pos z, if_pos y] at h
    exact h
  · rw [if_pos z, if_neg y] at h
    exact h
  · rw [if_neg z] at h
    exact h
theorem zz_cl_r (x : Int32) {lo hi : Int32} (a b : Nat) (hab : a ≤ b) (hb : b < 2 ^ 31) (el : lo = nI a) (eh : hi = nI b) : ∃ n : Nat, a ≤ n ∧ n ≤ b ∧ zz_cl x lo hi = nI n := by
  subst el
  subst eh
  unfold zz_cl
  by_cases z : nI a ≤ x
  · rw [if_pos z]
    have h0 : ¬ x < 0 := Int32.not_lt.mpr (Int32.le_trans (nI_pos' (by omega)) z)
    obtain ⟨j, hj, rfl⟩ := nI_of h0
    rw [nI_leI (by omega) hj] at z
    by_cases y : nI j ≤ nI b
    · rw [if_pos y]
      rw [nI_leI hj hb] at y
      exact ⟨j, z, y, rfl⟩
    · rw [if_neg y]
      exact ⟨b, hab, Nat.le_refl _, rfl⟩
  · rw [if_neg z]
    exact ⟨a, Nat.le_refl _, hab, rfl⟩
theorem zx_cl {post : Int32 → Prop} {u : SX} {x lo hi : Int32} (h : post (zz_cl x lo hi)) : wpX_clamp post u x lo hi := by
  unfold wpX_clamp
  exact zz_cl3 (P := post) h
def zz_f0 (j : Nat) : Nat → Int32 := fun k => if 4 ≤ k ∧ k < j then -8 else 0
theorem zz_f0_u {j : Nat} (h : 4 ≤ j) : upd (zz_f0 j) j (-8) = zz_f0 (j + 1) := by
  funext k
  by_cases z : k = j
  · subst z
    rw [pk_us]
    exact (if_pos (by omega)).symm
  · rw [pk_un z]
    unfold zz_f0
    by_cases y : 4 ≤ k ∧ k < j
    · rw [if_pos y, if_pos (by omega)]
    · rw [if_neg y, if_neg (by omega)]
theorem zy_init {post : SY → Prop} {x1 x2 x3 x4 : Int32} (h : post (0, 0, (fun _ => 0), (fun _ => 0), zz_f0 1536, upd (upd (upd (upd (fun _ => 0) 4 (zz_cl x1 2 16)) 2 (zz_cl x2 1 8)) 3 (zz_cl x3 1 8)) 1 (zz_cl x4 1 8), (fun _ => 0), (fun _ => 0))) : wpY_init post x1 x2 x3 x4 := by
  have lp : ∀ d j : Nat, j + d = 1536 → 4 ≤ j → wY_init_56 post x1 x2 x3 x4 0 0 (d + 1) (nI j) (fun _ => 0) (fun _ => 0) (zz_f0 j) (fun _ => 0) (fun _ => 0) (fun _ => 0) := by
    intro d
    induction d with
    | zero =>
      intro j hj h4
      have hj' : j = 1536 := by omega
      subst hj'
      unfold wY_init_56
      refine br_t (nI_le (Nat.le_refl 1536) (by omega)) ?_
      refine zz_cl3 (P := fun z => wY_init_105 post x2 x3 x4 z 4 0 0 (fun _ => 0) (fun _ => 0) (zz_f0 1536) (fun _ => 0) (fun _ => 0) (fun _ => 0)) ?_
      unfold wY_init_105
      refine ⟨pk_in 4 6 (by omega), nm_r (e' := upd (fun _ => 0) 4 (zz_cl x1 2 16)) rfl ?_⟩
      refine zz_cl3 (P := fun z => wY_init_132 post x3 x4 z 2 0 0 (fun _ => 0) (fun _ => 0) (zz_f0 1536) (upd (fun _ => 0) 4 (zz_cl x1 2 16)) (fun _ => 0) (fun _ => 0)) ?_
      unfold wY_init_132
      refine ⟨pk_in 2 6 (by omega), nm_r (e' := upd (upd (fun _ => 0) 4 (zz_cl x1 2 16)) 2 (zz_cl x2 1 8)) rfl ?_⟩
      refine zz_cl3 (P := fun z => wY_init_159 post x4 z 3 0 0 (fun _ => 0) (fun _ => 0) (zz_f0 1536) (upd (upd (fun _ => 0) 4 (zz_cl x1 2 16)) 2 (zz_cl x2 1 8)) (fun _ => 0) (fun _ => 0)) ?_
      unfold wY_init_159
      refine ⟨pk_in 3 6 (by omega), nm_r (e' := upd (upd (upd (fun _ => 0) 4 (zz_cl x1 2 16)) 2 (zz_cl x2 1 8)) 3 (zz_cl x3 1 8)) rfl ?_⟩
      exact zz_cl3 (P := fun z => ∀ a, a = upd (upd (upd (upd (fun _ => 0) 4 (zz_cl x1 2 16)) 2 (zz_cl x2 1 8)) 3 (zz_cl x3 1 8)) 1 z → post (0, 0, (fun _ => 0), (fun _ => 0), zz_f0 1536, a, (fun _ => 0), (fun _ => 0))) (nm_e h)
    | succ d ih =>
      intro j hj h4
      unfold wY_init_56
      rw [nI_clamp (n := j) (by omega), zz_f0_u h4]
      exact br_f (nI_ge (b := 1536) (by omega) (by omega)) ⟨vp_in_nI (by omega) (by omega), nm_e (nm_r (nI_1 j) (ih (j + 1) (by omega) (by omega)))⟩
  unfold wpY_init
  have hh := lp 1532 4 (by omega) (by omega)
  have e : zz_f0 4 = fun _ => 0 := by
    funext k
    exact if_neg (by omega)
  rw [e] at hh
  exact ⟨1533, hh⟩
theorem zr_R_0 {cL pL rL wL : Nat} {lm : Nat → Int32} (h : zr_Lim cL pL rL wL lm) : zr_R cL pL rL wL 0 0 0 0 0 0 0 0 0 0 0 (fun _ => 0) (fun _ => 0) (fun _ => 0) (fun _ => 0) (fun _ => 0) (fun _ => 0) (fun _ => 0) (fun _ => 0) (fun _ => 0) (fun _ => 0) (fun _ => 0) (fun _ => 0) (fun _ => 0) (fun _ => 0) (zz_f0 1536) lm := by
  have hb : ∀ i, bt 0 i = true → False := fun i z => by rw [b_0] at z; exact nomatch z
  have hf : ∀ k, 4 ≤ k → k < 1536 → zz_f0 1536 k = -8 := fun k a b => if_pos ⟨a, b⟩
  refine ⟨h, fun j => ⟨0, by omega, rfl⟩, fun j => ⟨0, by omega, rfl⟩, fun m p hm hp z => (hb p z).elim, ⟨fun i hi => ?_, fun i a b => hf i a (by omega), fun i _ => b_0 i⟩, ⟨fun i z => (hb i z).elim, fun i hi _ => hf _ (by omega) (by omega), fun i z => (hb i z).elim⟩, ⟨by omega, by omega, fun i hi => absurd hi (Nat.not_lt_zero i), fun i _ hi => hf _ (by omega) (by omega), fun i hi => ?_, fun j _ => b_0 j, fun j z => (hb j z).elim, fun f hf => rfl⟩, ⟨by omega, by omega, fun i hi => absurd hi (Nat.not_lt_zero i), fun i _ hi => hf _ (by omega) (by omega)⟩, ⟨[], rfl, by omega, (fun n hn => nomatch hn), fun i hi => absurd hi (Nat.not_lt_zero i), fun i hi => hf _ (by omega) (by omega), fun k hk => rfl, fun k hk => b_0 k⟩, fun i hi => Or.inl ⟨rfl, hf _ (by omega) (by omega)⟩⟩
  · refine ⟨0, 0, by omega, by omega, rfl, rfl, ?_⟩
    rw [b_0]
    exact if_neg (by omega)
  · rw [b_0, decide_eq_false (Nat.not_lt_zero i)]
theorem i_vc0 (k0 : Int32) (k1 : Int32) (k2 : Int32) (k3 : Int32) : wpX_init (fun u => wpY_init (fun v => i_Rel 4 u v) k0 k1 k2 k3) k0 k1 k2 k3 := by
  obtain ⟨a, a1, a2, ea⟩ := zz_cl_r k0 (lo := 2) (hi := 16) 2 16 (by omega) (by omega) rfl rfl
  obtain ⟨b, b1, b2, eb⟩ := zz_cl_r k1 (lo := 1) (hi := 8) 1 8 (by omega) (by omega) rfl rfl
  obtain ⟨c, c1, c2, ec⟩ := zz_cl_r k2 (lo := 1) (hi := 8) 1 8 (by omega) (by omega) rfl rfl
  obtain ⟨d, d1, d2, ed⟩ := zz_cl_r k3 (lo := 1) (hi := 8) 1 8 (by omega) (by omega) rfl rfl
  unfold wpX_init
  refine zx_cl (zx_cl (zx_cl (zx_cl (zy_init ?_))))
  rw [ea, eb, ec, ed]
  refine zz_in (cL := a) (pL := b) (rL := c) (wL := d) (ph := 0) (pc := 0) (ch := 0) (cc := 0) (rc := 0) (zr_R_0 ⟨by omega, by omega, by omega, by omega, by omega, by omega, by omega, by omega, ?_, ?_, ?_, ?_⟩)
  · rfl
  · rfl
  · rfl
  · rfl
end
section
/-! page requests: lists, counting, removing -/
theorem zz_gd_at : ∀ (A : List Nat) (a : Nat) (B : List Nat), zr_gd (A ++ a :: B) A.length = nI a := by
  intro A
  induction A with
  | nil => intro a B; rfl
  | cons x A ih => intro a B; exact ih a B
theorem zz_gd_lo : ∀ (A B C : List Nat) (i : Nat), i < A.length → zr_gd (A ++ B) i = zr_gd (A ++ C) i := by
  intro A
  induction A with
  | nil => intro B C i h; exact absurd h (Nat.not_lt_zero i)
  | cons x A ih =>
    intro B C i h
    cases i with
    | zero => rfl
    | succ i => exact ih B C i (Nat.lt_of_succ_lt_succ h)
theorem zz_gd_hi : ∀ (A : List Nat) (a : Nat) (B : List Nat) (i : Nat), A.length ≤ i → zr_gd (A ++ B) i = zr_gd (A ++ a :: B) (i + 1) := by
  intro A
  induction A with
  | nil => intro a B i h; rfl
  | cons x A ih =>
    intro a B i h
    cases i with
    | zero => exact absurd h (Nat.not_succ_le_zero _)
    | succ i => exact ih a B i (Nat.le_of_succ_le_succ h)
theorem zz_split {n : Nat} {A : List Nat} (h : A.length = n + 1) : ∃ A' a, A = A' ++ [a] ∧ A'.length = n := by
  have hne : A ≠ [] := by
    intro e
    rw [e] at h
    exact absurd h (by simp)
  exact ⟨A.dropLast, A.getLast hne, (List.dropLast_concat_getLast hne).symm, by rw [List.length_dropLast, h]; rfl⟩
theorem zz_any (q : Nat → Bool) : ∀ L : List Nat, L.any q = true ↔ 0 < L.countP q := by
  intro L
  induction L with
  | nil => exact ⟨(fun h => nomatch h), fun h => absurd h (Nat.lt_irrefl 0)⟩
  | cons a L ih =>
    rw [List.any_cons, List.countP_cons, Bool.or_eq_true, ih]
    cases q a
    · simp
    · simp
theorem zz_c1 (f : Nat → Nat) (y : Nat) : ∀ L : List Nat, (L.filter (fun n => !(f n == y))).countP (fun n => f n == y) = 0 := by
  intro L
  induction L with
  | nil => rfl
  | cons a L ih =>
    rw [List.filter_cons]
    by_cases h : f a == y
    · rw [h]
      exact ih
    · rw [Bool.not_eq_true] at h
      rw [h]
      show ((a :: L.filter (fun n => !(f n == y))).countP (fun n => f n == y)) = 0
      rw [List.countP_cons, ih, h]
      rfl
theorem zz_c2 (f : Nat → Nat) {y k : Nat} (q : Nat → Bool) (hq : ∀ n, q n = true → f n = k) (hk : k ≠ y) : ∀ L : List Nat, (L.filter (fun n => !(f n == y))).countP q = L.countP q := by
  intro L
  induction L with
  | nil => rfl
  | cons a L ih =>
    rw [List.filter_cons, List.countP_cons]
    by_cases h : f a == y
    · rw [h]
      have hn : q a = false := by
        cases hx : q a with
        | false => rfl
        | true => exact absurd ((hq a hx).symm.trans (eq_of_beq h)) hk
      rw [hn]
      exact ih
    · rw [Bool.not_eq_true] at h
      rw [h]
      show ((a :: L.filter (fun n => !(f n == y))).countP q) = _
      rw [List.countP_cons, ih]
theorem zz_len (q : Nat → Bool) (L : List Nat) : (L.filter (fun n => !q n)).length + L.countP q = L.length := by
  induction L with
  | nil => rfl
  | cons a L ih =>
    rw [List.filter_cons, List.countP_cons, List.length_cons]
    cases h : q a
    · show (a :: L.filter (fun n => !q n)).length + (L.countP q + 0) = _
      rw [List.length_cons]
      omega
    · show (L.filter (fun n => !q n)).length + (L.countP q + 1) = _
      omega
def zr_Seg (th : Nat → Int32) (L : List Nat) : Prop := ∀ i, i < 256 → th (768 + i) = zr_gd L i
theorem zr_Seg_rm {th : Nat → Int32} {A B : List Nat} {a : Nat} (hl : (A ++ a :: B).length ≤ 16) (h : zr_Seg th (A ++ a :: B)) : zr_Seg (zr_rm th (768 + A.length) 784) (A ++ B) := by
  rw [List.length_append, List.length_cons] at hl
  intro i hi
  rcases Nat.lt_or_ge i A.length with y | y
  · have : zr_rm th (768 + A.length) 784 (768 + i) = th (768 + i) := if_neg (by omega)
    rw [this, h i hi]
    exact zz_gd_lo A _ _ i y
  · rcases Nat.lt_or_ge i 16 with z | z
    · have : zr_rm th (768 + A.length) 784 (768 + i) = th (768 + i + 1) := if_pos (by omega)
      rw [this, Nat.add_assoc, h (i + 1) (by omega)]
      exact (zz_gd_hi A a B i y).symm
    · have : zr_rm th (768 + A.length) 784 (768 + i) = th (768 + i) := if_neg (by omega)
      rw [this, h i hi, zz_gd_ge _ i (by rw [List.length_append, List.length_cons]; omega), zz_gd_ge _ i (by rw [List.length_append]; omega)]
section
variable {cL pL rL wL ph pc ch cc rc : Nat} {aw wb wm pl pm fd lf gc : Int32} {wr se sc sv dm md ws pr lw nw cr rl gs ct hl th lm : Nat → Int32}
variable {post : Int32 → SY → Prop} {x1 x2 : Int32} {p : Nat → Bool}
theorem zz_m1 (j : Nat) : nI j + (-1) = nI j - 1 := (Int32.sub_eq_add_neg _ _).symm
theorem zz_neg : (nI 0 - 1 : Int32) < 0 := by decide
/-- the count -/
theorem zy_pk0 (hp : ∀ n, n < 65536 → (nI n &&& x1 = x2 ↔ p n = true)) : ∀ (n : Nat) (A B : List Nat), A.length = n → n ≤ 16 → (∀ x ∈ A, x < 65536) → zr_Seg th (A ++ B) → ∀ acc : Nat, post (nI (acc + A.countP p)) (fd, lf, wr, se, th, lm, ct, lw) → wY_pick_12 post x1 x2 0 (n + 1) (nI acc) (nI n - 1) fd lf wr se th lm ct lw := by
  intro n
  induction n with
  | zero =>
    intro A B hA _ _ _ acc h
    have : A = [] := List.eq_nil_of_length_eq_zero hA
    subst this
    unfold wY_pick_12
    exact br_t zz_neg h
  | succ n ih =>
    intro A B hA hn hm hS acc h
    obtain ⟨A', a, rfl, hA'⟩ := zz_split hA
    have ha : a < 65536 := hm a (by simp)
    have hm' : ∀ x ∈ A', x < 65536 := fun x hx => hm x (by simp [hx])
    have hS' : zr_Seg th (A' ++ a :: B) := by
      rw [List.append_assoc] at hS
      exact hS
    have et : th (768 + n) = nI a := by
      rw [hS' n (by omega), ← hA']
      exact zz_gd_at A' a B
    rw [List.countP_append, List.countP_singleton] at h
    unfold wY_pick_12
    rw [nI_pred]
    refine br_f (nI_pos (by omega)) ?_
    have ix : (768 : Int32) + nI n = nI (768 + n) := nI_add 768 n
    rw [ix, nI_clamp (by omega), et, zz_m1]
    refine ⟨vp_in_nI (by omega) (by omega), br_c (fun z => nm_r (nI_1 acc) (br_t rfl (nm_e (ih A' (a :: B) hA' (by omega) hm' hS' (acc + 1) ?_)))) (fun z => nm_e (ih A' (a :: B) hA' (by omega) hm' hS' acc ?_))⟩
    · rw [if_pos ((hp a ha).mp z)] at h
      rw [show acc + 1 + A'.countP p = acc + (A'.countP p + 1) from by omega]
      exact h
    · rw [if_neg (fun y => z ((hp a ha).mpr y))] at h
      exact h
/-- the removal -/
theorem zy_pk1 (hp : ∀ n, n < 65536 → (nI n &&& x1 = x2 ↔ p n = true)) : ∀ (n : Nat) (A B : List Nat) (th : Nat → Int32), A.length = n → (A ++ B).length ≤ 16 → (∀ x ∈ A, x < 65536) → zr_Seg th (A ++ B) → ∃ th' : Nat → Int32, zr_Seg th' (A.filter (fun n => !p n) ++ B) ∧ (∀ k, k < 768 ∨ 1024 ≤ k → th' k = th k) ∧ ∀ (acc : Nat) (post : Int32 → SY → Prop), post (nI (acc + A.countP p)) (fd, lf, wr, se, th', lm, ct, lw) → wY_pick_12 post x1 x2 1 (n + 1) (nI acc) (nI n - 1) fd lf wr se th lm ct lw := by
  intro n
  induction n with
  | zero =>
    intro A B th hA _ _ hS
    have : A = [] := List.eq_nil_of_length_eq_zero hA
    subst this
    refine ⟨th, hS, fun _ _ => rfl, fun acc post h => ?_⟩
    unfold wY_pick_12
    exact br_t zz_neg h
  | succ n ih =>
    intro A B th hA hl hm hS
    obtain ⟨A', a, rfl, hA'⟩ := zz_split hA
    have ha : a < 65536 := hm a (by simp)
    have hm' : ∀ x ∈ A', x < 65536 := fun x hx => hm x (by simp [hx])
    have hS' : zr_Seg th (A' ++ a :: B) := by
      rw [List.append_assoc] at hS
      exact hS
    have hl' : (A' ++ a :: B).length ≤ 16 := by
      rw [List.append_assoc] at hl
      exact hl
    have hn : n < 16 := by
      rw [List.length_append, List.length_cons] at hl'
      omega
    have et : th (768 + n) = nI a := by
      rw [hS' n (by omega), ← hA']
      exact zz_gd_at A' a B
    have ix : (768 : Int32) + nI n = nI (768 + n) := nI_add 768 n
    by_cases hpa : p a = true
    · have hS2 := zr_Seg_rm hl' hS'
      obtain ⟨th', s1, s2, s3⟩ := ih A' B _ hA' (by rw [List.length_append, List.length_cons] at hl'; rw [List.length_append]; omega) hm' hS2
      refine ⟨th', ?_, fun k hk => ?_, fun acc post h => ?_⟩
      · rw [List.filter_append, List.filter_cons, hpa]
        show zr_Seg th' (A'.filter (fun n => !p n) ++ [] ++ B)
        rw [List.append_nil]
        exact s1
      · rw [s2 k hk]
        exact if_neg (by omega)
      · rw [List.countP_append, List.countP_singleton, if_pos hpa] at h
        unfold wY_pick_12
        rw [nI_pred]
        refine br_f (nI_pos (by omega)) ?_
        rw [ix, nI_clamp (by omega), et, zz_m1]
        refine ⟨vp_in_nI (by omega) (by omega), br_t ((hp a ha).mpr hpa) (nm_r (nI_1 acc) (br_f (by decide) (zy_rm 3 n (by omega) (by omega) rfl rfl (nm_e ?_))))⟩
        rw [← hA']
        rw [← hA'] at s3
        refine s3 (acc + 1) post ?_
        rw [show acc + 1 + A'.countP p = acc + (A'.countP p + 1) from by omega]
        exact h
    · have hpf : p a = false := zz_bf hpa
      obtain ⟨th', s1, s2, s3⟩ := ih A' (a :: B) th hA' hl' hm' hS'
      refine ⟨th', ?_, s2, fun acc post h => ?_⟩
      · rw [List.filter_append, List.filter_cons, hpf]
        show zr_Seg th' (A'.filter (fun n => !p n) ++ [a] ++ B)
        rw [List.append_assoc]
        exact s1
      · rw [List.countP_append, List.countP_singleton, if_neg hpa] at h
        unfold wY_pick_12
        rw [nI_pred]
        refine br_f (nI_pos (by omega)) ?_
        rw [ix, nI_clamp (by omega), et, zz_m1]
        exact ⟨vp_in_nI (by omega) (by omega), br_f (fun z => hpa ((hp a ha).mp z)) (nm_e (s3 acc post h))⟩
theorem zy_fer {Q : Int32 → Prop} {L : List Nat} (hr : rL ≤ 8) (hQ : zr_Req L rl rc rL gs gc th) (h : Q (nI rc)) : wpY_firstEmpty Q (fd, lf, wr, se, th, lm, ct, lw) 3 := by
  obtain ⟨h1, h2, h3, h4, h5, h6, h7⟩ := hQ
  refine zy_fe rc 3 (by omega) (by omega) rfl (fun i hi => ?_) (fun hh => ?_) h
  · rw [show 256 * 3 + i = 768 + i from rfl, h5 i (by omega), zz_gd_lt L i (by omega)]
    exact nI_pos' (Nat.lt_trans (h3 _ (List.getElem_mem _)) (by decide))
  · rw [show 256 * 3 + rc = 768 + rc from rfl, h5 rc (by omega), zz_gd_ge L rc (by omega)]
    decide
theorem zy_pick0 {L : List Nat} (hr : rL ≤ 8) (hQ : zr_Req L rl rc rL gs gc th) (hp : ∀ n, n < 65536 → (nI n &&& x1 = x2 ↔ p n = true)) (h : post (nI (L.countP p)) (fd, lf, wr, se, th, lm, ct, lw)) : wpY_pick post (fd, lf, wr, se, th, lm, ct, lw) x1 x2 0 := by
  unfold wpY_pick
  refine zy_fer hr hQ (nm_e ⟨rc + 1, ?_⟩)
  obtain ⟨h1, h2, h3, h4, h5, h6, h7⟩ := hQ
  refine zy_pk0 hp rc L [] h1 (by omega) h3 (by rw [List.append_nil]; exact h5) 0 ?_
  rw [Nat.zero_add]
  exact h
theorem zy_pick1 {L : List Nat} (hr : rL ≤ 8) (hQ : zr_Req L rl rc rL gs gc th) (hp : ∀ n, n < 65536 → (nI n &&& x1 = x2 ↔ p n = true)) : ∃ th' : Nat → Int32, zr_Seg th' (L.filter (fun n => !p n)) ∧ (∀ k, k < 768 ∨ 1024 ≤ k → th' k = th k) ∧ ∀ (post : Int32 → SY → Prop), post (nI (L.countP p)) (fd, lf, wr, se, th', lm, ct, lw) → wpY_pick post (fd, lf, wr, se, th, lm, ct, lw) x1 x2 1 := by
  have hQ' := hQ
  obtain ⟨h1, h2, h3, h4, h5, h6, h7⟩ := hQ
  obtain ⟨th', s1, s2, s3⟩ := zy_pk1 (wr := wr) (se := se) (ct := ct) (lw := lw) (lm := lm) (fd := fd) (lf := lf) hp rc L [] th h1 (by rw [List.append_nil]; omega) h3 (by rw [List.append_nil]; exact h5)
  rw [List.append_nil] at s1
  refine ⟨th', s1, s2, fun post h => ?_⟩
  unfold wpY_pick
  refine zy_fer hr hQ' (nm_e ⟨rc + 1, s3 0 post ?_⟩)
  rw [Nat.zero_add]
  exact h
/-- the component's removal of a group -/
theorem zx_rg_4 {y : Nat} (hy : y < 16) (hrc : rc ≤ 8) : ∀ (B F : List Nat) (a : Nat) (rl : Nat → Int32), F.length ≤ a → a + B.length = rc → (∀ x ∈ B, x < 65536) → (∀ i, i < F.length → rl i = zr_gd F i) → (∀ i, i < B.length → rl (a + i) = zr_gd B i) → ∃ rl' : Nat → Int32, (∀ i, i < (F ++ B.filter (fun n => !(zr_ky n == y))).length → rl' i = zr_gd (F ++ B.filter (fun n => !(zr_ky n == y))) i) ∧ ∀ post : Int32 → SX → Prop, post (nI rc - nI (F ++ B.filter (fun n => !(zr_ky n == y))).length) (nI cL, nI pL, nI rL, nI wL, aw, wb, wm, nI ph, nI pc, pl, pm, nI ch, nI cc, fd, lf, nI (F ++ B.filter (fun n => !(zr_ky n == y))).length, gc &&& (((1 : Int32) <<< (nI y &&& 31)) ^^^ (-1)), wr, se, sc, sv, dm, md, ws, pr, lw, nw, cr, rl', upd gs y 0, ct, hl) → wX_removeGroup_4 post (nI y) (nI cL) (nI pL) (nI rL) (nI wL) aw wb wm (nI ph) (nI pc) pl pm (nI ch) (nI cc) fd lf (nI rc) gc (B.length + 1) (nI F.length) (nI a) wr se sc sv dm md ws pr lw nw cr rl gs ct hl := by
  intro B
  induction B with
  | nil =>
    intro F a rl hF ha _ h1 _
    rw [List.length_nil] at ha
    refine ⟨rl, fun i hi => ?_, fun post h => ?_⟩
    · rw [List.filter_nil, List.append_nil] at hi ⊢
      exact h1 i hi
    · rw [List.filter_nil, List.append_nil] at h
      rw [List.length_nil]
      unfold wX_removeGroup_4
      rw [nI_clamp (n := y) (by omega)]
      exact br_t (nI_le (by omega) (by omega)) (nm_e ⟨vp_in_nI (by omega) (by omega), nm_e (nm_e h)⟩)
  | cons b B ih =>
    intro F a rl hF ha hm h1 h2
    rw [List.length_cons] at ha
    have hb : b < 65536 := hm b (by simp)
    have hm' : ∀ x ∈ B, x < 65536 := fun x hx => hm x (by simp [hx])
    have e0 : rl a = nI b := h2 0 (by rw [List.length_cons]; omega)
    have h2' : ∀ i, i < B.length → rl (a + 1 + i) = zr_gd B i := by
      intro i hi
      have := h2 (i + 1) (by rw [List.length_cons]; omega)
      rw [show a + 1 + i = a + (i + 1) from by omega]
      exact this
    by_cases hk : zr_ky b = y
    · obtain ⟨rl', s1, s2⟩ := ih F (a + 1) rl (by omega) (by omega) hm' h1 h2'
      have ef : (b :: B).filter (fun n => !(zr_ky n == y)) = B.filter (fun n => !(zr_ky n == y)) := by
        rw [List.filter_cons, beq_iff_eq.mpr hk]
        rfl
      rw [ef]
      refine ⟨rl', s1, fun post h => ?_⟩
      rw [List.length_cons]
      unfold wX_removeGroup_4
      refine br_f (nI_ge (by omega) (by omega)) ?_
      rw [nI_clamp (n := a) (by omega)]
      refine ⟨vp_in_nI (by omega) (by omega), nm_r e0 (nm_r (zb_key (by omega)) (br_t (congrArg nI hk) (nm_r (nI_1 a) (s2 post h))))⟩
    · have ef : (b :: B).filter (fun n => !(zr_ky n == y)) = b :: B.filter (fun n => !(zr_ky n == y)) := by
        rw [List.filter_cons, beq_eq_false_iff_ne.mpr hk]
        rfl
      have hk16 : zr_ky b < 16 := by unfold zr_ky; omega
      have g1 : ∀ i, i < (F ++ [b]).length → upd rl F.length (nI b) i = zr_gd (F ++ [b]) i := by
        intro i hi
        rw [List.length_append, List.length_singleton] at hi
        by_cases e : i = F.length
        · subst e
          rw [pk_us]
          exact (zz_gd_at F b []).symm
        · rw [pk_un e, h1 i (by omega)]
          have := zz_gd_lo F [] [b] i (by omega)
          rw [List.append_nil] at this
          exact this
      have g2 : ∀ i, i < B.length → upd rl F.length (nI b) (a + 1 + i) = zr_gd B i := by
        intro i hi
        rw [pk_un (by omega)]
        exact h2' i hi
      obtain ⟨rl', s1, s2⟩ := ih (F ++ [b]) (a + 1) (upd rl F.length (nI b)) (by rw [List.length_append, List.length_singleton]; omega) (by omega) hm' g1 g2
      have eL : F ++ [b] ++ B.filter (fun n => !(zr_ky n == y)) = F ++ b :: B.filter (fun n => !(zr_ky n == y)) := by
        rw [List.append_assoc]
        rfl
      have el : (F ++ [b]).length = F.length + 1 := by rw [List.length_append, List.length_singleton]
      rw [eL] at s1 s2
      rw [el] at s2
      rw [ef]
      refine ⟨rl', s1, fun post h => ?_⟩
      rw [List.length_cons]
      unfold wX_removeGroup_4
      refine br_f (nI_ge (by omega) (by omega)) ?_
      rw [nI_clamp (n := a) (by omega), nI_clamp (n := F.length) (by omega)]
      refine ⟨vp_in_nI (by omega) (by omega), nm_r e0 (nm_r (zb_key (by omega)) (br_f (fun z => hk ((nI_eq (by omega) (by omega)).mp z)) ⟨vp_in_nI (by omega) (by omega), nm_e (nm_r (nI_1 F.length) (nm_r (nI_1 a) ?_))⟩))⟩
      exact s2 post h
end
end
section
/-! page requests: raise, respond -/
theorem zz_p51 {dv g : Nat} (hd : dv < 4) (hg : g < 4) {x : Int32} (e : x = nI (dv + 16 * g)) (n : Nat) : nI n &&& 51 = x ↔ (zr_ky n == dv + 4 * g) = true := by
  subst e
  rw [zb_51, nI_eq (by omega) (by omega), beq_iff_eq]
  unfold zr_ky
  omega
theorem zz_p115 {dv g : Nat} (hd : dv < 4) (hg : g < 4) {x : Int32} (e : x = nI (dv + 16 * g + 64)) (n : Nat) : nI n &&& 115 = x ↔ (zr_ky n == dv + 4 * g && n / 64 % 2 == 1) = true := by
  subst e
  rw [zb_115, nI_eq (by omega) (by omega), Bool.and_eq_true, beq_iff_eq, beq_iff_eq]
  unfold zr_ky
  omega
section
variable {cL pL rL wL ph pc ch cc rc : Nat} {aw wb wm pl pm fd lf gc : Int32} {wr se sc sv dm md ws pr lw nw cr rl gs ct hl th lm : Nat → Int32}
theorem zx_rg {L : List Nat} {y : Nat} {p0 : Int32} (hr : rL ≤ 8) (hy : y < 16) (hQ : zr_Req L rl rc rL gs gc th) (e : p0 = nI y) : ∃ rl' : Nat → Int32, (∀ i, i < (L.filter (fun n => !(zr_ky n == y))).length → rl' i = zr_gd (L.filter (fun n => !(zr_ky n == y))) i) ∧ ∀ post : Int32 → SX → Prop, post (nI (L.countP (fun n => zr_ky n == y))) (nI cL, nI pL, nI rL, nI wL, aw, wb, wm, nI ph, nI pc, pl, pm, nI ch, nI cc, fd, lf, nI (L.filter (fun n => !(zr_ky n == y))).length, gc &&& (((1 : Int32) <<< (nI y &&& 31)) ^^^ (-1)), wr, se, sc, sv, dm, md, ws, pr, lw, nw, cr, rl', upd gs y 0, ct, hl) → wpX_removeGroup post (nI cL, nI pL, nI rL, nI wL, aw, wb, wm, nI ph, nI pc, pl, pm, nI ch, nI cc, fd, lf, nI rc, gc, wr, se, sc, sv, dm, md, ws, pr, lw, nw, cr, rl, gs, ct, hl) p0 := by
  subst e
  obtain ⟨h1, h2, h3, h4, h5, h6, h7⟩ := hQ
  obtain ⟨rl', s1, s2⟩ := zx_rg_4 (cL := cL) (pL := pL) (rL := rL) (wL := wL) (ph := ph) (pc := pc) (ch := ch) (cc := cc) (rc := rc) (aw := aw) (wb := wb) (wm := wm) (pl := pl) (pm := pm) (fd := fd) (lf := lf) (gc := gc) (wr := wr) (se := se) (sc := sc) (sv := sv) (dm := dm) (md := md) (ws := ws) (pr := pr) (lw := lw) (nw := nw) (cr := cr) (gs := gs) (ct := ct) (hl := hl) hy (by omega) L [] 0 rl (by simp) (by omega) h3 (fun i hi => absurd hi (Nat.not_lt_zero i)) (fun i hi => by rw [Nat.zero_add]; exact h4 i (by omega))
  rw [List.nil_append] at s1 s2
  refine ⟨rl', s1, fun post h => ?_⟩
  unfold wpX_removeGroup
  refine ⟨L.length + 1, s2 post ?_⟩
  have hl := zz_len (fun n => zr_ky n == y) L
  rw [pk_sub (by omega), show rc - (L.filter (fun n => !(zr_ky n == y))).length = L.countP (fun n => zr_ky n == y) from by omega]
  exact h
theorem zr_R_rg {L : List Nat} {y : Nat} {rl' th' : Nat → Int32} (hy : y < 16) (hQ : zr_Req L rl rc rL gs gc th) (h1 : ∀ i, i < (L.filter (fun n => !(zr_ky n == y))).length → rl' i = zr_gd (L.filter (fun n => !(zr_ky n == y))) i) (h2 : zr_Seg th' (L.filter (fun n => !(zr_ky n == y)))) (h3 : ∀ k, k < 768 ∨ 1024 ≤ k → th' k = th k) (R : zr_R cL pL rL wL ph pc ch cc rc aw wb wm pl pm gc wr se sc sv dm md ws pr lw nw cr rl gs hl th lm) : zr_R cL pL rL wL ph pc ch cc ((L.filter (fun n => !(zr_ky n == y))).length) aw wb wm pl pm (gc &&& (((1 : Int32) <<< (nI y &&& 31)) ^^^ (-1))) wr se sc sv dm md ws pr lw nw cr rl' (upd gs y 0) hl th' lm := by
  obtain ⟨hL, hW, hS, hC, hX, hA, hP, hM, _, hH⟩ := R
  obtain ⟨l1, l2, l3, l4, l5, l6, l7, l8, _⟩ := id hL
  obtain ⟨q1, q2, q3, q4, q5, q6, q7⟩ := hQ
  have hlen := zz_len (fun n => zr_ky n == y) L
  refine ⟨hL, hW, hS, hC, zr_Ctx_fr hX (fun i hi => h3 _ (by omega)), zr_Wal_fr (by omega) hA (fun i hi => h3 _ (by omega)), zr_Pos_fr (by omega) hP (fun i hi => h3 _ (by omega)), zr_Cmd_fr (by omega) hM (fun i hi => h3 _ (by omega)), ⟨L.filter (fun n => !(zr_ky n == y)), rfl, by omega, fun n hn => q3 n (List.mem_filter.mp hn).1, h1, h2, fun k hk => ?_, fun k hk => ?_⟩, zr_Hel_fr hH (fun i hi => h3 _ (by omega))⟩
  · by_cases e : k = y
    · subst e
      rw [pk_us, zz_c1]
      rfl
    · rw [pk_un e, zz_c2 zr_ky (k := k) _ (fun n hn => eq_of_beq hn) e, q6 k hk]
  · rw [zb_clr (by omega)]
    by_cases e : k = y
    · subst e
      rw [decide_eq_true rfl, Bool.not_true, Bool.and_false]
      symm
      refine zz_bf (fun z => ?_)
      rw [zz_any] at z
      have h0 := zz_c1 zr_ky k L
      rw [List.countP_eq_zero] at h0
      rw [List.countP_pos_iff] at z
      obtain ⟨a, ha, ha2⟩ := z
      rw [Bool.and_eq_true] at ha2
      exact h0 a ha ha2.1
    · rw [decide_eq_false e, Bool.not_false, Bool.and_true, q7 k hk]
      have hc := zz_c2 zr_ky (k := k) (y := y) (fun n => zr_ky n == k && n / 64 % 2 == 1) (fun n hn => by rw [Bool.and_eq_true] at hn; exact eq_of_beq hn.1) e L
      cases h : L.any (fun n => zr_ky n == k && n / 64 % 2 == 1) with
      | true => rw [zz_any, ← hc, ← zz_any] at h; exact h.symm
      | false =>
        symm
        refine zz_bf (fun z => ?_)
        rw [zz_any, hc, ← zz_any, h] at z
        exact nomatch z
/-- a group goes, on both sides -/
theorem zz_grp {L : List Nat} {dv g : Nat} {p0 q1 : Int32} (hdv : dv < 4) (hg : g < 4) (R : zr_R cL pL rL wL ph pc ch cc rc aw wb wm pl pm gc wr se sc sv dm md ws pr lw nw cr rl gs hl th lm) (hQ : zr_Req L rl rc rL gs gc th) (e0 : p0 = nI (dv + 4 * g)) (e1 : q1 = nI (dv + 16 * g)) : ∃ (rc' : Nat) (gc' : Int32) (rl' gs' th' : Nat → Int32), zr_R cL pL rL wL ph pc ch cc rc' aw wb wm pl pm gc' wr se sc sv dm md ws pr lw nw cr rl' gs' hl th' lm ∧ (∀ post : Int32 → SX → Prop, post (nI (L.countP (fun n => zr_ky n == dv + 4 * g))) (nI cL, nI pL, nI rL, nI wL, aw, wb, wm, nI ph, nI pc, pl, pm, nI ch, nI cc, fd, lf, nI rc', gc', wr, se, sc, sv, dm, md, ws, pr, lw, nw, cr, rl', gs', ct, hl) → wpX_removeGroup post (nI cL, nI pL, nI rL, nI wL, aw, wb, wm, nI ph, nI pc, pl, pm, nI ch, nI cc, fd, lf, nI rc, gc, wr, se, sc, sv, dm, md, ws, pr, lw, nw, cr, rl, gs, ct, hl) p0) ∧ (∀ post : Int32 → SY → Prop, post (nI (L.countP (fun n => zr_ky n == dv + 4 * g))) (fd, lf, wr, se, th', lm, ct, lw) → wpY_pick post (fd, lf, wr, se, th, lm, ct, lw) 51 q1 1) := by
  obtain ⟨l1, l2, l3, l4, l5, l6, l7, l8, _⟩ := id R.1
  obtain ⟨rl', s1, s2⟩ := zx_rg (cL := cL) (pL := pL) (wL := wL) (ph := ph) (pc := pc) (ch := ch) (cc := cc) (aw := aw) (wb := wb) (wm := wm) (pl := pl) (pm := pm) (fd := fd) (lf := lf) (wr := wr) (se := se) (sc := sc) (sv := sv) (dm := dm) (md := md) (ws := ws) (pr := pr) (lw := lw) (nw := nw) (cr := cr) (ct := ct) (hl := hl) (y := dv + 4 * g) (by omega) (by omega) hQ e0
  obtain ⟨th', t1, t2, t3⟩ := zy_pick1 (wr := wr) (se := se) (ct := ct) (lw := lw) (lm := lm) (fd := fd) (lf := lf) (by omega) hQ (fun n _ => zz_p51 hdv hg e1 n)
  exact ⟨_, _, rl', _, th', zr_R_rg (by omega) hQ s1 t1 t2 R, s2, t3⟩
theorem zz_closed {L : List Nat} {dv g : Nat} (hdv : dv < 4) (hg : g < 4) (hQ : zr_Req L rl rc rL gs gc th) : bt gc (dv + 4 * g) = true ↔ 0 < L.countP (fun n => zr_ky n == dv + 4 * g && n / 64 % 2 == 1) := by
  rw [hQ.2.2.2.2.2.2 (dv + 4 * g) (by omega), zz_any]
theorem zz_cle {L : List Nat} (q : Nat → Bool) (hr : rL ≤ 8) (hQ : zr_Req L rl rc rL gs gc th) : L.countP q ≤ 8 := by
  have h1 : L.countP q ≤ L.length := List.countP_le_length
  have h2 := hQ.1
  have h3 := hQ.2.1
  omega
theorem zr_R_app {L : List Nat} {N y : Nat} {b : Bool} (hrc : rc < rL) (hN : N < 65536) (hy : y < 16) (ek : zr_ky N = y) (eb : b = (N / 64 % 2 == 1)) (hQ : zr_Req L rl rc rL gs gc th) (R : zr_R cL pL rL wL ph pc ch cc rc aw wb wm pl pm gc wr se sc sv dm md ws pr lw nw cr rl gs hl th lm) : zr_R cL pL rL wL ph pc ch cc (rc + 1) aw wb wm pl pm (gc ||| (nI b.toNat <<< (nI y &&& 31))) wr se sc sv dm md ws pr lw nw cr (upd rl rc (nI N)) (upd gs y (gs y + 1)) hl (upd th (768 + rc) (nI N)) lm := by
  obtain ⟨hL, hW, hS, hC, hX, hA, hP, hM, _, hH⟩ := R
  obtain ⟨l1, l2, l3, l4, l5, l6, l7, l8, _⟩ := id hL
  obtain ⟨q1, q2, q3, q4, q5, q6, q7⟩ := hQ
  have hlo : ∀ i, i < rc → zr_gd (L ++ [N]) i = zr_gd L i := by
    intro i hi
    have := zz_gd_lo L [N] [] i (by omega)
    rw [List.append_nil] at this
    exact this
  have hat : zr_gd (L ++ [N]) rc = nI N := by
    rw [← q1]
    exact zz_gd_at L N []
  refine ⟨hL, hW, hS, hC, zr_Ctx_fr hX (fun i hi => pk_un (by omega)), zr_Wal_fr (by omega) hA (fun i hi => pk_un (by omega)), zr_Pos_fr (by omega) hP (fun i hi => pk_un (by omega)), zr_Cmd_fr (by omega) hM (fun i hi => pk_un (by omega)), ⟨L ++ [N], by rw [List.length_append, q1]; rfl, by omega, fun n hn => ?_, fun i hi => ?_, fun i hi => ?_, fun k hk => ?_, fun k hk => ?_⟩, zr_Hel_fr hH (fun i hi => pk_un (by omega))⟩
  · rw [List.mem_append, List.mem_singleton] at hn
    rcases hn with h | h
    · exact q3 n h
    · omega
  · by_cases e : i = rc
    · subst e
      rw [pk_us, hat]
    · rw [pk_un e, hlo i (by omega)]
      exact q4 i (by omega)
  · by_cases e : i = rc
    · subst e
      rw [pk_us, hat]
    · rw [pk_un (by omega), q5 i hi]
      rcases Nat.lt_or_ge i rc with h | h
      · exact (hlo i h).symm
      · rw [zz_gd_ge L i (by omega), zz_gd_ge (L ++ [N]) i (by rw [List.length_append, q1]; show rc + 1 ≤ i; omega)]
  · rw [List.countP_append, List.countP_singleton, ek]
    by_cases e : k = y
    · subst e
      rw [pk_us, q6 k hk, if_pos (beq_iff_eq.mpr rfl), nI_1]
    · rw [pk_un e, q6 k hk, if_neg (fun z => e (eq_of_beq z).symm), Nat.add_zero]
  · rw [zb_setb (by omega), q7 k hk, List.any_append, eb]
    congr 1
    rw [List.any_cons, List.any_nil, Bool.or_false, ek, Bool.and_comm]
    congr 1
    by_cases e : k = y
    · subst e
      rw [decide_eq_true rfl, beq_iff_eq.mpr rfl]
    · rw [decide_eq_false e, beq_eq_false_iff_ne.mpr (fun z => e z.symm)]
theorem zx_124 {post : Int32 → SX → Prop} {dv : Nat} {x : Int32} (hdv : dv ≤ 3) (h : post (-10) (nI cL, nI pL, nI rL, nI wL, aw, wb, wm, nI ph, nI pc, pl, pm, nI ch, nI cc, fd, lf, nI rc, gc, wr, se, sc, sv, dm, md, ws, pr, lw, nw, cr, rl, gs, upd ct (3 * dv + 2) (ct (3 * dv + 2) + x), hl)) : wX_raise_124 post (nI dv) x (nI cL) (nI pL) (nI rL) (nI wL) aw wb wm (nI ph) (nI pc) pl pm (nI ch) (nI cc) fd lf (nI rc) gc wr se sc sv dm md ws pr lw nw cr rl gs ct hl := by
  have ix : nI dv * 3 + 2 = nI (3 * dv + 2) := by
    show nI dv * nI 3 + nI 2 = _
    rw [pk_mul, nI_add, Nat.mul_comm]
  unfold wX_raise_124
  rw [ix, nI_clamp (by omega)]
  exact ⟨vp_in_nI (by omega) (by omega), vp_in_nI (by omega) (by omega), nm_e h⟩
theorem zy_290 {post : Int32 → SY → Prop} {dv : Nat} {x : Int32} (hdv : dv ≤ 3) (h : post (-10) (fd, lf, wr, se, th, lm, upd ct (3 * dv + 2) (ct (3 * dv + 2) + (1 + x)), lw)) : wY_request_290 post (nI dv) x fd lf wr se th lm ct lw := by
  have ix : 3 * nI dv + 2 = nI (3 * dv + 2) := by
    show nI 3 * nI dv + nI 2 = _
    rw [pk_mul, nI_add]
  unfold wY_request_290
  rw [ix, nI_clamp (by omega)]
  exact ⟨vp_in_nI (by omega) (by omega), vp_in_nI (by omega) (by omega), nm_e h⟩
theorem zz_raise {dv pp fl fa : Nat} (R : zr_R cL pL rL wL ph pc ch cc rc aw wb wm pl pm gc wr se sc sv dm md ws pr lw nw cr rl gs hl th lm) (hdv : dv ≤ 3) (hpp : pp < 64) (hfl : fl < 32) (hf1 : 4 ≤ fa) (hf2 : fa ≤ 7) : ∃ (r : Int32) (rc' : Nat) (gc' : Int32) (rl' gs' ct' th' : Nat → Int32), zr_R cL pL rL wL ph pc ch cc rc' aw wb wm pl pm gc' wr se sc sv dm md ws pr lw nw cr rl' gs' hl th' lm ∧ (∀ post : Int32 → SX → Prop, post r (nI cL, nI pL, nI rL, nI wL, aw, wb, wm, nI ph, nI pc, pl, pm, nI ch, nI cc, fd, lf, nI rc', gc', wr, se, sc, sv, dm, md, ws, pr, lw, nw, cr, rl', gs', ct', hl) → wpX_raise post (nI cL, nI pL, nI rL, nI wL, aw, wb, wm, nI ph, nI pc, pl, pm, nI ch, nI cc, fd, lf, nI rc, gc, wr, se, sc, sv, dm, md, ws, pr, lw, nw, cr, rl, gs, ct, hl) (nI dv) (nI pp) (nI fl) (-nI fa)) ∧ (∀ post : Int32 → SY → Prop, post r (fd, lf, wr, se, th', lm, ct', lw) → wY_request_176 post (nI dv) (nI fl) (nI (fl % 4)) (nI (fl / 4 % 4)) (nI pp) (-nI fa) fd lf wr se th lm ct lw) := by
  obtain ⟨l1, l2, l3, l4, l5, l6, l7, l8, l9, l10, l11, l12⟩ := id R.1
  obtain ⟨L, hQ⟩ := R.2.2.2.2.2.2.2.2.1
  have hg : fl / 4 % 4 < 4 := by omega
  have hrc : rc ≤ rL := hQ.2.1
  have ek : nI dv + (nI fl &&& 12) = nI (dv + 4 * (fl / 4 % 4)) := by rw [zb_12n, nI_add]
  have ew : nI dv + 16 * nI (fl / 4 % 4) = nI (dv + 16 * (fl / 4 % 4)) := by
    show nI dv + nI 16 * nI _ = _
    rw [pk_mul, nI_add]
  have ew6 : (nI dv + 16 * nI (fl / 4 % 4)) + 64 = nI (dv + 16 * (fl / 4 % 4) + 64) := by
    rw [ew]
    exact nI_add _ 64
  have hc := zz_cle (fun n => zr_ky n == dv + 4 * (fl / 4 % 4) && n / 64 % 2 == 1) l6 hQ
  by_cases hcl : bt gc (dv + 4 * (fl / 4 % 4)) = true
  · refine ⟨-11, rc, gc, rl, gs, ct, th, R, fun post h => ?_, fun post h => ?_⟩
    · unfold wpX_raise
      refine nm_r ek (br_f (fun z => ?_) h)
      rw [zb_z (by omega), hcl] at z
      exact nomatch z
    · unfold wY_request_176
      refine zy_pick0 l6 hQ (fun n _ => zz_p115 (by omega) hg ew6 n) (br_f (nI_nle ((zz_closed (by omega) hg hQ).mp hcl) (by omega)) h)
  · have hcf : bt gc (dv + 4 * (fl / 4 % 4)) = false := zz_bf hcl
    have hc0 : L.countP (fun n => zr_ky n == dv + 4 * (fl / 4 % 4) && n / 64 % 2 == 1) = 0 := by
      rcases Nat.eq_zero_or_pos (L.countP (fun n => zr_ky n == dv + 4 * (fl / 4 % 4) && n / 64 % 2 == 1)) with z | z
      · exact z
      · exact absurd ((zz_closed (by omega) hg hQ).mpr z) hcl
    have e6 : (nI fl >>> ((4 : Int32) &&& 31)) &&& 1 = nI (fl / 16) := by
      rw [zb_s4 (by omega), zb_m1 (by omega)]
      exact congrArg nI (by omega)
    have hYs : ∀ {post : Int32 → SY → Prop}, post (nI 0) (fd, lf, wr, se, th, lm, ct, lw) → wpY_pick post (fd, lf, wr, se, th, lm, ct, lw) 115 ((nI dv + 16 * nI (fl / 4 % 4)) + 64) 0 := by
      intro post h
      refine zy_pick0 l6 hQ (fun n _ => zz_p115 (by omega) hg ew6 n) ?_
      rw [hc0]
      exact h
    rcases Nat.lt_or_ge rc rL with hlt | hge
    · have eV : (((nI dv ||| (nI fl <<< ((2 : Int32) &&& 31))) ||| (nI pp <<< ((7 : Int32) &&& 31))) ||| ((-(-nI fa)) <<< ((13 : Int32) &&& 31))) = nI (dv + 4 * fl + 128 * pp + 8192 * fa) := by
        have e1 : nI dv ||| (nI fl <<< ((2 : Int32) &&& 31)) = nI (dv + 4 * fl) := (zb_orN 2 (by omega) (by omega) (by omega)).trans (congrArg nI (by omega))
        have e2 : nI (dv + 4 * fl) ||| (nI pp <<< ((7 : Int32) &&& 31)) = nI (dv + 4 * fl + 128 * pp) := (zb_orN 7 (by omega) (by omega) (by omega)).trans (congrArg nI (by omega))
        rw [e1, e2, Int32.neg_neg]
        exact (zb_orN 13 (by omega) (by omega) (by omega)).trans (congrArg nI (by omega))
      have eW : (((((nI dv + (4 * nI (fl % 4))) + (16 * nI (fl / 4 % 4))) + (64 * (nI fl >>> ((4 : Int32) &&& 31)))) + (128 * nI pp)) - (8192 * (-nI fa))) = nI (dv + 4 * fl + 128 * pp + 8192 * fa) := by
        rw [zb_s4 (by omega)]
        have e1 : (((nI dv + (4 * nI (fl % 4))) + (16 * nI (fl / 4 % 4))) + (64 * nI (fl / 16))) + (128 * nI pp) = nI (dv + 4 * fl + 128 * pp) := by
          show (((nI dv + (nI 4 * nI (fl % 4))) + (nI 16 * nI (fl / 4 % 4))) + (nI 64 * nI (fl / 16))) + (nI 128 * nI pp) = _
          rw [pk_mul, pk_mul, pk_mul, pk_mul, nI_add, nI_add, nI_add, nI_add]
          exact congrArg nI (by omega)
        have e2 : nI (dv + 4 * fl + 128 * pp) - (8192 * (-nI fa)) = nI (dv + 4 * fl + 128 * pp) + 8192 * nI fa := by
          rw [Int32.mul_neg, Int32.sub_neg]
        rw [e1, e2]
        show nI _ + nI 8192 * nI fa = _
        rw [pk_mul, nI_add]
      have eb : nI (fl / 16) = nI (((dv + 4 * fl + 128 * pp + 8192 * fa) / 64 % 2 == 1)).toNat := by
        rcases (by omega : fl / 16 = 0 ∨ fl / 16 = 1) with z | z
        · rw [z, beq_eq_false_iff_ne.mpr (by omega)]
          rfl
        · rw [z, beq_iff_eq.mpr (by omega)]
          rfl
      refine ⟨-9, rc + 1, _, _, _, ct, _, zr_R_app (N := dv + 4 * fl + 128 * pp + 8192 * fa) (y := dv + 4 * (fl / 4 % 4)) hlt (by omega) (by omega) (by unfold zr_ky; omega) rfl hQ R, fun post h => ?_, fun post h => ?_⟩
      · unfold wpX_raise
        refine nm_r ek (br_t ((zb_z (by omega)).mpr hcf) (nm_r e6 (br_f (nI_ge hlt (by omega)) ?_)))
        rw [eV, nI_clamp (n := rc) (by omega), nI_clamp (n := dv + 4 * (fl / 4 % 4)) (by omega), eb]
        exact ⟨vp_in_nI (by omega) (by omega), nm_e (nm_r (nI_1 rc) ⟨vp_in_nI (by omega) (by omega), vp_in_nI (by omega) (by omega), nm_e (nm_e h)⟩)⟩
      · unfold wY_request_176
        refine hYs (br_t (by decide) (zy_fer l6 hQ (pk_le rL rc (fun z => absurd z (by omega)) (fun _ => ?_) l11 rfl)))
        have ix : (768 : Int32) + nI rc = nI (768 + rc) := nI_add 768 rc
        rw [ix, nI_clamp (n := 768 + rc) (by omega), eW]
        exact ⟨vp_in_nI (by omega) (by omega), nm_e h⟩
    · rcases (by omega : fl / 16 = 0 ∨ fl / 16 = 1) with z | z
      · refine ⟨-10, rc, gc, rl, gs, upd ct (3 * dv + 2) (ct (3 * dv + 2) + 1), th, R, fun post h => ?_, fun post h => ?_⟩
        · unfold wpX_raise
          refine nm_r ek (br_t ((zb_z (by omega)).mpr hcf) (nm_r (e6.trans (congrArg nI z)) (br_t (nI_le hge (by omega)) (br_t rfl (zx_124 hdv h)))))
        · unfold wY_request_176
          refine hYs (br_t (by decide) (zy_fer l6 hQ (pk_le rL rc (fun _ => ?_) (fun y => absurd y (by omega)) l11 rfl)))
          exact br_f (nI_ge (b := 16) (by omega) (by omega)) (zy_290 hdv h)
      · obtain ⟨rc', gc', rl', gs', th', R', gX, gY⟩ := zz_grp (ct := ct) (fd := fd) (lf := lf) (dv := dv) (g := fl / 4 % 4) (by omega) hg R hQ rfl ew
        refine ⟨-10, rc', gc', rl', gs', upd ct (3 * dv + 2) (ct (3 * dv + 2) + (1 + nI (L.countP (fun n => zr_ky n == dv + 4 * (fl / 4 % 4))))), th', R', fun post h => ?_, fun post h => ?_⟩
        · unfold wpX_raise
          refine nm_r ek (br_t ((zb_z (by omega)).mpr hcf) (nm_r (e6.trans (congrArg nI z)) (br_t (nI_le hge (by omega)) (br_f (by decide) (gX _ (nm_e (zx_124 hdv h)))))))
        · unfold wY_request_176
          refine hYs (br_t (by decide) (zy_fer l6 hQ (pk_le rL rc (fun _ => ?_) (fun y => absurd y (by omega)) l11 rfl)))
          exact br_t (nI_le (a := 16) (by omega) (by omega)) (gY _ (zy_290 hdv h))
end
theorem i_vc_respond {k : Nat} {u : SX} {v : SY} (I : i_Rel k u v) (hk : k + 5 ≤ 2564) (v1 : Int32) (v2 : Int32) (v3 : Int32) : wpX_respond (fun r u' => wpY_respond (fun r' v' => r' = r ∧ i_Rel (k + 5) u' v') v v1 v2 (lw_bz v3)) u v1 v2 (lw_bz v3) := by
  refine zz_el (P := fun u v => wpX_respond (fun r u' => wpY_respond (fun r' v' => r' = r ∧ i_Rel (k + 5) u' v') v v1 v2 (lw_bz v3)) u v1 v2 (lw_bz v3)) ?_ I
  intro cL pL rL wL ph pc ch cc rc aw wb wm pl pm fd lf gc wr se sc sv dm md ws pr lw nw cr rl gs ct hl th lm R
  obtain ⟨l1, l2, l3, l4, l5, l6, l7, l8, l9, l10, l11, l12⟩ := id R.1
  obtain ⟨L, hQ⟩ := R.2.2.2.2.2.2.2.2.1
  unfold wpX_respond wpY_respond
  by_cases h1 : 0 ≤ v1 ∧ v1 ≤ 3
  · refine zx_wt h1 (br_f (by decide) ?_)
    by_cases h2 : 0 ≤ v2 ∧ v2 ≤ 3
    · refine zx_wt h2 (br_f (by decide) ?_)
      obtain ⟨dv, hdv, rfl⟩ := nI_of2 (M := 3) (n := 3) (by decide) (Int32.not_lt.mpr h1.1) h1.2
      obtain ⟨g, hg, rfl⟩ := nI_of2 (M := 3) (n := 3) (by decide) (Int32.not_lt.mpr h2.1) h2.2
      have ek : nI dv + 4 * nI g = nI (dv + 4 * g) := by
        show nI dv + nI 4 * nI g = _
        rw [pk_mul, nI_add]
      have ew : nI dv + 16 * nI g = nI (dv + 16 * g) := by
        show nI dv + nI 16 * nI g = _
        rw [pk_mul, nI_add]
      have ew6 : (nI dv + 16 * nI g) + 64 = nI (dv + 16 * g + 64) := by
        rw [ew]
        exact nI_add _ 64
      have hc5 := zz_cle (fun n => zr_ky n == dv + 4 * g) l6 hQ
      have hc1 := zz_cle (fun n => zr_ky n == dv + 4 * g && n / 64 % 2 == 1) l6 hQ
      have p5 : ∀ n, n < 65536 → (nI n &&& 51 = nI dv + 16 * nI g ↔ (zr_ky n == dv + 4 * g) = true) := fun n _ => zz_p51 (by omega) (by omega) ew n
      have p1 : ∀ n, n < 65536 → (nI n &&& 115 = (nI dv + 16 * nI g) + 64 ↔ (zr_ky n == dv + 4 * g && n / 64 % 2 == 1) = true) := fun n _ => zz_p115 (by omega) (by omega) ew6 n
      have egs : gs (dv + 4 * g) = nI (L.countP (fun n => zr_ky n == dv + 4 * g)) := hQ.2.2.2.2.2.1 (dv + 4 * g) (by omega)
      refine nm_r ek ⟨vp_in_nI (by omega) (by omega), ?_⟩
      rw [nI_clamp (n := dv + 4 * g) (by omega), egs]
      refine pk_eq (L.countP (fun n => zr_ky n == dv + 4 * g)) 0 (fun z => ?_) (fun z => br_c (fun y => ?_) (fun y => ?_))
      · refine zy_wt h1 (br_f (by decide) (zy_wt h2 (br_f (by decide) (zy_pick0 l6 hQ p5 (br_t ?_ ⟨rfl, zz_in R⟩)))))
        rw [z]
        rfl
      · rw [zb_z (by omega)] at y
        have h0 : L.countP (fun n => zr_ky n == dv + 4 * g && n / 64 % 2 == 1) = 0 := by
          rcases Nat.eq_zero_or_pos (L.countP (fun n => zr_ky n == dv + 4 * g && n / 64 % 2 == 1)) with q | q
          · exact q
          · rw [(zz_closed (by omega) (by omega) hQ).mpr q] at y
            exact nomatch y
        refine zy_wt h1 (br_f (by decide) (zy_wt h2 (br_f (by decide) (zy_pick0 l6 hQ p5 (br_f (nI_ne0 (by omega) (by omega)) (zy_pick0 l6 hQ p1 (br_t ?_ ⟨rfl, zz_in R⟩)))))))
        rw [h0]
        rfl
      · rw [zb_z (by omega)] at y
        have h0 := (zz_closed (by omega) (by omega) hQ).mp (zz_bt y)
        obtain ⟨rc', gc', rl', gs', th', R', gX, gY⟩ := zz_grp (ct := ct) (fd := fd) (lf := lf) (dv := dv) (g := g) (by omega) (by omega) R hQ rfl ew
        have ix0 : nI dv * 3 + 0 = nI (3 * dv + 0) := by
          show nI dv * nI 3 + nI 0 = _
          rw [pk_mul, nI_add, Nat.mul_comm]
        have ix1 : nI dv * 3 + 1 = nI (3 * dv + 1) := by
          show nI dv * nI 3 + nI 1 = _
          rw [pk_mul, nI_add, Nat.mul_comm]
        have iy0 : 3 * nI dv + 0 = nI (3 * dv + 0) := by
          show nI 3 * nI dv + nI 0 = _
          rw [pk_mul, nI_add]
        have iy1 : 3 * nI dv + 1 = nI (3 * dv + 1) := by
          show nI 3 * nI dv + nI 1 = _
          rw [pk_mul, nI_add]
        refine gX _ (br_c (fun q => ?_) (fun q => ?_))
        · unfold wX_respond_72
          rw [ix1, nI_clamp (n := 3 * dv + 1) (by omega)]
          refine ⟨vp_in_nI (by omega) (by omega), vp_in_nI (by omega) (by omega), nm_e ?_⟩
          refine zy_wt h1 (br_f (by decide) (zy_wt h2 (br_f (by decide) (zy_pick0 l6 hQ p5 (br_f (nI_ne0 (by omega) (by omega)) (zy_pick0 l6 hQ p1 (br_f (nI_ne0 h0 (by omega)) (gY _ (br_t q ?_)))))))))
          unfold wY_respond_92
          rw [iy1, nI_clamp (n := 3 * dv + 1) (by omega)]
          exact ⟨vp_in_nI (by omega) (by omega), vp_in_nI (by omega) (by omega), nm_e ⟨rfl, zz_in R'⟩⟩
        · unfold wX_respond_72
          rw [ix0, nI_clamp (n := 3 * dv + 0) (by omega)]
          refine ⟨vp_in_nI (by omega) (by omega), vp_in_nI (by omega) (by omega), nm_e ?_⟩
          refine zy_wt h1 (br_f (by decide) (zy_wt h2 (br_f (by decide) (zy_pick0 l6 hQ p5 (br_f (nI_ne0 (by omega) (by omega)) (zy_pick0 l6 hQ p1 (br_f (nI_ne0 h0 (by omega)) (gY _ (br_f q ?_)))))))))
          unfold wY_respond_92
          rw [iy0, nI_clamp (n := 3 * dv + 0) (by omega)]
          exact ⟨vp_in_nI (by omega) (by omega), vp_in_nI (by omega) (by omega), nm_e ⟨rfl, zz_in R'⟩⟩
    · exact zx_wf h2 (br_t rfl (zy_wt h1 (br_f (by decide) (zy_wf h2 (br_t rfl ⟨rfl, zz_in R⟩)))))
  · exact zx_wf h1 (br_t rfl (zy_wf h1 (br_t rfl ⟨rfl, zz_in R⟩)))
end
section
/-! request -/
theorem zz_rho {n s : Nat} (hn : n < 64) (hs : s < 64) : ((nI n &&& nI s) &&& 48) = nI (16 * ((n &&& s) / 16)) ∧ (((nI n &&& nI s) >>> ((4 : Int32) &&& 31)) &&& 3) = nI ((n &&& s) / 16) ∧ (n &&& s) / 16 < 4 := by
  have h : n &&& s < 64 := Nat.lt_of_le_of_lt Nat.and_le_left hn
  rw [nx_and]
  refine ⟨zb_q48 _ h, ?_, by omega⟩
  rw [zb_s4 (by omega), zb_m3 (by omega)]
  exact congrArg nI (by omega)
section
variable {cL pL rL wL ph pc ch cc rc : Nat} {aw wb wm pl pm fd lf gc : Int32} {wr se sc sv dm md ws pr lw nw cr rl gs ct hl th lm : Nat → Int32}
variable {post : Int32 → SX → Prop}
theorem zx_trA {dv m d t p : Nat} {x p3 : Int32} (hdv : dv ≤ 3) (hm : m < 3) (hd : d < 2) (ht : t ≤ 3) (hp : p < 16) (hS : zr_Cel se) (hC : zr_Cac se sc sv) (e1 : dm dv = nI d) (e2 : md dv = nI m) (hF : zr_l1 se m d t p = x) (hx : ¬ 0 ≤ x) (h : ∀ sc' sv', zr_Cac se sc' sv' → post x (nI cL, nI pL, nI rL, nI wL, aw, wb, wm, nI ph, nI pc, pl, pm, nI ch, nI cc, fd, lf, nI rc, gc, wr, se, sc', sv', dm, md, ws, pr, lw, nw, cr, rl, gs, ct, hl)) : wpX_translate post (nI cL, nI pL, nI rL, nI wL, aw, wb, wm, nI ph, nI pc, pl, pm, nI ch, nI cc, fd, lf, nI rc, gc, wr, se, sc, sv, dm, md, ws, pr, lw, nw, cr, rl, gs, ct, hl) (nI dv) (nI t) (nI p) p3 := by
  unfold wpX_translate
  rw [nI_clamp (n := dv) (by omega)]
  refine ⟨vp_in_nI (by omega) (by omega), vp_in_nI (by omega) (by omega), zx_l1 hm hd ht hp hS hC e2 e1 rfl rfl (fun sc' sv' hC' => ?_)⟩
  rw [hF]
  exact br_f hx (h sc' sv' hC')
theorem zx_trB {dv m d t p n : Nat} {p3 : Int32} (hdv : dv ≤ 3) (hm : m < 3) (hd : d < 2) (ht : t ≤ 3) (hp : p < 16) (hS : zr_Cel se) (hC : zr_Cac se sc sv) (e1 : dm dv = nI d) (e2 : md dv = nI m) (hF : zr_l1 se m d t p = nI n) (hn : n < 64) (hK : zr_lk se (80 + 20 * d) (n % 16) (-6) = -6) (h : ∀ sc' sv', zr_Cac se sc' sv' → post (-6) (nI cL, nI pL, nI rL, nI wL, aw, wb, wm, nI ph, nI pc, pl, pm, nI ch, nI cc, fd, lf, nI rc, gc, wr, se, sc', sv', dm, md, ws, pr, lw, nw, cr, rl, gs, ct, hl)) : wpX_translate post (nI cL, nI pL, nI rL, nI wL, aw, wb, wm, nI ph, nI pc, pl, pm, nI ch, nI cc, fd, lf, nI rc, gc, wr, se, sc, sv, dm, md, ws, pr, lw, nw, cr, rl, gs, ct, hl) (nI dv) (nI t) (nI p) p3 := by
  unfold wpX_translate
  rw [nI_clamp (n := dv) (by omega)]
  refine ⟨vp_in_nI (by omega) (by omega), vp_in_nI (by omega) (by omega), zx_l1 hm hd ht hp hS hC e2 e1 rfl rfl (fun sc' sv' hC' => ?_)⟩
  rw [hF]
  refine br_t (nI_pos' (by omega)) ⟨vp_in_nI (by omega) (by omega), zx_l2 hd (p := n % 16) (by omega) hS hC' e1 (zb_m15 (by omega)) (fun sc2 sv2 hC2 => ?_)⟩
  rw [hK]
  exact br_f (by decide) (h sc2 sv2 hC2)
theorem zx_trC {dv m d t p n s nd : Nat} (hdv : dv ≤ 3) (hm : m < 3) (hd : d < 2) (ht : t ≤ 3) (hp : p < 16) (hS : zr_Cel se) (hC : zr_Cac se sc sv) (e1 : dm dv = nI d) (e2 : md dv = nI m) (hF : zr_l1 se m d t p = nI n) (hn : n < 64) (hs : s < 64) (hK : zr_lk se (80 + 20 * d) (n % 16) (-6) = nI s) (h : ∀ sc' sv', zr_Cac se sc' sv' → (nI ((n &&& s) / 16) &&& nI nd = nI nd → post (nI (s % 16 + 16 * ((n &&& s) / 16))) (nI cL, nI pL, nI rL, nI wL, aw, wb, wm, nI ph, nI pc, pl, pm, nI ch, nI cc, fd, lf, nI rc, gc, wr, se, sc', sv', dm, md, ws, pr, lw, nw, cr, rl, gs, ct, hl)) ∧ (¬ nI ((n &&& s) / 16) &&& nI nd = nI nd → post (-7) (nI cL, nI pL, nI rL, nI wL, aw, wb, wm, nI ph, nI pc, pl, pm, nI ch, nI cc, fd, lf, nI rc, gc, wr, se, sc', sv', dm, md, ws, pr, lw, nw, cr, rl, gs, ct, hl))) : wpX_translate post (nI cL, nI pL, nI rL, nI wL, aw, wb, wm, nI ph, nI pc, pl, pm, nI ch, nI cc, fd, lf, nI rc, gc, wr, se, sc, sv, dm, md, ws, pr, lw, nw, cr, rl, gs, ct, hl) (nI dv) (nI t) (nI p) (nI nd) := by
  obtain ⟨r1, r2, r3⟩ := zz_rho hn hs
  have hsh : nI (16 * ((n &&& s) / 16)) >>> ((4 : Int32) &&& 31) = nI ((n &&& s) / 16) := by
    rw [zb_s4 (by omega)]
    exact congrArg nI (by omega)
  have hor : (nI s &&& 15) ||| nI (16 * ((n &&& s) / 16)) = nI (s % 16 + 16 * ((n &&& s) / 16)) := by
    rw [zb_m15 (by omega)]
    have e : nI (16 * ((n &&& s) / 16)) = nI ((n &&& s) / 16) <<< (nI 4 &&& 31) := by
      rw [zb_shl 4 (by omega) (by omega)]
      exact congrArg nI (by omega)
    rw [e, zb_orN 4 (by omega) (by omega) (by omega)]
    exact congrArg nI (by omega)
  unfold wpX_translate
  rw [nI_clamp (n := dv) (by omega)]
  refine ⟨vp_in_nI (by omega) (by omega), vp_in_nI (by omega) (by omega), zx_l1 hm hd ht hp hS hC e2 e1 rfl rfl (fun sc' sv' hC' => ?_)⟩
  rw [hF]
  refine br_t (nI_pos' (by omega)) ⟨vp_in_nI (by omega) (by omega), zx_l2 hd (p := n % 16) (by omega) hS hC' e1 (zb_m15 (by omega)) (fun sc2 sv2 hC2 => ?_)⟩
  rw [hK]
  refine br_t (nI_pos' (by omega)) (nm_r r1 ?_)
  rw [hsh, hor]
  exact h sc2 sv2 hC2
theorem zr_R_hel {i N : Nat} (hi : i < 256) (h0 : 0 < N) (hN : N < 128) (R : zr_R cL pL rL wL ph pc ch cc rc aw wb wm pl pm gc wr se sc sv dm md ws pr lw nw cr rl gs hl th lm) : zr_R cL pL rL wL ph pc ch cc rc aw wb wm pl pm gc wr se sc sv dm md ws pr lw nw cr rl gs (upd hl i (nI N)) (upd th (1280 + i) (nI N)) lm := by
  obtain ⟨hL, hW, hS, hC, hX, hA, hP, hM, hQ, hH⟩ := R
  obtain ⟨l1, l2, l3, l4, l5, l6, l7, l8, _⟩ := id hL
  refine ⟨hL, hW, hS, hC, zr_Ctx_fr hX (fun i hi => pk_un (by omega)), zr_Wal_fr (by omega) hA (fun i hi => pk_un (by omega)), zr_Pos_fr (by omega) hP (fun i hi => pk_un (by omega)), zr_Cmd_fr (by omega) hM (fun i hi => pk_un (by omega)), zr_ReqE_fr hQ (fun i hi => pk_un (by omega)), fun j hj => ?_⟩
  by_cases e : j = i
  · subst e
    exact Or.inr ⟨N, h0, hN, pk_us, pk_us⟩
  · rw [pk_un e, pk_un (by omega)]
    exact hH j hj
theorem zy_r126 {post : Int32 → SY → Prop} {x1 x4 x6 x7 x8 x10 x11 z : Int32} (hx : x10 < 0 ∨ ¬ x11 &&& x6 = x6) (h : wY_request_176 post x1 x4 x6 x7 x8 z fd lf wr se th lm ct lw) : wY_request_126 post x1 x4 x6 x7 x8 x10 x11 z fd lf wr se th lm ct lw := by
  unfold wY_request_126
  rcases hx with a | a
  · exact br_t a h
  · exact br_c (fun _ => h) (fun _ => br_f a h)
end
theorem i_vc_request {k : Nat} {u : SX} {v : SY} (I : i_Rel k u v) (hk : k + 5 ≤ 2564) (v1 : Int32) (v2 : Int32) (v3 : Int32) (v4 : Int32) : wpX_request (fun r u' => wpY_request (fun r' v' => r' = r ∧ i_Rel (k + 5) u' v') v v1 v2 v3 v4) u v1 v2 v3 v4 := by
  refine zz_el (P := fun u v => wpX_request (fun r u' => wpY_request (fun r' v' => r' = r ∧ i_Rel (k + 5) u' v') v v1 v2 v3 v4) u v1 v2 v3 v4) ?_ I
  intro cL pL rL wL ph pc ch cc rc aw wb wm pl pm fd lf gc wr se sc sv dm md ws pr lw nw cr rl gs ct hl th lm R
  unfold wpX_request wpY_request
  by_cases ok : zz_ok v1 v2 v3
  · refine zx_vt ok (br_f (by decide) ?_)
    obtain ⟨dv, t, p, hdv, ht, hp, rfl, rfl, rfl⟩ := zz_ok_e ok
    obtain ⟨d, m, hd, hm, e1, e2, e3⟩ := R.2.2.2.2.1.1 dv (by omega)
    have hb1 := zz_b1 (bt aw dv)
    by_cases h4 : 0 ≤ v4 ∧ v4 ≤ 31
    · refine zx_wt h4 (br_f (by decide) ?_)
      obtain ⟨fl, hfl, rfl⟩ := nI_of2 (M := 31) (n := 31) (by decide) (Int32.not_lt.mpr h4.1) h4.2
      have en : nI fl &&& 3 = nI (fl % 4) := zb_m3 (by omega)
      have eg : (nI fl >>> ((2 : Int32) &&& 31)) &&& 3 = nI (fl / 4 % 4) := by rw [zb_s2 (by omega), zb_m3 (by omega)]
      have ep : nI t * 16 + nI p = nI (16 * t + p) := by
        show nI t * nI 16 + nI p = _
        rw [pk_mul, nI_add, Nat.mul_comm]
      have eq : 16 * nI t + nI p = nI (16 * t + p) := by
        show nI 16 * nI t + nI p = _
        rw [pk_mul, nI_add]
      rw [en]
      refine pk_eq (fl % 4) 0 (fun z => ?_) (fun z => ?_)
      · refine zy_rt ok hdv rfl hd hm hb1 e3 (fun _ => ?_) (fun _ => ?_)
        · exact nm_e (nm_e (nm_e (zy_wt h4 (br_f (by decide) (br_t (by rw [z]; rfl) ⟨rfl, zz_in R⟩)))))
        · exact nm_e (nm_e (nm_e (zy_wt h4 (br_f (by decide) (br_t (by rw [z]; rfl) ⟨rfl, zz_in R⟩)))))
      · have hnd : ¬ nI (fl % 4) = 0 := nI_ne0 (by omega) (by omega)
        rw [nI_clamp (n := dv) (by omega)]
        refine ⟨vp_in_nI (by omega) (by omega), pk_eq m 0 (fun hm0 => ?_) (fun hm0 => nm_r ep ?_) e2 rfl⟩
        · refine zy_rt ok hdv rfl hd hm hb1 e3 (fun _ => ?_) (fun h => absurd hm0 h)
          exact nm_e (nm_e (nm_e (zy_wt h4 (br_f (by decide) (br_f hnd (br_f (by decide) ⟨rfl, zz_in R⟩))))))
        · have i3 : (80 : Int32) + 20 * (th dv &&& 1) = nI (80 + 20 * d) := by
            rw [e3, zz_ctxd hd hm hb1]
            show nI 80 + nI 20 * nI d = _
            rw [pk_mul, nI_add]
          have hpp : 16 * t + p < 64 := by omega
          rcases zr_l1_r (m := m) (d := d) (t := t) (p := p) R.2.2.1 (by omega) with q | q | ⟨n, hn, q⟩
          · refine zx_trA hdv hm hd ht (by omega) R.2.2.1 R.2.2.2.1 e1 e2 q (by decide) (fun sc' sv' hC' => br_f (by decide) ?_)
            obtain ⟨r, rc', gc', rl', gs', ct', th', R', rX, rY⟩ := zz_raise (ct := ct) (fd := fd) (lf := lf) (fa := 4) (zr_R_ca R hC') hdv hpp (by omega : fl < 32) (by omega) (by omega)
            refine rX _ (zy_rt ok hdv rfl hd hm hb1 e3 (fun h => absurd h hm0) (fun _ => nm_e (nm_r eg (nm_r eq (zy_wt h4 (br_f (by decide) (br_f hnd (br_t rfl (zy_l1 hdv hd hm hb1 ht (by omega) R.2.2.1 e3 rfl rfl rfl ?_)))))))))
            rw [q]
            refine br_f (by decide) ?_
            unfold wY_request_101
            exact nm_e (br_f (by decide) (zy_r126 (Or.inl (by decide)) (rY _ ⟨rfl, zz_in R'⟩)))
          · refine zx_trA hdv hm hd ht (by omega) R.2.2.1 R.2.2.2.1 e1 e2 q (by decide) (fun sc' sv' hC' => br_f (by decide) ?_)
            obtain ⟨r, rc', gc', rl', gs', ct', th', R', rX, rY⟩ := zz_raise (ct := ct) (fd := fd) (lf := lf) (fa := 5) (zr_R_ca R hC') hdv hpp (by omega : fl < 32) (by omega) (by omega)
            refine rX _ (zy_rt ok hdv rfl hd hm hb1 e3 (fun h => absurd h hm0) (fun _ => nm_e (nm_r eg (nm_r eq (zy_wt h4 (br_f (by decide) (br_f hnd (br_t rfl (zy_l1 hdv hd hm hb1 ht (by omega) R.2.2.1 e3 rfl rfl rfl ?_)))))))))
            rw [q]
            refine br_f (by decide) ?_
            unfold wY_request_101
            exact nm_e (br_f (by decide) (zy_r126 (Or.inl (by decide)) (rY _ ⟨rfl, zz_in R'⟩)))
          · rcases zr_lk_r R.2.2.1 (80 + 20 * d) (n % 16) (-6) with w | ⟨s, hs, w⟩
            · refine zx_trB hdv hm hd ht (by omega) R.2.2.1 R.2.2.2.1 e1 e2 q hn w (fun sc' sv' hC' => br_f (by decide) ?_)
              obtain ⟨r, rc', gc', rl', gs', ct', th', R', rX, rY⟩ := zz_raise (ct := ct) (fd := fd) (lf := lf) (fa := 6) (zr_R_ca R hC') hdv hpp (by omega : fl < 32) (by omega) (by omega)
              refine rX _ (zy_rt ok hdv rfl hd hm hb1 e3 (fun h => absurd h hm0) (fun _ => nm_e (nm_r eg (nm_r eq (zy_wt h4 (br_f (by decide) (br_f hnd (br_t rfl (zy_l1 hdv hd hm hb1 ht (by omega) R.2.2.1 e3 rfl rfl rfl ?_)))))))))
              rw [q]
              refine br_t (nI_pos' (by omega)) ⟨vp_in_nI (by omega) (by omega), zy_lk (by omega) (by omega) i3 (zb_m15 (by omega)) ?_⟩
              rw [w]
              unfold wY_request_101
              exact nm_e (br_f (by decide) (zy_r126 (Or.inl (by decide)) (rY _ ⟨rfl, zz_in R'⟩)))
            · obtain ⟨r1, r2, r3⟩ := zz_rho hn hs
              refine zx_trC hdv hm hd ht (by omega) R.2.2.1 R.2.2.2.1 e1 e2 q hn hs w (fun sc' sv' hC' => ⟨fun y => br_t (nI_pos' (by omega)) ?_, fun y => br_f (by decide) ?_⟩)
              · have h0 : 0 < (n &&& s) / 16 := by
                  rcases Nat.eq_zero_or_pos ((n &&& s) / 16) with c | c
                  · rw [c, nI_0, Int32.zero_and] at y
                    exact absurd y.symm hnd
                  · exact c
                have ix : nI dv * 64 + nI (16 * t + p) = nI (64 * dv + (16 * t + p)) := by
                  show nI dv * nI 64 + nI _ = _
                  rw [pk_mul, nI_add, Nat.mul_comm]
                have iy : (1280 + (64 * nI dv)) + nI (16 * t + p) = nI (1280 + (64 * dv + (16 * t + p))) := by
                  show (nI 1280 + (nI 64 * nI dv)) + nI _ = _
                  rw [pk_mul, nI_add, nI_add]
                  exact congrArg nI (by omega)
                have R' := zr_R_hel (i := 64 * dv + (16 * t + p)) (N := s % 16 + 16 * ((n &&& s) / 16)) (by omega) (by omega) (by omega) (zr_R_ca R hC')
                rw [ix, nI_clamp (n := 64 * dv + (16 * t + p)) (by omega)]
                refine ⟨vp_in_nI (by omega) (by omega), nm_e ?_⟩
                refine zy_rt ok hdv rfl hd hm hb1 e3 (fun h => absurd h hm0) (fun _ => nm_e (nm_r eg (nm_r eq (zy_wt h4 (br_f (by decide) (br_f hnd (br_t rfl (zy_l1 hdv hd hm hb1 ht (by omega) R.2.2.1 e3 rfl rfl rfl ?_))))))))
                rw [q]
                refine br_t (nI_pos' (by omega)) ⟨vp_in_nI (by omega) (by omega), zy_lk (by omega) (by omega) i3 (zb_m15 (by omega)) ?_⟩
                rw [w]
                unfold wY_request_101
                refine nm_r r2 (br_t (nI_pos' (by omega)) ?_)
                unfold wY_request_126
                refine br_f (nI_pos (by omega)) (br_t y ?_)
                rw [iy, nI_clamp (n := 1280 + (64 * dv + (16 * t + p))) (by omega)]
                have ev : (nI s &&& 15) + (16 * nI ((n &&& s) / 16)) = nI (s % 16 + 16 * ((n &&& s) / 16)) := by
                  rw [zb_m15 (by omega)]
                  show nI _ + nI 16 * nI _ = _
                  rw [pk_mul, nI_add]
                rw [ev]
                refine ⟨vp_in_nI (by omega) (by omega), nm_e ⟨?_, zz_in R'⟩⟩
                rw [zb_m15 (by omega), zb_m15 (by omega)]
                exact congrArg nI (by omega)
              · obtain ⟨r, rc', gc', rl', gs', ct', th', R', rX, rY⟩ := zz_raise (ct := ct) (fd := fd) (lf := lf) (fa := 7) (zr_R_ca R hC') hdv hpp (by omega : fl < 32) (by omega) (by omega)
                refine rX _ (zy_rt ok hdv rfl hd hm hb1 e3 (fun h => absurd h hm0) (fun _ => nm_e (nm_r eg (nm_r eq (zy_wt h4 (br_f (by decide) (br_f hnd (br_t rfl (zy_l1 hdv hd hm hb1 ht (by omega) R.2.2.1 e3 rfl rfl rfl ?_)))))))))
                rw [q]
                refine br_t (nI_pos' (by omega)) ⟨vp_in_nI (by omega) (by omega), zy_lk (by omega) (by omega) i3 (zb_m15 (by omega)) ?_⟩
                rw [w]
                unfold wY_request_101
                exact nm_r r2 (br_t (nI_pos' (by omega)) (zy_r126 (Or.inr y) (rY _ ⟨rfl, zz_in R'⟩)))
    · refine zx_wf h4 (br_t rfl (zy_rt ok hdv rfl hd hm hb1 e3 (fun _ => ?_) (fun _ => ?_)))
      · exact nm_e (nm_e (nm_e (zy_wf h4 (br_t rfl ⟨rfl, zz_in R⟩))))
      · exact nm_e (nm_e (nm_e (zy_wf h4 (br_t rfl ⟨rfl, zz_in R⟩))))
  · refine zx_vf ok (br_t rfl (zy_rf ok (nm_e (nm_e (nm_e ?_)))))
    by_cases h4 : 0 ≤ v4 ∧ v4 ≤ 31
    · exact zy_wt h4 (br_f (by decide) (br_c (fun _ => ⟨rfl, zz_in R⟩) (fun _ => br_f (by decide) ⟨rfl, zz_in R⟩)))
    · exact zy_wf h4 (br_t rfl ⟨rfl, zz_in R⟩)
end
section
/-! marks; ack -/
section
variable {cL pL rL wL ph pc ch cc rc : Nat} {aw wb wm pl pm fd lf gc : Int32} {wr se sc sv dm md ws pr lw nw cr rl gs ct hl th lm : Nat → Int32}
theorem zr_Pos_mk (hp : pL ≤ 8) (h : zr_Pos pr ph pc pl pm pL nw lw th) : zr_Pos pr ph pc pl pl pL nw lw (zr_mk th 512 520 16) := by
  obtain ⟨h1, h2, h3, h4, h5, h6, h7, h8⟩ := h
  have hin : ∀ i, i < pc → ∃ f w m : Nat, f < 16 ∧ w < 256 ∧ m ≤ 1 ∧ pr ((ph + i) % 8) = nI (f + 32 * w) ∧ th (512 + i) = nI (f + 16 * m + 32 * w) ∧ zr_mk th 512 520 16 (512 + i) = nI (f + 16 + 32 * w) := by
    intro i hi
    obtain ⟨f, w, hf, hw, e1, e2⟩ := h3 i hi
    have hb := zz_b1 (bt pm ((ph + i) % 8))
    refine ⟨f, w, (bt pm ((ph + i) % 8)).toNat, hf, hw, hb, e1, e2, ?_⟩
    have e : zr_mk th 512 520 16 (512 + i) = th (512 + i) ||| 16 := if_pos ⟨by omega, by rw [e2]; exact nI_pos' (by omega)⟩
    rw [e, e2, zb_o16]
    congr 1
    by_cases z : (f + 16 * (bt pm ((ph + i) % 8)).toNat + 32 * w) / 16 % 2 = 0
    · rw [if_pos z]; omega
    · rw [if_neg z]; omega
  refine ⟨h1, h2, fun i hi => ?_, fun i a b => ?_, h5, h6, fun j hj => hj, fun f hf => ?_⟩
  · obtain ⟨f, w, m, hf, hw, hm, e1, e2, e3⟩ := hin i hi
    rw [h5 i (by omega), decide_eq_true hi]
    exact ⟨f, w, hf, hw, e1, e3⟩
  · have : zr_mk th 512 520 16 (512 + i) = th (512 + i) := if_neg (fun z => absurd z.2 (by rw [h4 i a b]; decide))
    rw [this]
    exact h4 i a b
  · rw [h8 f hf]
    refine (zr_nw_c pc fun i hi => ?_).symm
    obtain ⟨g, w, m, hg, hw, hm, e1, e2, e3⟩ := hin i hi
    show zr_mk th 512 520 16 (512 + i) &&& 15 = th (512 + i) &&& 15 ∧ zr_mk th 512 520 16 (512 + i) >>> ((5 : Int32) &&& 31) = th (512 + i) >>> ((5 : Int32) &&& 31)
    rw [e2, e3, zb_m15 (by omega), zb_m15 (by omega), zb_s5 (by omega), zb_s5 (by omega)]
    exact ⟨congrArg nI (by omega), congrArg nI (by omega)⟩
theorem zr_Wal_mk (hw : wL ≤ 8) (h : zr_Wal ws wb wm wL th) : zr_Wal ws wb wb wL (zr_mk th 256 264 128) := by
  obtain ⟨h1, h2, h3⟩ := h
  refine ⟨fun i hi => ?_, fun i hi hb => ?_, fun i hi => hi⟩
  · obtain ⟨hl, f, d, w, hf, hd, hw', e1, e2⟩ := h1 i hi
    have hb := zz_b1 (bt wm i)
    refine ⟨hl, f, d, w, hf, hd, hw', e1, ?_⟩
    have e : zr_mk th 256 264 128 (256 + i) = th (256 + i) ||| 128 := if_pos ⟨by omega, by rw [e2]; exact nI_pos' (by omega)⟩
    rw [e, e2, zb_o128, hi]
    congr 1
    show _ = f + 64 * d + 128 * 1 + 256 * w
    by_cases z : (f + 64 * d + 128 * (bt wm i).toNat + 256 * w) / 128 % 2 = 0
    · rw [if_pos z]; omega
    · rw [if_neg z]; omega
  · have : zr_mk th 256 264 128 (256 + i) = th (256 + i) := if_neg (fun z => absurd z.2 (by rw [h2 i hi hb]; decide))
    rw [this]
    exact h2 i hi hb
theorem zr_R_mkP (R : zr_R cL pL rL wL ph pc ch cc rc aw wb wm pl pm gc wr se sc sv dm md ws pr lw nw cr rl gs hl th lm) : zr_R cL pL rL wL ph pc ch cc rc aw wb wm pl pl gc wr se sc sv dm md ws pr lw nw cr rl gs hl (zr_mk th 512 520 16) lm := by
  obtain ⟨hL, hW, hS, hC, hX, hA, hP, hM, hQ, hH⟩ := R
  obtain ⟨l1, l2, l3, l4, l5, l6, l7, l8, _⟩ := id hL
  exact ⟨hL, hW, hS, hC, zr_Ctx_fr hX (fun i hi => zr_mk_n th 16 (by omega)), zr_Wal_fr (by omega) hA (fun i hi => zr_mk_n th 16 (by omega)), zr_Pos_mk l4 hP, zr_Cmd_fr (by omega) hM (fun i hi => zr_mk_n th 16 (by omega)), zr_ReqE_fr hQ (fun i hi => zr_mk_n th 16 (by omega)), zr_Hel_fr hH (fun i hi => zr_mk_n th 16 (by omega))⟩
theorem zr_R_mkW (R : zr_R cL pL rL wL ph pc ch cc rc aw wb wm pl pm gc wr se sc sv dm md ws pr lw nw cr rl gs hl th lm) : zr_R cL pL rL wL ph pc ch cc rc aw wb wb pl pm gc wr se sc sv dm md ws pr lw nw cr rl gs hl (zr_mk th 256 264 128) lm := by
  obtain ⟨hL, hW, hS, hC, hX, hA, hP, hM, hQ, hH⟩ := R
  obtain ⟨l1, l2, l3, l4, l5, l6, l7, l8, _⟩ := id hL
  exact ⟨hL, hW, hS, hC, zr_Ctx_fr hX (fun i hi => zr_mk_n th 128 (by omega)), zr_Wal_mk l8 hA, zr_Pos_fr (by omega) hP (fun i hi => zr_mk_n th 128 (by omega)), zr_Cmd_fr (by omega) hM (fun i hi => zr_mk_n th 128 (by omega)), zr_ReqE_fr hQ (fun i hi => zr_mk_n th 128 (by omega)), zr_Hel_fr hH (fun i hi => zr_mk_n th 128 (by omega))⟩
theorem zr_R_hel0 {i : Nat} (hi : i < 256) (R : zr_R cL pL rL wL ph pc ch cc rc aw wb wm pl pm gc wr se sc sv dm md ws pr lw nw cr rl gs hl th lm) : zr_R cL pL rL wL ph pc ch cc rc aw wb wm pl pm gc wr se sc sv dm md ws pr lw nw cr rl gs (upd hl i 0) (upd th (1280 + i) (-8)) lm := by
  obtain ⟨hL, hW, hS, hC, hX, hA, hP, hM, hQ, hH⟩ := R
  obtain ⟨l1, l2, l3, l4, l5, l6, l7, l8, _⟩ := id hL
  refine ⟨hL, hW, hS, hC, zr_Ctx_fr hX (fun i hi => pk_un (by omega)), zr_Wal_fr (by omega) hA (fun i hi => pk_un (by omega)), zr_Pos_fr (by omega) hP (fun i hi => pk_un (by omega)), zr_Cmd_fr (by omega) hM (fun i hi => pk_un (by omega)), zr_ReqE_fr hQ (fun i hi => pk_un (by omega)), fun j hj => ?_⟩
  by_cases e : j = i
  · subst e
    exact Or.inl ⟨pk_us, pk_us⟩
  · rw [pk_un e, pk_un (by omega)]
    exact hH j hj
theorem zr_R_aw0 {dv : Nat} (hdv : dv ≤ 3) (hb : bt aw dv = true) (R : zr_R cL pL rL wL ph pc ch cc rc aw wb wm pl pm gc wr se sc sv dm md ws pr lw nw cr rl gs hl th lm) : zr_R cL pL rL wL ph pc ch cc rc (aw &&& (((1 : Int32) <<< (nI dv &&& 31)) ^^^ (-1))) wb wm pl pm gc wr se sc sv dm md ws pr lw nw cr rl gs hl (upd th dv (th dv - 8)) lm := by
  obtain ⟨hL, hW, hS, hC, hX, hA, hP, hM, hQ, hH⟩ := R
  obtain ⟨l1, l2, l3, l4, l5, l6, l7, l8, _⟩ := id hL
  obtain ⟨x1, x2, x3⟩ := hX
  refine ⟨hL, hW, hS, hC, ⟨fun i hi => ?_, fun i a b => ?_, fun i hi => ?_⟩, zr_Wal_fr (by omega) hA (fun i hi => pk_un (by omega)), zr_Pos_fr (by omega) hP (fun i hi => pk_un (by omega)), zr_Cmd_fr (by omega) hM (fun i hi => pk_un (by omega)), zr_ReqE_fr hQ (fun i hi => pk_un (by omega)), zr_Hel_fr hH (fun i hi => pk_un (by omega))⟩
  · obtain ⟨d, m, hd, hm, e1, e2, e3⟩ := x1 i hi
    rw [zb_clr (by omega)]
    by_cases e : i = dv
    · subst e
      rw [pk_us, decide_eq_true rfl, Bool.not_true, Bool.and_false]
      refine ⟨d, m, hd, hm, e1, e2, ?_⟩
      rw [e3, hb]
      show nI (d + 2 * m + 8 * 1) - nI 8 = nI (d + 2 * m + 8 * 0)
      rw [pk_sub (by omega)]
      exact congrArg nI (by omega)
    · rw [pk_un e, decide_eq_false e, Bool.not_false, Bool.and_true]
      exact ⟨d, m, hd, hm, e1, e2, e3⟩
  · rw [pk_un (by omega)]
    exact x2 i a b
  · rw [zb_clr (by omega), x3 i hi, Bool.false_and]
end
theorem zz_ack {dv : Nat} (hdv : dv ≤ 3) : ∀ (d j : Nat), j + d = 64 → ∀ {cL pL rL wL ph pc ch cc rc : Nat} {aw wb wm pl pm fd lf gc : Int32} {wr se sc sv dm md ws pr lw nw cr rl gs ct hl th lm : Nat → Int32}, zr_R cL pL rL wL ph pc ch cc rc aw wb wm pl pm gc wr se sc sv dm md ws pr lw nw cr rl gs hl th lm → ∀ c : Nat, ∃ (c' : Nat) (hl' th' : Nat → Int32), zr_R cL pL rL wL ph pc ch cc rc aw wb wm pl pm gc wr se sc sv dm md ws pr lw nw cr rl gs hl' th' lm ∧ (∀ post : Int32 → SX → Prop, post (nI c') (nI cL, nI pL, nI rL, nI wL, aw &&& (((1 : Int32) <<< (nI dv &&& 31)) ^^^ (-1)), wb, wm, nI ph, nI pc, pl, pl, nI ch, nI cc, fd, lf, nI rc, gc, wr, se, sc, sv, dm, md, ws, pr, lw, nw, cr, rl, gs, ct, hl') → wX_ack_29 post (nI dv) (nI cL) (nI pL) (nI rL) (nI wL) aw wb wm (nI ph) (nI pc) pl pm (nI ch) (nI cc) fd lf (nI rc) gc (d + 1) (nI c) (nI j) wr se sc sv dm md ws pr lw nw cr rl gs ct hl) ∧ (∀ post : Int32 → SY → Prop, post (nI c') (fd, lf, wr, se, upd (zr_mk th' 512 520 16) dv (zr_mk th' 512 520 16 dv - 8), lm, ct, lw) → wY_ack_33 post (nI dv) fd lf (d + 1) (nI c) (nI (64 * dv + j)) wr se th lm ct lw) := by
  have ie : 64 * nI dv + 64 = nI (64 * dv + 64) := by
    show nI 64 * nI dv + nI 64 = _
    rw [pk_mul, nI_add]
  intro d
  induction d with
  | zero =>
    intro j hj cL pL rL wL ph pc ch cc rc aw wb wm pl pm fd lf gc wr se sc sv dm md ws pr lw nw cr rl gs ct hl th lm R c
    have hj' : j = 64 := by omega
    subst hj'
    refine ⟨c, hl, th, R, fun post h => ?_, fun post h => ?_⟩
    · unfold wX_ack_29
      exact br_t (by decide) (nm_e h)
    · unfold wY_ack_33
      rw [ie, nI_clamp (n := dv) (by omega)]
      exact br_t (nI_le (Nat.le_refl _) (by omega)) (zy_mk 2 (by omega) rfl ⟨vp_in_nI (by omega) (by omega), vp_in_nI (by omega) (by omega), nm_e h⟩)
  | succ d ih =>
    intro j hj cL pL rL wL ph pc ch cc rc aw wb wm pl pm fd lf gc wr se sc sv dm md ws pr lw nw cr rl gs ct hl th lm R c
    have ix : nI dv * 64 + nI j = nI (64 * dv + j) := by
      show nI dv * nI 64 + nI j = _
      rw [pk_mul, nI_add, Nat.mul_comm]
    have iy : (1280 : Int32) + nI (64 * dv + j) = nI (1280 + (64 * dv + j)) := nI_add 1280 _
    by_cases hf : ∃ n : Nat, 0 < n ∧ n < 128 ∧ hl (64 * dv + j) = nI n ∧ th (1280 + (64 * dv + j)) = nI n ∧ n / 64 % 2 = 1
    · obtain ⟨n, n0, hn, e1, e2, hb⟩ := hf
      obtain ⟨c', hl', th', R', iX, iY⟩ := ih (j + 1) (by omega) (ct := ct) (fd := fd) (lf := lf) (zr_R_hel0 (i := 64 * dv + j) (by omega) R) (c + 1)
      have hne : ¬ nI n &&& 64 = 0 := by
        rw [zb_p64, hb]
        decide
      refine ⟨c', hl', th', R', fun post h => ?_, fun post h => ?_⟩
      · unfold wX_ack_29
        refine br_f (nI_ge (b := 64) (by omega) (by omega)) (nm_r ix ?_)
        rw [nI_clamp (n := 64 * dv + j) (by omega), e1]
        exact ⟨vp_in_nI (by omega) (by omega), br_f hne ⟨vp_in_nI (by omega) (by omega), nm_e (nm_r (nI_1 c) (nm_r (nI_1 j) (iX post h)))⟩⟩
      · unfold wY_ack_33
        rw [ie]
        refine br_f (nI_ge (by omega) (by omega)) (zy_flag_t (w := 5) (i := 64 * dv + j) (by omega) (by omega) rfl rfl ?_ ?_ (br_f (by decide) ?_))
        · show 0 ≤ th (1280 + (64 * dv + j))
          rw [e2]
          exact nI_pos' (by omega)
        · show ¬ th (1280 + (64 * dv + j)) &&& 64 = 0
          rw [e2]
          exact hne
        · rw [iy, nI_clamp (n := 1280 + (64 * dv + j)) (by omega)]
          exact ⟨vp_in_nI (by omega) (by omega), nm_e (nm_r (nI_1 c) (nm_r (nI_1 (64 * dv + j)) (iY post h)))⟩
    · obtain ⟨c', hl', th', R', iX, iY⟩ := ih (j + 1) (by omega) (ct := ct) (fd := fd) (lf := lf) R c
      have hz : hl (64 * dv + j) &&& 64 = 0 ∧ ¬ (0 ≤ th (1280 + (64 * dv + j)) ∧ ¬ th (1280 + (64 * dv + j)) &&& 64 = 0) := by
        rcases R.2.2.2.2.2.2.2.2.2 (64 * dv + j) (by omega) with ⟨a, b⟩ | ⟨n, n0, hn, a, b⟩
        · rw [a, b]
          exact ⟨by decide, by decide⟩
        · have h0 : nI n &&& 64 = 0 := by
            rw [zb_p64]
            rcases (by omega : n / 64 % 2 = 0 ∨ n / 64 % 2 = 1) with z | z
            · rw [z]; rfl
            · exact absurd ⟨n, n0, hn, a, b, z⟩ hf
          rw [a, b]
          exact ⟨h0, fun z => z.2 h0⟩
      refine ⟨c', hl', th', R', fun post h => ?_, fun post h => ?_⟩
      · unfold wX_ack_29
        refine br_f (nI_ge (b := 64) (by omega) (by omega)) (nm_r ix ?_)
        rw [nI_clamp (n := 64 * dv + j) (by omega)]
        exact ⟨vp_in_nI (by omega) (by omega), br_t hz.1 (nm_r (nI_1 j) (iX post h))⟩
      · unfold wY_ack_33
        rw [ie]
        exact br_f (nI_ge (by omega) (by omega)) (zy_flag_f (w := 5) (i := 64 * dv + j) (by omega) (by omega) rfl rfl hz.2 (br_t rfl (nm_r (nI_1 (64 * dv + j)) (iY post h))))
theorem i_vc_ack {k : Nat} {u : SX} {v : SY} (I : i_Rel k u v) (hk : k + 5 ≤ 2564) (v1 : Int32) : wpX_ack (fun r u' => wpY_ack (fun r' v' => r' = r ∧ i_Rel (k + 5) u' v') v v1) u v1 := by
  refine zz_el (P := fun u v => wpX_ack (fun r u' => wpY_ack (fun r' v' => r' = r ∧ i_Rel (k + 5) u' v') v v1) u v1) ?_ I
  intro cL pL rL wL ph pc ch cc rc aw wb wm pl pm fd lf gc wr se sc sv dm md ws pr lw nw cr rl gs ct hl th lm R
  unfold wpX_ack wpY_ack
  by_cases h1 : 0 ≤ v1 ∧ v1 ≤ 3
  · refine zx_wt h1 (br_f (by decide) ?_)
    obtain ⟨dv, hdv, rfl⟩ := nI_of2 (M := 3) (n := 3) (by decide) (Int32.not_lt.mpr h1.1) h1.2
    obtain ⟨d, m, hd, hm, e1, e2, e3⟩ := R.2.2.2.2.1.1 dv (by omega)
    have h8 : th dv &&& 8 = nI (8 * (bt aw dv).toNat) := by
      have := zz_b1 (bt aw dv)
      rw [e3, zb_p8]
      exact congrArg nI (by omega)
    rw [zb_z (by omega), nI_clamp (n := dv) (by omega)]
    refine br_c (fun z => ?_) (fun z => ?_)
    · refine zy_wt h1 (br_f (by decide) ⟨vp_in_nI (by omega) (by omega), br_t ?_ ⟨rfl, zz_in R⟩⟩)
      rw [h8, z]
      rfl
    · have hb : bt aw dv = true := zz_bt z
      obtain ⟨c', hl', th', R', iX, iY⟩ := zz_ack hdv 64 0 (by omega) (ct := ct) (fd := fd) (lf := lf) R 0
      refine ⟨64 + 1, iX _ ?_⟩
      refine zy_wt h1 (br_f (by decide) ⟨vp_in_nI (by omega) (by omega), br_f ?_ (nm_r (pk_mul 64 dv) ⟨64 + 1, iY _ ⟨rfl, zz_in ?_⟩⟩)⟩)
      · rw [h8, hb]
        decide
      · exact zr_R_aw0 hdv hb (zr_R_mkP R')
  · exact zx_wf h1 (br_t rfl (zy_wf h1 (br_t rfl ⟨rfl, zz_in R⟩)))
end
section
/-! commands: words, dooming, refreshing -/
theorem zz_wk {kd c b a ar : Nat} (hk : kd < 4) (hc : c < 8) (hb : b < 64) (ha : a < 256) (hr : ar ≤ 1) : nI (kd + 4 * c + 32 * b + 2048 * a + 524288 * ar) &&& 3 = nI kd := by
  rw [zb_m3 (by omega)]
  exact congrArg nI (by omega)
theorem zz_wc {kd c b a ar : Nat} (hk : kd < 4) (hc : c < 8) (hb : b < 64) (ha : a < 256) (hr : ar ≤ 1) : (nI (kd + 4 * c + 32 * b + 2048 * a + 524288 * ar) >>> ((2 : Int32) &&& 31)) &&& 7 = nI c := by
  rw [zb_s2 (by omega), zb_m7 (by omega)]
  exact congrArg nI (by omega)
theorem zz_wb {kd c b a ar : Nat} (hk : kd < 4) (hc : c < 8) (hb : b < 64) (ha : a < 256) (hr : ar ≤ 1) : (nI (kd + 4 * c + 32 * b + 2048 * a + 524288 * ar) >>> ((5 : Int32) &&& 31)) &&& 63 = nI b := by
  rw [zb_s5 (by omega), zb_m63 (by omega)]
  exact congrArg nI (by omega)
theorem zz_wa {kd c b a ar : Nat} (hk : kd < 4) (hc : c < 8) (hb : b < 64) (ha : a < 256) (hr : ar ≤ 1) : (nI (kd + 4 * c + 32 * b + 2048 * a + 524288 * ar) >>> ((11 : Int32) &&& 31)) &&& 255 = nI a := by
  rw [zb_s11 (by omega), zb_m255 (by omega)]
  exact congrArg nI (by omega)
/-- how far a loop over all indices has come within lo .. hi -/
def zz_e (lo hi j : Nat) : Nat := if j ≤ lo then lo else if j ≤ hi then j else hi
theorem zz_e_in {lo hi j : Nat} (h1 : lo ≤ j) (h2 : j < hi) : zz_e lo hi j = j ∧ zz_e lo hi (j + 1) = j + 1 := by
  unfold zz_e
  refine ⟨?_, ?_⟩
  · by_cases e : j ≤ lo
    · rw [if_pos e]; omega
    · rw [if_neg e, if_pos (by omega)]
  · rw [if_neg (by omega), if_pos (by omega)]
theorem zz_e_out {lo hi j : Nat} (hh : lo ≤ hi) (h : ¬ (lo ≤ j ∧ j < hi)) : zz_e lo hi (j + 1) = zz_e lo hi j := by
  unfold zz_e
  rcases (by omega : j < lo ∨ hi ≤ j) with a | a
  · rw [if_pos (by omega), if_pos (by omega)]
  · rw [if_neg (by omega), if_neg (by omega)]
    by_cases e : j ≤ lo
    · rw [if_pos e]; omega
    · rw [if_neg e]
      by_cases e2 : j ≤ hi
      · rw [if_pos e2]; omega
      · rw [if_neg e2]
theorem zz_e_0 (lo hi : Nat) : zz_e lo hi 0 = lo := if_pos (Nat.zero_le _)
theorem zz_e_n {lo hi j : Nat} (h : hi ≤ j) (hl : lo < hi) : zz_e lo hi j = hi := by
  unfold zz_e
  rw [if_neg (by omega)]
  by_cases e : j ≤ hi
  · rw [if_pos e]; omega
  · rw [if_neg e]
/-- the block of a command -/
theorem zz_blk {b c : Nat} (hc : c ≤ 6) (hb : b < 64) : b / 2 ^ c * 2 ^ c < b / 2 ^ c * 2 ^ c + 2 ^ c ∧ b / 2 ^ c * 2 ^ c + 2 ^ c ≤ 64 := by
  rcases (by omega : c = 0 ∨ c = 1 ∨ c = 2 ∨ c = 3 ∨ c = 4 ∨ c = 5 ∨ c = 6) with rfl | rfl | rfl | rfl | rfl | rfl | rfl <;> omega
theorem zz_blk16 {b c : Nat} (hc : c ≤ 4) (hb : b < 16) : b / 2 ^ c * 2 ^ c + 2 ^ c ≤ 16 := by
  rcases (by omega : c = 0 ∨ c = 1 ∨ c = 2 ∨ c = 3 ∨ c = 4) with rfl | rfl | rfl | rfl | rfl <;> omega
theorem zz_in2 {b c j : Nat} (hc : c ≤ 6) (hb : b < 64) (hj : j < 64) : nI j >>> (nI c &&& 31) = nI b >>> (nI c &&& 31) ↔ b / 2 ^ c * 2 ^ c ≤ j ∧ j < b / 2 ^ c * 2 ^ c + 2 ^ c := by
  have h1 : j / 2 ^ c ≤ j := Nat.div_le_self _ _
  have h2 : b / 2 ^ c ≤ b := Nat.div_le_self _ _
  rw [zb_shr (by omega) c (by omega), zb_shr (by omega) c (by omega), nI_eq (by omega) (by omega)]
  exact zb_blk hc
theorem zz_from {b c : Nat} (hc : c ≤ 6) (hb : b < 64) : (nI b >>> (nI c &&& 31)) <<< (nI c &&& 31) = nI (b / 2 ^ c * 2 ^ c) ∧ nI (b / 2 ^ c * 2 ^ c) + ((1 : Int32) <<< (nI c &&& 31)) = nI (b / 2 ^ c * 2 ^ c + 2 ^ c) := by
  have h := zz_blk hc hb
  have hp : 2 ^ c ≤ 64 := by omega
  refine ⟨?_, ?_⟩
  · rw [zb_shr (by omega) c (by omega), zb_shl c (by omega) (by omega)]
  · have e : (1 : Int32) <<< (nI c &&& 31) = nI (2 ^ c) := by
      show nI 1 <<< (nI c &&& 31) = _
      rw [zb_shl c (by omega) (by omega), Nat.one_mul]
    rw [e, nI_add]
/-- held translations doomed -/
def zr_dx (hl : Nat → Int32) (a e : Nat) : Nat → Int32 := fun k => if (a ≤ k ∧ k < e) ∧ ¬ hl k = 0 then hl k ||| 64 else hl k
theorem zr_dx_0 (hl : Nat → Int32) (a : Nat) : zr_dx hl a a = hl := by
  funext k
  unfold zr_dx
  rw [if_neg (by omega)]
theorem zr_dx_n (hl : Nat → Int32) {a e k : Nat} (h : ¬ (a ≤ k ∧ k < e)) : zr_dx hl a e k = hl k := if_neg fun z => h z.1
theorem zr_dx_s (hl : Nat → Int32) {a e : Nat} (h : hl e = 0) : zr_dx hl a (e + 1) = zr_dx hl a e := by
  funext k
  unfold zr_dx
  by_cases z : k = e
  · subst z
    rw [if_neg (fun y => y.2 h), if_neg (fun y => y.2 h)]
  · by_cases y : (a ≤ k ∧ k < e) ∧ ¬ hl k = 0
    · rw [if_pos y, if_pos ⟨by omega, y.2⟩]
    · rw [if_neg y, if_neg (fun w => y ⟨by omega, w.2⟩)]
theorem zr_dx_u (hl : Nat → Int32) {a e : Nat} (ha : a ≤ e) (h : ¬ hl e = 0) : upd (zr_dx hl a e) e (zr_dx hl a e e ||| 64) = zr_dx hl a (e + 1) := by
  funext k
  by_cases z : k = e
  · subst z
    rw [pk_us, zr_dx_n hl (by omega)]
    unfold zr_dx
    rw [if_pos ⟨by omega, h⟩]
  · rw [pk_un z]
    unfold zr_dx
    by_cases y : (a ≤ k ∧ k < e) ∧ ¬ hl k = 0
    · rw [if_pos y, if_pos ⟨by omega, y.2⟩]
    · rw [if_neg y, if_neg (fun w => y ⟨by omega, w.2⟩)]
/-- seen values refreshed for the pages lo .. x - 1 of the table at b -/
def zr_rf (se wr : Nat → Int32) (b lo x : Nat) : Nat → Int32 := fun k => if (b + 4 + lo ≤ k ∧ k < b + 4 + x) ∨ (lo < x ∧ b + lo / 4 ≤ k ∧ k ≤ b + (x - 1) / 4) then wr k else se k
theorem zr_rf_0 (se wr : Nat → Int32) (b lo : Nat) : zr_rf se wr b lo lo = se := by
  funext k
  unfold zr_rf
  rw [if_neg (by omega)]
theorem zr_rf_u (se wr : Nat → Int32) {b lo x : Nat} (h : lo ≤ x) : upd (upd (zr_rf se wr b lo x) (b + x / 4) (wr (b + x / 4))) (b + 4 + x) (wr (b + 4 + x)) = zr_rf se wr b lo (x + 1) := by
  funext k
  by_cases z : k = b + 4 + x
  · subst z
    rw [pk_us]
    unfold zr_rf
    rw [if_pos (by omega)]
  · rw [pk_un z]
    by_cases y : k = b + x / 4
    · subst y
      rw [pk_us]
      unfold zr_rf
      rw [if_pos (by omega)]
    · rw [pk_un y]
      unfold zr_rf
      by_cases w : (b + 4 + lo ≤ k ∧ k < b + 4 + x) ∨ (lo < x ∧ b + lo / 4 ≤ k ∧ k ≤ b + (x - 1) / 4)
      · rw [if_pos w, if_pos (by omega)]
      · rw [if_neg w, if_neg (by omega)]
section
variable {cL pL rL wL ph pc ch cc rc : Nat} {aw wb wm pl pm fd lf gc : Int32} {wr se sc sv dm md ws pr lw nw cr rl gs ct hl th lm : Nat → Int32}
theorem zr_R_aw1 {a : Nat} (ha : a ≤ 3) (R : zr_R cL pL rL wL ph pc ch cc rc aw wb wm pl pm gc wr se sc sv dm md ws pr lw nw cr rl gs hl th lm) : zr_R cL pL rL wL ph pc ch cc rc (aw ||| ((1 : Int32) <<< (nI a &&& 31))) wb wm pl pm gc wr se sc sv dm md ws pr lw nw cr rl gs hl (upd th a (th a ||| 8)) lm := by
  obtain ⟨hL, hW, hS, hC, hX, hA, hP, hM, hQ, hH⟩ := R
  obtain ⟨l1, l2, l3, l4, l5, l6, l7, l8, _⟩ := id hL
  obtain ⟨x1, x2, x3⟩ := hX
  refine ⟨hL, hW, hS, hC, ⟨fun i hi => ?_, fun i p q => ?_, fun i hi => ?_⟩, zr_Wal_fr (by omega) hA (fun i hi => pk_un (by omega)), zr_Pos_fr (by omega) hP (fun i hi => pk_un (by omega)), zr_Cmd_fr (by omega) hM (fun i hi => pk_un (by omega)), zr_ReqE_fr hQ (fun i hi => pk_un (by omega)), zr_Hel_fr hH (fun i hi => pk_un (by omega))⟩
  · obtain ⟨d, m, hd, hm, e1, e2, e3⟩ := x1 i hi
    rw [zb_set (by omega)]
    by_cases e : i = a
    · subst e
      have hb := zz_b1 (bt aw i)
      rw [pk_us, decide_eq_true rfl, Bool.or_true]
      refine ⟨d, m, hd, hm, e1, e2, ?_⟩
      rw [e3, zb_o8]
      congr 1
      show _ = d + 2 * m + 8 * 1
      by_cases z : (d + 2 * m + 8 * (bt aw i).toNat) / 8 % 2 = 0
      · rw [if_pos z]; omega
      · rw [if_neg z]; omega
    · rw [pk_un e, decide_eq_false e, Bool.or_false]
      exact ⟨d, m, hd, hm, e1, e2, e3⟩
  · rw [pk_un (by omega)]
    exact x2 i p q
  · rw [zb_set (by omega), x3 i hi, decide_eq_false (by omega)]
    rfl
theorem zr_R_dm {lo hi : Nat} (hh : hi ≤ 256) (R : zr_R cL pL rL wL ph pc ch cc rc aw wb wm pl pm gc wr se sc sv dm md ws pr lw nw cr rl gs hl th lm) : zr_R cL pL rL wL ph pc ch cc rc aw wb wm pl pm gc wr se sc sv dm md ws pr lw nw cr rl gs (zr_dx hl lo hi) (zr_mk th (1280 + lo) (1280 + hi) 64) lm := by
  obtain ⟨hL, hW, hS, hC, hX, hA, hP, hM, hQ, hH⟩ := R
  obtain ⟨l1, l2, l3, l4, l5, l6, l7, l8, _⟩ := id hL
  refine ⟨hL, hW, hS, hC, zr_Ctx_fr hX (fun i hi => zr_mk_n th 64 (by omega)), zr_Wal_fr (by omega) hA (fun i hi => zr_mk_n th 64 (by omega)), zr_Pos_fr (by omega) hP (fun i hi => zr_mk_n th 64 (by omega)), zr_Cmd_fr (by omega) hM (fun i hi => zr_mk_n th 64 (by omega)), zr_ReqE_fr hQ (fun i hi => zr_mk_n th 64 (by omega)), fun i hii => ?_⟩
  rcases hH i hii with ⟨a, b⟩ | ⟨n, n0, hn, a, b⟩
  · refine Or.inl ⟨?_, ?_⟩
    · have : zr_dx hl lo hi i = hl i := if_neg (fun z => z.2 a)
      rw [this, a]
    · have : zr_mk th (1280 + lo) (1280 + hi) 64 (1280 + i) = th (1280 + i) := if_neg (fun z => absurd z.2 (by rw [b]; decide))
      rw [this, b]
  · by_cases z : lo ≤ i ∧ i < hi
    · refine Or.inr ⟨if n / 64 % 2 = 0 then n + 64 else n, ?_, ?_, ?_, ?_⟩
      · by_cases y : n / 64 % 2 = 0
        · rw [if_pos y]; omega
        · rw [if_neg y]; omega
      · by_cases y : n / 64 % 2 = 0
        · rw [if_pos y]; omega
        · rw [if_neg y]; omega
      · have : zr_dx hl lo hi i = hl i ||| 64 := if_pos ⟨z, by rw [a]; exact nI_ne0 n0 (by omega)⟩
        rw [this, a, zb_o64]
      · have : zr_mk th (1280 + lo) (1280 + hi) 64 (1280 + i) = th (1280 + i) ||| 64 := if_pos ⟨by omega, by rw [b]; exact nI_pos' (by omega)⟩
        rw [this, b, zb_o64]
    · rw [zr_dx_n hl z, zr_mk_n th 64 (by omega)]
      exact Or.inr ⟨n, n0, hn, a, b⟩
theorem zr_R_rf {b lo x : Nat} {sv' : Nat → Int32} (hC' : zr_Cac (zr_rf se wr b lo x) sc sv') (R : zr_R cL pL rL wL ph pc ch cc rc aw wb wm pl pm gc wr se sc sv dm md ws pr lw nw cr rl gs hl th lm) : zr_R cL pL rL wL ph pc ch cc rc aw wb wm pl pm gc wr (zr_rf se wr b lo x) sc sv' dm md ws pr lw nw cr rl gs hl th lm := by
  obtain ⟨hL, hW, hS, hC, hX, hA, hP, hM, hQ, hH⟩ := R
  refine ⟨hL, hW, fun k => ?_, hC', hX, hA, hP, hM, hQ, hH⟩
  unfold zr_rf
  by_cases w : (b + 4 + lo ≤ k ∧ k < b + 4 + x) ∨ (lo < x ∧ b + lo / 4 ≤ k ∧ k ≤ b + (x - 1) / 4)
  · rw [if_pos w]
    exact hW k
  · rw [if_neg w]
    exact hS k
theorem zr_R_pop (hc : 0 < cc) (R : zr_R cL pL rL wL ph pc ch cc rc aw wb wm pl pm gc wr se sc sv dm md ws pr lw nw cr rl gs hl th lm) : zr_R cL pL rL wL ph pc ((ch + 1) % 16) (cc - 1) rc aw wb wm pl pm gc wr se sc sv dm md ws pr lw nw cr rl gs hl (zr_rm th 1024 1040) lm := by
  obtain ⟨hL, hW, hS, hC, hX, hA, hP, hM, hQ, hH⟩ := R
  obtain ⟨l1, l2, l3, l4, l5, l6, l7, l8, _⟩ := id hL
  obtain ⟨h1, h2, h3, h4⟩ := hM
  refine ⟨hL, hW, hS, hC, zr_Ctx_fr hX (fun i hi => if_neg (by omega)), zr_Wal_fr (by omega) hA (fun i hi => if_neg (by omega)), zr_Pos_fr (by omega) hP (fun i hi => if_neg (by omega)), ⟨by omega, by omega, fun i hi => ?_, fun i a b => ?_⟩, zr_ReqE_fr hQ (fun i hi => if_neg (by omega)), zr_Hel_fr hH (fun i hi => if_neg (by omega))⟩
  · have e : zr_rm th 1024 1040 (1024 + i) = th (1024 + (i + 1)) := if_pos (by omega)
    rw [e, show ((ch + 1) % 16 + i) % 16 = (ch + (i + 1)) % 16 from by omega]
    exact h3 (i + 1) (by omega)
  · rcases Nat.lt_or_ge i 16 with y | y
    · have e : zr_rm th 1024 1040 (1024 + i) = th (1024 + (i + 1)) := if_pos (by omega)
      rw [e]
      exact h4 (i + 1) (by omega) (by omega)
    · have e : zr_rm th 1024 1040 (1024 + i) = th (1024 + i) := if_neg (by omega)
      rw [e]
      exact h4 i (by omega) b
theorem zr_R_arr {x : Int32} (hc : 0 < cc) (hx : zr_Ok x) (R : zr_R cL pL rL wL ph pc ch cc rc aw wb wm pl pm gc wr se sc sv dm md ws pr lw nw cr rl gs hl th lm) : zr_R cL pL rL wL ph pc ch cc rc aw wb wm pl pm gc wr se sc sv dm md ws pr lw nw (upd cr ch x) rl gs hl (upd th 1024 x) lm := by
  obtain ⟨hL, hW, hS, hC, hX, hA, hP, hM, hQ, hH⟩ := R
  obtain ⟨l1, l2, l3, l4, l5, l6, l7, l8, _⟩ := id hL
  obtain ⟨h1, h2, h3, h4⟩ := hM
  refine ⟨hL, hW, hS, hC, zr_Ctx_fr hX (fun i hi => pk_un (by omega)), zr_Wal_fr (by omega) hA (fun i hi => pk_un (by omega)), zr_Pos_fr (by omega) hP (fun i hi => pk_un (by omega)), ⟨h1, h2, fun i hi => ?_, fun i a b => ?_⟩, zr_ReqE_fr hQ (fun i hi => pk_un (by omega)), zr_Hel_fr hH (fun i hi => pk_un (by omega))⟩
  · by_cases e : i = 0
    · subst e
      rw [Nat.add_zero, Nat.add_zero, Nat.mod_eq_of_lt h1, pk_us, pk_us]
      exact ⟨rfl, hx⟩
    · rw [pk_un (by omega), pk_un (by omega)]
      exact h3 i hi
  · rw [pk_un (by omega)]
    exact h4 i a b
/-- the component dooms -/
theorem zx_doom {post : SX → Prop} {a lo hi : Nat} {p0 p1 p2 : Int32} (ha : a ≤ 3) (hl1 : lo ≤ hi) (hh : hi ≤ 64) (e0 : p0 = nI a) (e1 : p1 = nI lo) (e2 : p2 = nI hi) (h : post (nI cL, nI pL, nI rL, nI wL, aw ||| ((1 : Int32) <<< (nI a &&& 31)), wb, wm, nI ph, nI pc, pl, pm, nI ch, nI cc, fd, lf, nI rc, gc, wr, se, sc, sv, dm, md, ws, pr, lw, nw, cr, rl, gs, ct, zr_dx hl (64 * a + lo) (64 * a + hi))) : wpX_doom post (nI cL, nI pL, nI rL, nI wL, aw, wb, wm, nI ph, nI pc, pl, pm, nI ch, nI cc, fd, lf, nI rc, gc, wr, se, sc, sv, dm, md, ws, pr, lw, nw, cr, rl, gs, ct, hl) p0 p1 p2 := by
  subst e0 e1 e2
  have lp : ∀ d j : Nat, j + d = hi → lo ≤ j → wX_doom_3 post (nI a) (nI hi) (nI cL) (nI pL) (nI rL) (nI wL) aw wb wm (nI ph) (nI pc) pl pm (nI ch) (nI cc) fd lf (nI rc) gc (d + 1) (nI j) wr se sc sv dm md ws pr lw nw cr rl gs ct (zr_dx hl (64 * a + lo) (64 * a + j)) := by
    intro d
    induction d with
    | zero =>
      intro j hj hlj
      have hj' : j = hi := by omega
      subst hj'
      unfold wX_doom_3
      exact br_t (nI_le (Nat.le_refl _) (by omega)) (nm_e h)
    | succ d ih =>
      intro j hj hlj
      have ix : nI a * 64 + nI j = nI (64 * a + j) := by
        show nI a * nI 64 + nI j = _
        rw [pk_mul, nI_add, Nat.mul_comm]
      unfold wX_doom_3
      refine br_f (nI_ge (by omega) (by omega)) (nm_r ix ?_)
      rw [nI_clamp (n := 64 * a + j) (by omega)]
      have hx : zr_dx hl (64 * a + lo) (64 * a + j) (64 * a + j) = hl (64 * a + j) := zr_dx_n hl (by omega)
      refine ⟨vp_in_nI (by omega) (by omega), br_c (fun z => nm_r (nI_1 j) ?_) (fun z => ⟨vp_in_nI (by omega) (by omega), vp_in_nI (by omega) (by omega), ?_⟩)⟩
      · rw [hx] at z
        rw [← zr_dx_s hl z]
        exact ih (j + 1) (by omega) (by omega)
      · rw [hx] at z
        exact nm_r (zr_dx_u hl (by omega) z) (nm_r (nI_1 j) (ih (j + 1) (by omega) (by omega)))
  unfold wpX_doom
  have hh0 := lp (hi - lo) lo (by omega) (Nat.le_refl _)
  rw [zr_dx_0] at hh0
  exact ⟨hi - lo + 1, hh0⟩
/-- the component refreshes -/
theorem zx_rf {post : SX → Prop} {b lo hi : Nat} {p0 p1 p2 : Int32} (hb : b ≤ 100) (hl1 : lo ≤ hi) (hh : hi ≤ 16) (e0 : p0 = nI b) (e1 : p1 = nI lo) (e2 : p2 = nI hi) (hC : zr_Cac se sc sv) (h : ∀ sv', zr_Cac (zr_rf se wr b lo hi) sc sv' → post (nI cL, nI pL, nI rL, nI wL, aw, wb, wm, nI ph, nI pc, pl, pm, nI ch, nI cc, fd, lf, nI rc, gc, wr, zr_rf se wr b lo hi, sc, sv', dm, md, ws, pr, lw, nw, cr, rl, gs, ct, hl)) : wpX_refresh post (nI cL, nI pL, nI rL, nI wL, aw, wb, wm, nI ph, nI pc, pl, pm, nI ch, nI cc, fd, lf, nI rc, gc, wr, se, sc, sv, dm, md, ws, pr, lw, nw, cr, rl, gs, ct, hl) p0 p1 p2 := by
  subst e0 e1 e2
  have lp : ∀ d j : Nat, j + d = hi → lo ≤ j → ∀ sv, zr_Cac (zr_rf se wr b lo j) sc sv → wX_refresh_3 post (nI b) (nI hi) (d + 1) (nI j) (nI cL) (nI pL) (nI rL) (nI wL) aw wb wm (nI ph) (nI pc) pl pm (nI ch) (nI cc) fd lf (nI rc) gc wr (zr_rf se wr b lo j) sc sv dm md ws pr lw nw cr rl gs ct hl := by
    intro d
    induction d with
    | zero =>
      intro j hj hlj sv hC
      have hj' : j = hi := by omega
      subst hj'
      unfold wX_refresh_3
      exact br_t (nI_le (Nat.le_refl _) (by omega)) (h sv hC)
    | succ d ih =>
      intro j hj hlj sv hC
      have i1 : nI b + (nI j >>> ((2 : Int32) &&& 31)) = nI (b + j / 4) := by
        rw [zb_s2 (by omega)]
        exact nI_add _ _
      have i2 : (nI b + 4) + nI j = nI (b + 4 + j) := by
        show (nI b + nI 4) + nI j = _
        rw [nI_add, nI_add]
      unfold wX_refresh_3
      refine br_f (nI_ge (by omega) (by omega)) (nm_r i1 (nm_r i2 ?_))
      rw [nI_clamp (n := b + j / 4) (by omega), nI_clamp (n := b + 4 + j) (by omega)]
      refine ⟨vp_in_nI (by omega) (by omega), zx_ss (by omega) rfl hC (fun sv1 hC1 => ⟨vp_in_nI (by omega) (by omega), zx_ss (by omega) rfl hC1 (fun sv2 hC2 => nm_r (nI_1 j) ?_)⟩)⟩
      rw [zr_rf_u se wr hlj] at hC2 ⊢
      exact ih (j + 1) (by omega) (by omega) sv2 hC2
  unfold wpX_refresh
  have hh0 := lp (hi - lo) lo (by omega) (Nat.le_refl _) sv (by rw [zr_rf_0]; exact hC)
  rw [zr_rf_0] at hh0
  exact ⟨hi - lo + 1, hh0⟩
/-- the reference's last step -/
theorem zy_357 {post : Int32 → SY → Prop} (h : post 1 (fd, lf, wr, se, zr_rm th 1024 1040, lm, ct, lw)) : wY_carryOut_357 post fd lf wr se th lm ct lw := by
  unfold wY_carryOut_357
  exact zy_rm 4 0 (by omega) (by omega) rfl rfl h
theorem zy_277 {post : Int32 → SY → Prop} {c b q : Nat} {x2 : Int32} (h2 : ¬ 2 ≤ x2) (hc : c ≤ 4) (hb : b < 16) (hq : q ≤ 100) (h : post 1 (fd, lf, wr, zr_rf se wr q (b / 2 ^ c * 2 ^ c) (b / 2 ^ c * 2 ^ c + 2 ^ c), zr_rm th 1024 1040, lm, ct, lw)) : ∃ n277 : Nat, wY_carryOut_277 post x2 (nI c) (nI b) (nI q) fd lf n277 0 wr se th lm ct lw := by
  have g1 := zz_blk (c := c) (b := b) (by omega) (by omega)
  have g2 := zz_blk16 hc hb
  have gi : ∀ j, j < 16 → (nI j >>> (nI c &&& 31) = nI b >>> (nI c &&& 31) ↔ b / 2 ^ c * 2 ^ c ≤ j ∧ j < b / 2 ^ c * 2 ^ c + 2 ^ c) := fun j hj => zz_in2 (by omega) (by omega) (by omega)
  generalize b / 2 ^ c * 2 ^ c + 2 ^ c = hi at *
  generalize b / 2 ^ c * 2 ^ c = lo at *
  have lp : ∀ d j : Nat, j + d = 16 → wY_carryOut_277 post x2 (nI c) (nI b) (nI q) fd lf (d + 1) (nI j) wr (zr_rf se wr q lo (zz_e lo hi j)) th lm ct lw := by
    intro d
    induction d with
    | zero =>
      intro j hj
      have hj' : j = 16 := by omega
      subst hj'
      unfold wY_carryOut_277
      rw [zz_e_n g2 g1.1]
      exact br_f h2 (br_t (by decide) (zy_357 h))
    | succ d ih =>
      intro j hj
      have id4 : nI j / 4 = nI (j / 4) := pk_div (d := 4) (by omega) (by omega) (by omega)
      have i2 : (nI q + 4) + nI j = nI (q + 4 + j) := by
        show (nI q + nI 4) + nI j = _
        rw [nI_add, nI_add]
      have hh := ih (j + 1) (by omega)
      unfold wY_carryOut_277
      rw [id4, nI_add q, i2, nI_clamp (n := q + j / 4) (by omega), nI_clamp (n := q + 4 + j) (by omega)]
      refine br_f h2 (br_f (nI_ge (b := 16) (by omega) (by omega)) (br_c (fun z => ?_) (fun z => nm_r (nI_1 j) ?_)))
      · rw [gi j (by omega)] at z
        obtain ⟨e1, e2⟩ := zz_e_in z.1 z.2
        rw [e1]
        rw [e2, ← zr_rf_u se wr z.1] at hh
        exact ⟨by decide, by decide, vp_in_nI (by omega) (by omega), vp_in_nI (by omega) (by omega), nm_e ⟨vp_in_nI (by omega) (by omega), vp_in_nI (by omega) (by omega), nm_e (nm_r (nI_1 j) hh)⟩⟩
      · rw [gi j (by omega)] at z
        rw [zz_e_out (by omega) z] at hh
        exact hh
  have hh0 := lp 16 0 (by omega)
  rw [zz_e_0, zr_rf_0] at hh0
  exact ⟨17, hh0⟩
theorem zy_203 {post : Int32 → SY → Prop} {c b a : Nat} {x6 : Int32} (hc : c ≤ 6) (hb : b < 64) (ha : a ≤ 3) (h : post 1 (fd, lf, wr, se, zr_rm (zr_mk th (1280 + (64 * a + b / 2 ^ c * 2 ^ c)) (1280 + (64 * a + (b / 2 ^ c * 2 ^ c + 2 ^ c))) 64) 1024 1040, lm, ct, lw)) : ∃ n203 : Nat, wY_carryOut_203 post 2 (nI c) (nI b) (nI a) x6 fd lf n203 0 wr se th lm ct lw := by
  have g1 := zz_blk (c := c) (b := b) hc hb
  have gi : ∀ j, j < 64 → (nI j >>> (nI c &&& 31) = nI b >>> (nI c &&& 31) ↔ b / 2 ^ c * 2 ^ c ≤ j ∧ j < b / 2 ^ c * 2 ^ c + 2 ^ c) := fun j hj => zz_in2 hc hb hj
  generalize b / 2 ^ c * 2 ^ c + 2 ^ c = hi at *
  generalize b / 2 ^ c * 2 ^ c = lo at *
  have lp : ∀ d j : Nat, j + d = 64 → wY_carryOut_203 post 2 (nI c) (nI b) (nI a) x6 fd lf (d + 1) (nI j) wr se (zr_mk th (1280 + (64 * a + lo)) (1280 + (64 * a + zz_e lo hi j)) 64) lm ct lw := by
    intro d
    induction d with
    | zero =>
      intro j hj
      have hj' : j = 64 := by omega
      subst hj'
      unfold wY_carryOut_203
      rw [zz_e_n g1.2 g1.1]
      refine br_t rfl (br_t (by decide) ⟨1, ?_⟩)
      unfold wY_carryOut_277
      exact br_t (by decide) (zy_357 h)
    | succ d ih =>
      intro j hj
      have ix : (1280 + (64 * nI a)) + nI j = nI (1280 + (64 * a + j)) := by
        show (nI 1280 + (nI 64 * nI a)) + nI j = _
        rw [pk_mul, nI_add, nI_add]
        exact congrArg nI (by omega)
      have hh := ih (j + 1) (by omega)
      unfold wY_carryOut_203
      rw [ix, nI_clamp (n := 1280 + (64 * a + j)) (by omega)]
      refine br_t rfl (br_f (nI_ge (b := 64) (by omega) (by omega)) (br_c (fun z => ⟨vp_in_nI (by omega) (by omega), ?_⟩) (fun z => nm_r (nI_1 j) ?_)))
      · rw [gi j (by omega)] at z
        obtain ⟨e1, e2⟩ := zz_e_in z.1 z.2
        rw [e1]
        have hx : zr_mk th (1280 + (64 * a + lo)) (1280 + (64 * a + j)) 64 (1280 + (64 * a + j)) = th (1280 + (64 * a + j)) := zr_mk_n th 64 (by omega)
        refine br_c (fun y => nm_r (nI_1 j) ?_) (fun y => ⟨vp_in_nI (by omega) (by omega), vp_in_nI (by omega) (by omega), ?_⟩)
        · rw [hx] at y
          rw [e2, show 1280 + (64 * a + (j + 1)) = 1280 + (64 * a + j) + 1 from by omega, zr_mk_s th 64 (Int32.not_le.mpr y)] at hh
          exact hh
        · rw [hx] at y
          rw [e2, show 1280 + (64 * a + (j + 1)) = 1280 + (64 * a + j) + 1 from by omega, ← zr_mk_u th 64 (by omega) (Int32.not_lt.mp y)] at hh
          exact nm_e (nm_r (nI_1 j) hh)
      · rw [gi j (by omega)] at z
        rw [zz_e_out (by omega) z] at hh
        exact hh
  have hh0 := lp 64 0 (by omega)
  rw [zz_e_0, zr_mk_0] at hh0
  exact ⟨65, hh0⟩
end
end
section
/-! fences, and one command on both sides -/
/-- something that a fence waits for shows at i -/
def zz_flg (th : Nat → Int32) (i : Nat) : Prop := (0 ≤ th (256 * 1 + i) ∧ ¬ th (256 * 1 + i) &&& 128 = 0) ∨ (0 ≤ th (256 * 2 + i) ∧ ¬ th (256 * 2 + i) &&& 16 = 0) ∨ (0 ≤ th (256 * 0 + i) ∧ ¬ th (256 * 0 + i) &&& 8 = 0)
section
variable {cL pL rL wL ph pc ch cc rc : Nat} {aw wb wm pl pm fd lf gc : Int32} {wr se sc sv dm md ws pr lw nw cr rl gs ct hl th lm : Nat → Int32}
theorem zz_flg_iff (R : zr_R cL pL rL wL ph pc ch cc rc aw wb wm pl pm gc wr se sc sv dm md ws pr lw nw cr rl gs hl th lm) : (∃ i, i < 8 ∧ zz_flg th i) ↔ ¬ (wm = 0 ∧ pm = 0 ∧ aw = 0) := by
  obtain ⟨hL, hW, hS, hC, hX, hA, hP, hM, hQ, hH⟩ := R
  obtain ⟨l1, l2, l3, l4, l5, l6, l7, l8, _⟩ := hL
  constructor
  · rintro ⟨i, hi, h⟩ ⟨z1, z2, z3⟩
    rcases h with ⟨h0, h1⟩ | ⟨h0, h1⟩ | ⟨h0, h1⟩
    · rw [show 256 * 1 + i = 256 + i from rfl] at h0 h1
      cases hb : bt wb i with
      | false =>
        rw [hA.2.1 i (by omega) hb] at h0
        exact absurd h0 (by decide)
      | true =>
        obtain ⟨_, f, d, w, hf, hd, hw, _, e⟩ := hA.1 i hb
        rw [z1, b_0] at e
        rw [e, zb_p128] at h1
        apply h1
        show nI (128 * ((f + 64 * d + 128 * 0 + 256 * w) / 128 % 2)) = 0
        rw [show 128 * ((f + 64 * d + 128 * 0 + 256 * w) / 128 % 2) = 0 from by omega]
        rfl
    · rw [show 256 * 2 + i = 512 + i from rfl] at h0 h1
      rcases Nat.lt_or_ge i pc with y | y
      · obtain ⟨f, w, hf, hw, _, e⟩ := hP.2.2.1 i y
        rw [z2, b_0] at e
        rw [e, zb_p16] at h1
        apply h1
        show nI (16 * ((f + 16 * 0 + 32 * w) / 16 % 2)) = 0
        rw [show 16 * ((f + 16 * 0 + 32 * w) / 16 % 2) = 0 from by omega]
        rfl
      · rw [hP.2.2.2.1 i y (by omega)] at h0
        exact absurd h0 (by decide)
    · rw [show 256 * 0 + i = i from Nat.zero_add i] at h0 h1
      rcases Nat.lt_or_ge i 4 with y | y
      · obtain ⟨d, m, hd, hm, _, _, e⟩ := hX.1 i y
        rw [z3, b_0] at e
        rw [e, zb_p8] at h1
        apply h1
        show nI (8 * ((d + 2 * m + 8 * 0) / 8 % 2)) = 0
        rw [show 8 * ((d + 2 * m + 8 * 0) / 8 % 2) = 0 from by omega]
        rfl
      · rw [hX.2.1 i y (by omega)] at h0
        exact absurd h0 (by decide)
  · intro h
    by_cases hn : ∃ i, i < 8 ∧ zz_flg th i
    · exact hn
    refine absurd ⟨?_, ?_, ?_⟩ h
    · rw [zb_0]
      intro j
      refine zz_bf (fun hb => ?_)
      obtain ⟨hj, f, d, w, hf, hd, hw, _, e⟩ := hA.1 j (hA.2.2 j hb)
      rw [hb] at e
      refine hn ⟨j, by omega, Or.inl ?_⟩
      rw [show 256 * 1 + j = 256 + j from rfl, e]
      refine ⟨nI_pos' (by show f + 64 * d + 128 * 1 + 256 * w < 2 ^ 31; omega), ?_⟩
      show ¬ nI (f + 64 * d + 128 * 1 + 256 * w) &&& 128 = 0
      rw [zb_p128, show 128 * ((f + 64 * d + 128 * 1 + 256 * w) / 128 % 2) = 128 from by omega]
      decide
    · rw [zb_0]
      intro j
      refine zz_bf (fun hb => ?_)
      obtain ⟨p1, p2, p3, p4, p5, p6, p7, p8⟩ := hP
      have hpl := p7 j hb
      have hj : j < 8 := by
        rcases Nat.lt_or_ge j 8 with y | y
        · exact y
        · rw [p6 j y] at hpl
          exact nomatch hpl
      have hix : (ph + (j + 8 - ph) % 8) % 8 = j := by omega
      have h5 := p5 ((j + 8 - ph) % 8) (by omega)
      rw [hix, hpl] at h5
      have hlt : (j + 8 - ph) % 8 < pc := of_decide_eq_true h5.symm
      obtain ⟨f, w, hf, hw, _, e⟩ := p3 ((j + 8 - ph) % 8) hlt
      rw [hix, hb] at e
      refine hn ⟨(j + 8 - ph) % 8, by omega, Or.inr (Or.inl ?_)⟩
      rw [show 256 * 2 + (j + 8 - ph) % 8 = 512 + (j + 8 - ph) % 8 from rfl, e]
      refine ⟨nI_pos' (by show f + 16 * 1 + 32 * w < 2 ^ 31; omega), ?_⟩
      show ¬ nI (f + 16 * 1 + 32 * w) &&& 16 = 0
      rw [zb_p16, show 16 * ((f + 16 * 1 + 32 * w) / 16 % 2) = 16 from by omega]
      decide
    · rw [zb_0]
      intro j
      refine zz_bf (fun hb => ?_)
      have hj : j < 4 := by
        rcases Nat.lt_or_ge j 4 with y | y
        · exact y
        · rw [hX.2.2 j y] at hb
          exact nomatch hb
      obtain ⟨d, m, hd, hm, _, _, e⟩ := hX.1 j hj
      rw [hb] at e
      refine hn ⟨j, by omega, Or.inr (Or.inr ?_)⟩
      rw [show 256 * 0 + j = j from Nat.zero_add j, e]
      refine ⟨nI_pos' (by show d + 2 * m + 8 * 1 < 2 ^ 31; omega), ?_⟩
      show ¬ nI (d + 2 * m + 8 * 1) &&& 8 = 0
      rw [zb_p8, show 8 * ((d + 2 * m + 8 * 1) / 8 % 2) = 8 from by omega]
      decide
variable {post : Int32 → SY → Prop} {x3 x4 x5 x6 : Int32}
theorem zy_105_t (hn : ∀ i, i < 8 → ¬ zz_flg th i) (h : wY_carryOut_162 post 3 x3 x4 x5 x6 fd lf wr se th lm ct lw) : ∃ n105 : Nat, wY_carryOut_105 post 3 x3 x4 x5 x6 fd lf wr se th lm ct lw n105 0 := by
  have lp : ∀ d j : Nat, j + d = 8 → wY_carryOut_105 post 3 x3 x4 x5 x6 fd lf wr se th lm ct lw (d + 1) (nI j) := by
    intro d
    induction d with
    | zero =>
      intro j hj
      have hj' : j = 8 := by omega
      subst hj'
      unfold wY_carryOut_105
      exact br_t rfl (br_t (by decide) h)
    | succ d ih =>
      intro j hj
      have hf := hn j (by omega)
      unfold wY_carryOut_105
      refine br_t rfl (br_f (nI_ge (b := 8) (by omega) (by omega)) ?_)
      refine zy_flag_f (w := 1) (i := j) (by omega) (by omega) rfl rfl (fun z => hf (Or.inl z)) (br_t rfl ?_)
      refine zy_flag_f (w := 2) (i := j) (by omega) (by omega) rfl rfl (fun z => hf (Or.inr (Or.inl z))) (br_t rfl ?_)
      exact zy_flag_f (w := 0) (i := j) (by omega) (by omega) rfl rfl (fun z => hf (Or.inr (Or.inr z))) (br_t rfl (nm_r (nI_1 j) (ih (j + 1) (by omega))))
  exact ⟨9, lp 8 0 (by omega)⟩
theorem zy_105_f (hn : ∃ i, i < 8 ∧ zz_flg th i) (h : post 0 (fd, lf, wr, se, th, lm, ct, lw)) : ∃ n105 : Nat, wY_carryOut_105 post 3 x3 x4 x5 x6 fd lf wr se th lm ct lw n105 0 := by
  have lp : ∀ d j : Nat, j + d = 8 → (∃ i, j ≤ i ∧ i < 8 ∧ zz_flg th i) → wY_carryOut_105 post 3 x3 x4 x5 x6 fd lf wr se th lm ct lw (d + 1) (nI j) := by
    intro d
    induction d with
    | zero =>
      rintro j hj ⟨i, h1, h2, _⟩
      omega
    | succ d ih =>
      rintro j hj ⟨i, h1, h2, hi⟩
      unfold wY_carryOut_105
      refine br_t rfl (br_f (nI_ge (b := 8) (by omega) (by omega)) ?_)
      by_cases f1 : 0 ≤ th (256 * 1 + j) ∧ ¬ th (256 * 1 + j) &&& 128 = 0
      · exact zy_flag_t (w := 1) (i := j) (by omega) (by omega) rfl rfl f1.1 f1.2 (br_f (by decide) h)
      refine zy_flag_f (w := 1) (i := j) (by omega) (by omega) rfl rfl f1 (br_t rfl ?_)
      by_cases f2 : 0 ≤ th (256 * 2 + j) ∧ ¬ th (256 * 2 + j) &&& 16 = 0
      · exact zy_flag_t (w := 2) (i := j) (by omega) (by omega) rfl rfl f2.1 f2.2 (br_f (by decide) h)
      refine zy_flag_f (w := 2) (i := j) (by omega) (by omega) rfl rfl f2 (br_t rfl ?_)
      by_cases f3 : 0 ≤ th (256 * 0 + j) ∧ ¬ th (256 * 0 + j) &&& 8 = 0
      · exact zy_flag_t (w := 0) (i := j) (by omega) (by omega) rfl rfl f3.1 f3.2 (br_f (by decide) h)
      refine zy_flag_f (w := 0) (i := j) (by omega) (by omega) rfl rfl f3 (br_t rfl (nm_r (nI_1 j) (ih (j + 1) (by omega) ?_)))
      by_cases e : i = j
      · subst e
        rcases hi with z | z | z
        · exact absurd z f1
        · exact absurd z f2
        · exact absurd z f3
      · exact ⟨i, by omega, h2, hi⟩
  obtain ⟨i, h1, h2⟩ := hn
  exact ⟨9, lp 8 0 (by omega) ⟨i, Nat.zero_le _, h1, h2⟩⟩
theorem zy_162 (h : post 1 (fd + 1, x5, wr, se, zr_rm th 1024 1040, lm, ct, lw)) : wY_carryOut_162 post 3 x3 x4 x5 x6 fd lf wr se th lm ct lw := by
  unfold wY_carryOut_162
  refine br_t rfl (nm_e ?_)
  unfold wY_carryOut_183
  refine br_f (by decide) ⟨1, ?_⟩
  unfold wY_carryOut_203
  refine br_f (by decide) ⟨1, ?_⟩
  unfold wY_carryOut_277
  exact br_t (by decide) (zy_357 h)
end
end
section
/-! one command, on both sides -/
section
variable {cL pL rL wL ph pc ch cc rc : Nat} {aw wb wm pl pm fd lf gc : Int32} {wr se sc sv dm md ws pr lw nw cr rl gs ct hl th lm : Nat → Int32}
/-- a fence at the head that has arrived -/
theorem zz_fence {a : Nat} {p0 x3 x4 x6 : Int32} (R : zr_R cL pL rL wL ph pc ch cc rc aw wb wm pl pm gc wr se sc sv dm md ws pr lw nw cr rl gs hl th lm) (hc : 0 < cc) (ea : (p0 >>> ((11 : Int32) &&& 31)) &&& 255 = nI a) :
    ((∀ post : Int32 → SX → Prop, post 0 (nI cL, nI pL, nI rL, nI wL, aw, wb, wm, nI ph, nI pc, pl, pm, nI ch, nI cc, fd, lf, nI rc, gc, wr, se, sc, sv, dm, md, ws, pr, lw, nw, cr, rl, gs, ct, hl) → wX_passFence_36 post p0 (nI cL) (nI pL) (nI rL) (nI wL) aw wb wm (nI ph) (nI pc) pl pm (nI ch) (nI cc) fd lf (nI rc) gc wr se sc sv dm md ws pr lw nw cr rl gs ct hl) ∧ (∀ post : Int32 → SY → Prop, post 0 (fd, lf, wr, se, th, lm, ct, lw) → ∃ n105 : Nat, wY_carryOut_105 post 3 x3 x4 (nI a) x6 fd lf wr se th lm ct lw n105 0)) ∨
    ((∀ post : Int32 → SX → Prop, post 1 (nI cL, nI pL, nI rL, nI wL, aw, wb, wm, nI ph, nI pc, pl, pm, nI ch, nI cc, fd + 1, nI a, nI rc, gc, wr, se, sc, sv, dm, md, ws, pr, lw, nw, cr, rl, gs, ct, hl) → wX_passFence_36 post p0 (nI cL) (nI pL) (nI rL) (nI wL) aw wb wm (nI ph) (nI pc) pl pm (nI ch) (nI cc) fd lf (nI rc) gc wr se sc sv dm md ws pr lw nw cr rl gs ct hl) ∧ (∀ post : Int32 → SY → Prop, post 1 (fd + 1, nI a, wr, se, zr_rm th 1024 1040, lm, ct, lw) → ∃ n105 : Nat, wY_carryOut_105 post 3 x3 x4 (nI a) x6 fd lf wr se th lm ct lw n105 0)) := by
  by_cases h : wm = 0 ∧ pm = 0 ∧ aw = 0
  · refine Or.inr ⟨fun post p => ?_, fun post p => zy_105_t (fun i hi z => (zz_flg_iff R).mp ⟨i, hi, z⟩ h) (zy_162 p)⟩
    unfold wX_passFence_36
    exact br_t h.1 (br_t h.2.1 (br_t h.2.2 (nm_e (nm_r ea p))))
  · refine Or.inl ⟨fun post p => ?_, fun post p => zy_105_f ((zz_flg_iff R).mpr h) p⟩
    unfold wX_passFence_36
    by_cases h1 : wm = 0
    · refine br_t h1 ?_
      by_cases h2 : pm = 0
      · refine br_t h2 ?_
        by_cases h3 : aw = 0
        · exact absurd ⟨h1, h2, h3⟩ h
        · exact br_f h3 p
      · exact br_f h2 p
    · exact br_f h1 p
theorem zz_step (R : zr_R cL pL rL wL ph pc ch cc rc aw wb wm pl pm gc wr se sc sv dm md ws pr lw nw cr rl gs hl th lm) (hc : 0 < cc) :
    (∃ (wm' pm' : Int32) (cr' th' : Nat → Int32), zr_R cL pL rL wL ph pc ch cc rc aw wb wm' pl pm' gc wr se sc sv dm md ws pr lw nw cr' rl gs hl th' lm ∧ (∀ post : Int32 → SX → Prop, post 0 (nI cL, nI pL, nI rL, nI wL, aw, wb, wm', nI ph, nI pc, pl, pm', nI ch, nI cc, fd, lf, nI rc, gc, wr, se, sc, sv, dm, md, ws, pr, lw, nw, cr', rl, gs, ct, hl) → wpX_carryOut post (nI cL, nI pL, nI rL, nI wL, aw, wb, wm, nI ph, nI pc, pl, pm, nI ch, nI cc, fd, lf, nI rc, gc, wr, se, sc, sv, dm, md, ws, pr, lw, nw, cr, rl, gs, ct, hl) (cr ch)) ∧ (∀ post : Int32 → SY → Prop, post 0 (fd, lf, wr, se, th', lm, ct, lw) → wpY_carryOut post (fd, lf, wr, se, th, lm, ct, lw))) ∨
    (∃ (aw' wm' pm' fd' lf' : Int32) (se' cr' hl' th' : Nat → Int32), (∀ post : Int32 → SX → Prop, (∀ sv', zr_R cL pL rL wL ph pc ((ch + 1) % 16) (cc - 1) rc aw' wb wm' pl pm' gc wr se' sc sv' dm md ws pr lw nw cr' rl gs hl' th' lm → post 1 (nI cL, nI pL, nI rL, nI wL, aw', wb, wm', nI ph, nI pc, pl, pm', nI ch, nI cc, fd', lf', nI rc, gc, wr, se', sc, sv', dm, md, ws, pr, lw, nw, cr', rl, gs, ct, hl')) → wpX_carryOut post (nI cL, nI pL, nI rL, nI wL, aw, wb, wm, nI ph, nI pc, pl, pm, nI ch, nI cc, fd, lf, nI rc, gc, wr, se, sc, sv, dm, md, ws, pr, lw, nw, cr, rl, gs, ct, hl) (cr ch)) ∧ (∀ post : Int32 → SY → Prop, post 1 (fd', lf', wr, se', th', lm, ct, lw) → wpY_carryOut post (fd, lf, wr, se, th, lm, ct, lw))) := by
  have hM := R.2.2.2.2.2.2.2.1
  have hch : ch < 16 := hM.1
  have h0 := hM.2.2.1 0 hc
  rw [Nat.add_zero, Nat.add_zero, Nat.mod_eq_of_lt hch] at h0
  obtain ⟨et, kd, c, b, a, ar, ec, hok⟩ := h0
  rw [ec] at et
  rcases hok with ⟨rfl, hr, ha, rfl, rfl⟩ | ⟨rfl, rfl, ha, hb, hcc⟩ | ⟨rfl, rfl, ha, hb, hcc⟩ | ⟨rfl, rfl, ha, hb, hcc⟩
  · have w3 := zz_wk (kd := 3) (c := 0) (b := 0) (a := a) (ar := ar) (by omega) (by omega) (by omega) ha hr
    have wc := zz_wc (kd := 3) (c := 0) (b := 0) (a := a) (ar := ar) (by omega) (by omega) (by omega) ha hr
    have wb' := zz_wb (kd := 3) (c := 0) (b := 0) (a := a) (ar := ar) (by omega) (by omega) (by omega) ha hr
    have wa := zz_wa (kd := 3) (c := 0) (b := 0) (a := a) (ar := ar) (by omega) (by omega) (by omega) ha hr
    rcases (by omega : ar = 0 ∨ ar = 1) with rfl | rfl
    · have e19 : nI (3 + 4 * 0 + 32 * 0 + 2048 * a + 524288 * 0) ||| 524288 = nI (3 + 4 * 0 + 32 * 0 + 2048 * a + 524288 * 1) := by
        rw [zb_o19, if_pos (by omega)]
      have ez : nI (3 + 4 * 0 + 32 * 0 + 2048 * a + 524288 * 0) &&& 524288 = 0 := by
        rw [zb_p19, show 524288 * ((3 + 4 * 0 + 32 * 0 + 2048 * a + 524288 * 0) / 524288 % 2) = 0 from by omega]
        rfl
      have ok1 : zr_Ok (nI (3 + 4 * 0 + 32 * 0 + 2048 * a + 524288 * 1)) := ⟨3, 0, 0, a, 1, rfl, Or.inl ⟨rfl, by omega, ha, rfl, rfl⟩⟩
      have R1 := zr_R_arr hc ok1 (zr_R_mkP (zr_R_mkW R))
      have ey : zr_mk (zr_mk th 256 264 128) 512 520 16 1024 + 524288 = nI (3 + 4 * 0 + 32 * 0 + 2048 * a + 524288 * 1) := by
        rw [zr_mk_n _ 16 (by omega), zr_mk_n th 128 (by omega), et]
        show nI _ + nI 524288 = _
        rw [nI_add]
      have xX : ∀ post : Int32 → SX → Prop, wX_passFence_36 (fun r u => narrow .boolean (.int r) = .int r ∧ post r u) (cr ch) (nI cL) (nI pL) (nI rL) (nI wL) aw wb wb (nI ph) (nI pc) pl pl (nI ch) (nI cc) fd lf (nI rc) gc wr se sc sv dm md ws pr lw nw (upd cr ch (nI (3 + 4 * 0 + 32 * 0 + 2048 * a + 524288 * 1))) rl gs ct hl → wpX_carryOut post (nI cL, nI pL, nI rL, nI wL, aw, wb, wm, nI ph, nI pc, pl, pm, nI ch, nI cc, fd, lf, nI rc, gc, wr, se, sc, sv, dm, md, ws, pr, lw, nw, cr, rl, gs, ct, hl) (cr ch) := by
        intro post h
        unfold wpX_carryOut
        rw [ec] at h ⊢
        refine nm_r w3 (br_t rfl ?_)
        unfold wpX_passFence
        refine br_t ez ?_
        rw [e19, nI_clamp (n := ch) (by omega)]
        exact ⟨vp_in_nI (by omega) (by omega), nm_e h⟩
      have yY : ∀ post : Int32 → SY → Prop, (∃ n105 : Nat, wY_carryOut_105 post 3 (nI 0) (nI 0) (nI a) (80 + (20 * nI a)) fd lf wr se (upd (zr_mk (zr_mk th 256 264 128) 512 520 16) 1024 (nI (3 + 4 * 0 + 32 * 0 + 2048 * a + 524288 * 1))) lm ct lw n105 0) → wpY_carryOut post (fd, lf, wr, se, th, lm, ct, lw) := by
        intro post h
        unfold wpY_carryOut
        refine nm_r et (nm_r w3 (nm_r wc (nm_r wb' (nm_r wa (br_f (by decide) ?_)))))
        unfold wY_carryOut_49
        refine nm_e (br_t (nI_pos' (by omega)) (br_t rfl (br_f (nI_ge (b := 524288) (by omega) (by omega)) ?_)))
        refine zy_mk 1 (by omega) rfl (zy_mk 2 (by omega) rfl ?_)
        exact nm_r (congrArg _ ey) h
      rcases zz_fence (ct := ct) (fd := fd) (lf := lf) (x3 := nI 0) (x4 := nI 0) (x6 := 80 + (20 * nI a)) R1 hc (p0 := cr ch) (a := a) (by rw [ec]; exact wa) with ⟨fX, fY⟩ | ⟨fX, fY⟩
      · exact Or.inl ⟨_, _, _, _, R1, fun post h => xX post (fX _ ⟨narrow_b0, h⟩), fun post h => yY post (fY post h)⟩
      · exact Or.inr ⟨_, _, _, _, _, _, _, _, _, fun post h => xX post (fX _ ⟨narrow_b1, h sv (zr_R_pop hc R1)⟩), fun post h => yY post (fY post h)⟩
    · have ez : ¬ nI (3 + 4 * 0 + 32 * 0 + 2048 * a + 524288 * 1) &&& 524288 = 0 := by
        rw [zb_p19, show 524288 * ((3 + 4 * 0 + 32 * 0 + 2048 * a + 524288 * 1) / 524288 % 2) = 524288 from by omega]
        decide
      have xX : ∀ post : Int32 → SX → Prop, wX_passFence_36 (fun r u => narrow .boolean (.int r) = .int r ∧ post r u) (cr ch) (nI cL) (nI pL) (nI rL) (nI wL) aw wb wm (nI ph) (nI pc) pl pm (nI ch) (nI cc) fd lf (nI rc) gc wr se sc sv dm md ws pr lw nw cr rl gs ct hl → wpX_carryOut post (nI cL, nI pL, nI rL, nI wL, aw, wb, wm, nI ph, nI pc, pl, pm, nI ch, nI cc, fd, lf, nI rc, gc, wr, se, sc, sv, dm, md, ws, pr, lw, nw, cr, rl, gs, ct, hl) (cr ch) := by
        intro post h
        unfold wpX_carryOut
        rw [ec] at h ⊢
        refine nm_r w3 (br_t rfl ?_)
        unfold wpX_passFence
        exact br_f ez h
      have yY : ∀ post : Int32 → SY → Prop, (∃ n105 : Nat, wY_carryOut_105 post 3 (nI 0) (nI 0) (nI a) (80 + (20 * nI a)) fd lf wr se th lm ct lw n105 0) → wpY_carryOut post (fd, lf, wr, se, th, lm, ct, lw) := by
        intro post h
        unfold wpY_carryOut
        refine nm_r et (nm_r w3 (nm_r wc (nm_r wb' (nm_r wa (br_f (by decide) ?_)))))
        unfold wY_carryOut_49
        exact nm_e (br_t (nI_pos' (by omega)) (br_t rfl (br_t (nI_le (a := 524288) (by omega) (by omega)) h)))
      rcases zz_fence (ct := ct) (fd := fd) (lf := lf) (x3 := nI 0) (x4 := nI 0) (x6 := 80 + (20 * nI a)) R hc (p0 := cr ch) (a := a) (by rw [ec]; exact wa) with ⟨fX, fY⟩ | ⟨fX, fY⟩
      · exact Or.inl ⟨_, _, _, _, R, fun post h => xX post (fX _ ⟨narrow_b0, h⟩), fun post h => yY post (fY post h)⟩
      · exact Or.inr ⟨_, _, _, _, _, _, _, _, _, fun post h => xX post (fX _ ⟨narrow_b1, h sv (zr_R_pop hc R)⟩), fun post h => yY post (fY post h)⟩
  · have w3 := zz_wk (kd := 2) (c := c) (b := b) (a := a) (ar := 0) (by omega) (by omega) (by omega) (by omega) (by omega)
    have wc := zz_wc (kd := 2) (c := c) (b := b) (a := a) (ar := 0) (by omega) (by omega) (by omega) (by omega) (by omega)
    have wb' := zz_wb (kd := 2) (c := c) (b := b) (a := a) (ar := 0) (by omega) (by omega) (by omega) (by omega) (by omega)
    have wa := zz_wa (kd := 2) (c := c) (b := b) (a := a) (ar := 0) (by omega) (by omega) (by omega) (by omega) (by omega)
    have g := zz_blk hcc hb
    have fr := zz_from hcc hb
    have R1 := zr_R_pop hc (zr_R_dm (lo := 64 * a + b / 2 ^ c * 2 ^ c) (hi := 64 * a + (b / 2 ^ c * 2 ^ c + 2 ^ c)) (by omega) (zr_R_aw1 (a := a) (by omega) R))
    refine Or.inr ⟨aw ||| ((1 : Int32) <<< (nI a &&& 31)), wm, pm, fd, lf, se, cr, zr_dx hl (64 * a + b / 2 ^ c * 2 ^ c) (64 * a + (b / 2 ^ c * 2 ^ c + 2 ^ c)), zr_rm (zr_mk (upd th a (th a ||| 8)) (1280 + (64 * a + b / 2 ^ c * 2 ^ c)) (1280 + (64 * a + (b / 2 ^ c * 2 ^ c + 2 ^ c))) 64) 1024 1040, fun post h => ?_, fun post h => ?_⟩
    · unfold wpX_carryOut
      rw [ec]
      refine nm_r w3 (br_f (by decide) (nm_r wc ?_))
      rw [wb', fr.1]
      exact nm_e (nm_r fr.2 (nm_r wa (br_t rfl (zx_doom (by omega) (by omega) g.2 rfl rfl rfl (h sv R1)))))
    · unfold wpY_carryOut
      refine nm_r et (nm_r w3 (nm_r wc (nm_r wb' (nm_r wa (br_f (by decide) ?_)))))
      unfold wY_carryOut_49
      refine nm_e (br_t (nI_pos' (by omega)) (br_f (by decide) ⟨1, ?_⟩))
      unfold wY_carryOut_105
      refine br_f (by decide) ?_
      unfold wY_carryOut_162
      refine br_f (by decide) ?_
      unfold wY_carryOut_183
      rw [nI_clamp (n := a) (by omega)]
      exact br_t rfl ⟨vp_in_nI (by omega) (by omega), vp_in_nI (by omega) (by omega), nm_e (zy_203 hcc hb (by omega) h)⟩
  · have w3 := zz_wk (kd := 1) (c := c) (b := b) (a := a) (ar := 0) (by omega) (by omega) (by omega) (by omega) (by omega)
    have wc := zz_wc (kd := 1) (c := c) (b := b) (a := a) (ar := 0) (by omega) (by omega) (by omega) (by omega) (by omega)
    have wb' := zz_wb (kd := 1) (c := c) (b := b) (a := a) (ar := 0) (by omega) (by omega) (by omega) (by omega) (by omega)
    have wa := zz_wa (kd := 1) (c := c) (b := b) (a := a) (ar := 0) (by omega) (by omega) (by omega) (by omega) (by omega)
    have g := zz_blk16 hcc hb
    have fr := zz_from (b := b) (c := c) (by omega) (by omega)
    have ix : nI a * 20 = nI (20 * a) := (pk_mul a 20).trans (congrArg nI (Nat.mul_comm _ _))
    have iy : 0 + 20 * nI a = nI (20 * a) := by
      rw [Int32.zero_add]
      exact pk_mul 20 a
    refine Or.inr ⟨aw, wm, pm, fd, lf, zr_rf se wr (20 * a) (b / 2 ^ c * 2 ^ c) (b / 2 ^ c * 2 ^ c + 2 ^ c), cr, hl, zr_rm th 1024 1040, fun post h => ?_, fun post h => ?_⟩
    · unfold wpX_carryOut
      rw [ec]
      refine nm_r w3 (br_f (by decide) (nm_r wc ?_))
      rw [wb', fr.1]
      refine nm_e (nm_r fr.2 (nm_r wa (br_f (by decide) (br_t rfl ?_))))
      exact zx_rf (by omega) (Nat.le_add_right _ _) g ix rfl rfl R.2.2.2.1 (fun sv' hC' => h sv' (zr_R_pop hc (zr_R_rf hC' R)))
    · unfold wpY_carryOut
      refine nm_r et (nm_r w3 (nm_r wc (nm_r wb' (nm_r wa (br_t rfl ?_)))))
      unfold wY_carryOut_49
      refine nm_r iy (br_t (nI_pos' (by omega)) (br_f (by decide) ⟨1, ?_⟩))
      unfold wY_carryOut_105
      refine br_f (by decide) ?_
      unfold wY_carryOut_162
      refine br_f (by decide) ?_
      unfold wY_carryOut_183
      refine br_f (by decide) ⟨1, ?_⟩
      unfold wY_carryOut_203
      exact br_f (by decide) (zy_277 (by decide) hcc hb (by omega) h)
  · have w3 := zz_wk (kd := 0) (c := c) (b := b) (a := a) (ar := 0) (by omega) (by omega) (by omega) (by omega) (by omega)
    have wc := zz_wc (kd := 0) (c := c) (b := b) (a := a) (ar := 0) (by omega) (by omega) (by omega) (by omega) (by omega)
    have wb' := zz_wb (kd := 0) (c := c) (b := b) (a := a) (ar := 0) (by omega) (by omega) (by omega) (by omega) (by omega)
    have wa := zz_wa (kd := 0) (c := c) (b := b) (a := a) (ar := 0) (by omega) (by omega) (by omega) (by omega) (by omega)
    have g := zz_blk16 hcc hb
    have fr := zz_from (b := b) (c := c) (by omega) (by omega)
    have ix : 80 + nI a * 20 = nI (80 + 20 * a) := by
      show nI 80 + nI a * nI 20 = _
      rw [pk_mul, nI_add, Nat.mul_comm a]
    have iy : 80 + 20 * nI a = nI (80 + 20 * a) := by
      show nI 80 + nI 20 * nI a = _
      rw [pk_mul, nI_add]
    refine Or.inr ⟨aw, wm, pm, fd, lf, zr_rf se wr (80 + 20 * a) (b / 2 ^ c * 2 ^ c) (b / 2 ^ c * 2 ^ c + 2 ^ c), cr, hl, zr_rm th 1024 1040, fun post h => ?_, fun post h => ?_⟩
    · unfold wpX_carryOut
      rw [ec]
      refine nm_r w3 (br_f (by decide) (nm_r wc ?_))
      rw [wb', fr.1]
      refine nm_e (nm_r fr.2 (nm_r wa (br_f (by decide) (br_f (by decide) ?_))))
      exact zx_rf (by omega) (Nat.le_add_right _ _) g ix rfl rfl R.2.2.2.1 (fun sv' hC' => h sv' (zr_R_pop hc (zr_R_rf hC' R)))
    · unfold wpY_carryOut
      refine nm_r et (nm_r w3 (nm_r wc (nm_r wb' (nm_r wa (br_f (by decide) ?_)))))
      unfold wY_carryOut_49
      refine nm_r iy (br_t (nI_pos' (by omega)) (br_f (by decide) ⟨1, ?_⟩))
      unfold wY_carryOut_105
      refine br_f (by decide) ?_
      unfold wY_carryOut_162
      refine br_f (by decide) ?_
      unfold wY_carryOut_183
      refine br_f (by decide) ⟨1, ?_⟩
      unfold wY_carryOut_203
      exact br_f (by decide) (zy_277 (by decide) hcc hb (by omega) h)
end
end
section
/-! run -/
theorem zz_run {k : Nat} {v1 : Int32} : ∀ (d j : Nat), j + d ≤ 16 → ∀ {cL pL rL wL ph pc ch cc rc : Nat} {aw wb wm pl pm fd lf gc : Int32} {wr se sc sv dm md ws pr lw nw cr rl gs ct hl th lm : Nat → Int32}, cc = d → zr_R cL pL rL wL ph pc ch cc rc aw wb wm pl pm gc wr se sc sv dm md ws pr lw nw cr rl gs hl th lm → ∀ G : (Int32 → SY → Prop) → Prop, (∀ postY : Int32 → SY → Prop, wY_run_2 postY v1 (d + 1) (nI j) fd lf wr se th lm ct lw → G postY) → wX_run_7 (fun r u' => G (fun r' v' => r' = r ∧ i_Rel k u' v')) v1 (d + 1) (nI j) (nI cc) (nI cL) (nI pL) (nI rL) (nI wL) aw wb wm (nI ph) (nI pc) pl pm (nI ch) (nI cc) fd lf (nI rc) gc wr se sc sv dm md ws pr lw nw cr rl gs ct hl := by
  intro d
  induction d with
  | zero =>
    intro j hj cL pL rL wL ph pc ch cc rc aw wb wm pl pm fd lf gc wr se sc sv dm md ws pr lw nw cr rl gs ct hl th lm hc R G hG
    subst hc
    unfold wX_run_7
    refine br_t (by decide) (hG _ ?_)
    unfold wY_run_2
    refine br_c (fun _ => ⟨rfl, zz_in R⟩) (fun _ => br_c (fun _ => ⟨rfl, zz_in R⟩) (fun _ => ?_))
    have et : th 1024 = -8 := R.2.2.2.2.2.2.2.1.2.2.2 0 (Nat.le_refl _) (by omega)
    unfold wpY_carryOut
    refine nm_r et (nm_e (nm_e (nm_e (nm_e (br_f (by decide) ?_)))))
    unfold wY_carryOut_49
    exact nm_e (br_f (by decide) (br_t rfl ⟨rfl, zz_in R⟩))
  | succ d ih =>
    intro j hj cL pL rL wL ph pc ch cc rc aw wb wm pl pm fd lf gc wr se sc sv dm md ws pr lw nw cr rl gs ct hl th lm hc R G hG
    have hM := R.2.2.2.2.2.2.2.1
    have hch : ch < 16 := hM.1
    unfold wX_run_7
    refine br_f (nI_nle (by omega) (by omega)) (br_c (fun z => hG _ ?_) (fun z => ⟨vp_in_nI (by omega) (by omega), ?_⟩))
    · unfold wY_run_2
      exact br_t z ⟨rfl, zz_in R⟩
    · rw [nI_clamp (n := ch) (by omega)]
      have h16 : ¬ (16 : Int32) ≤ nI j := nI_ge (b := 16) (by omega) (by omega)
      rcases zz_step (ct := ct) (fd := fd) (lf := lf) R (by omega) with ⟨wm', pm', cr', th', R', aX, aY⟩ | ⟨aw', wm', pm', fd', lf', se', cr', hl', th', aX, aY⟩
      · refine aX _ (br_t rfl (hG _ ?_))
        unfold wY_run_2
        exact br_f z (br_f h16 (aY _ (br_t rfl ⟨rfl, zz_in R'⟩)))
      · refine aX _ (fun sv' R' => br_f (by decide) ?_)
        have a3 : (nI ch + 1) &&& 15 = nI ((ch + 1) % 16) := by rw [nI_1, zb_m15 (by omega)]
        have a4 : nI cc - 1 = nI (cc - 1) := pk_sub (b := 1) (by omega)
        have a5 : nI cc + (-1) = nI (cc - 1) := (zz_m1 cc).trans a4
        refine nm_r a3 (nm_r a4 (nm_r (nI_1 j) (nm_r a5 (ih (j + 1) (by omega) (by omega) R' G (fun postY hy => hG postY ?_)))))
        unfold wY_run_2
        exact br_f z (br_f h16 (aY _ (br_f (by decide) (nm_r (nI_1 j) hy))))
theorem i_vc_run {k : Nat} {u : SX} {v : SY} (I : i_Rel k u v) (hk : k + 5 ≤ 2564) (v1 : Int32) : wpX_run (fun r u' => wpY_run (fun r' v' => r' = r ∧ i_Rel (k + 5) u' v') v v1) u v1 := by
  refine zz_el (P := fun u v => wpX_run (fun r u' => wpY_run (fun r' v' => r' = r ∧ i_Rel (k + 5) u' v') v v1) u v1) ?_ I
  intro cL pL rL wL ph pc ch cc rc aw wb wm pl pm fd lf gc wr se sc sv dm md ws pr lw nw cr rl gs ct hl th lm R
  have hcc : cc ≤ cL := R.2.2.2.2.2.2.2.1.2.1
  have hcL : cL ≤ 16 := R.1.2.1
  unfold wpX_run
  refine ⟨cc + 1, zz_run cc 0 (by omega) rfl R (fun postY => wpY_run postY (fd, lf, wr, se, th, lm, ct, lw) v1) (fun postY h => ?_)⟩
  unfold wpY_run
  exact ⟨cc + 1, h⟩
end
