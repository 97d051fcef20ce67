section
/-! rows on bits, shifts and unsigned numbers, to paste: each family out of a closed proof of our own, whole with what it rests on; each by itself clean at Lean in its own claim (generation 39, form 5). Take a family whole -/
/-! ===== Int32 by its bits: bt x i ===== -/
def bt (x : Int32) (i : Nat) : Bool := x.toBitVec.getLsbD i
theorem b_ext {x y : Int32} (h : ∀ i, i < 32 → bt x i = bt y i) : x = y := Int32.toBitVec_inj.mp (BitVec.eq_of_getLsbD_eq (fun i hi => h i hi))
theorem b_or (x y : Int32) (i : Nat) : bt (x ||| y) i = (bt x i || bt y i) := by unfold bt; rw [Int32.toBitVec_or, BitVec.getLsbD_or]
theorem b_and (x y : Int32) (i : Nat) : bt (x &&& y) i = (bt x i && bt y i) := by unfold bt; rw [Int32.toBitVec_and, BitVec.getLsbD_and]
theorem b_xor (x y : Int32) (i : Nat) : bt (x ^^^ y) i = (bt x i ^^ bt y i) := by unfold bt; rw [Int32.toBitVec_xor, BitVec.getLsbD_xor]
theorem b_big {x : Int32} {i : Nat} (h : 32 ≤ i) : bt x i = false := BitVec.getLsbD_of_ge _ _ h
theorem b_255 (i : Nat) : bt 255 i = decide (i < 8) := by
  rcases Nat.lt_or_ge i 32 with h | h
  · exact (by decide +kernel : ∀ i, i < 32 → bt 255 i = decide (i < 8)) i h
  · rw [b_big h, decide_eq_false (by omega)]
theorem b_65535 (i : Nat) : bt 65535 i = decide (i < 16) := by
  rcases Nat.lt_or_ge i 32 with h | h
  · exact (by decide +kernel : ∀ i, i < 32 → bt 65535 i = decide (i < 16)) i h
  · rw [b_big h, decide_eq_false (by omega)]
theorem b_m1 : ∀ i, i < 32 → bt (-1) i = true := by decide +kernel
theorem b_0 (i : Nat) : bt 0 i = false := BitVec.getLsbD_zero
theorem s_l : ∀ n, n < 32 → ((nI n &&& 31).toBitVec.smod 32).toNat = n := by decide +kernel
theorem s_u : ∀ n, n < 32 → (((nI n).toUInt32 &&& Int32.toUInt32 31).toBitVec % 32).toNat = n := by decide +kernel
theorem b_shl (n : Nat) (hn : n < 32) (x : Int32) {i : Nat} (hi : i < 32) : bt (x <<< (nI n &&& 31)) i = (decide (n ≤ i) && bt x (i - n)) := by
  unfold bt
  rw [Int32.toBitVec_shiftLeft]
  show (x.toBitVec <<< ((nI n &&& 31).toBitVec.smod 32).toNat).getLsbD i = _
  rw [s_l n hn, BitVec.getLsbD_shiftLeft]
  rcases Nat.lt_or_ge i n with h | h
  · simp [h, Nat.not_le.mpr h]
  · simp [hi, h, Nat.not_lt.mpr h]
theorem b_ushr (n : Nat) (hn : n < 32) (x : Int32) (i : Nat) : bt ((x.toUInt32 >>> ((nI n).toUInt32 &&& Int32.toUInt32 31)).toInt32) i = bt x (n + i) := by
  show (x.toUInt32 >>> ((nI n).toUInt32 &&& Int32.toUInt32 31)).toBitVec.getLsbD i = x.toUInt32.toBitVec.getLsbD (n + i)
  rw [UInt32.toBitVec_shiftRight]
  show (x.toUInt32.toBitVec >>> (((nI n).toUInt32 &&& Int32.toUInt32 31).toBitVec % 32).toNat).getLsbD i = _
  rw [s_u n hn, BitVec.getLsbD_ushiftRight]
theorem b_sshr (n : Nat) (hn : n < 32) (x : Int32) {i : Nat} (hi : i < 32) : bt (x >>> (nI n &&& 31)) i = if n + i < 32 then bt x (n + i) else bt x 31 := by
  unfold bt
  rw [Int32.toBitVec_shiftRight]
  show (x.toBitVec.sshiftRight ((nI n &&& 31).toBitVec.smod 32).toNat).getLsbD i = _
  rw [s_l n hn, BitVec.getLsbD_sshiftRight, BitVec.msb_eq_getLsbD_last]
  simp [hi]
theorem b_shl8 (x : Int32) {i : Nat} (hi : i < 32) : bt (x <<< ((8 : Int32) &&& 31)) i = (decide (8 ≤ i) && bt x (i - 8)) := b_shl 8 (by omega) x hi
theorem b_shl16 (x : Int32) {i : Nat} (hi : i < 32) : bt (x <<< ((16 : Int32) &&& 31)) i = (decide (16 ≤ i) && bt x (i - 16)) := b_shl 16 (by omega) x hi
theorem b_shl24 (x : Int32) {i : Nat} (hi : i < 32) : bt (x <<< ((24 : Int32) &&& 31)) i = (decide (24 ≤ i) && bt x (i - 24)) := b_shl 24 (by omega) x hi
theorem b_sshr8 (x : Int32) {i : Nat} (hi : i < 32) : bt (x >>> ((8 : Int32) &&& 31)) i = if 8 + i < 32 then bt x (8 + i) else bt x 31 := b_sshr 8 (by omega) x hi
/-! ===== Int64 as a set of bits: test, set, clear ===== -/
theorem ts_nf {x : Bool} (h : ¬ x = false) : x = true := by cases x <;> first | rfl | exact absurd rfl h
theorem ts_nt {x : Bool} (h : ¬ x = true) : x = false := by cases x <;> first | rfl | exact absurd rfl h
theorem ts_bit {w : Int64} {s : UInt64} {j : Nat} (hj : j < 64) (hs : s.toNat = j) : ((w.toUInt64 >>> s).toInt64 &&& 1) = 0 ↔ w.toBitVec.getLsbD j = false := by
  have e : (w.toUInt64 >>> s).toInt64.toBitVec = w.toBitVec >>> j := by
    apply BitVec.eq_of_toNat_eq
    show (w.toUInt64 >>> s).toNat = _
    rw [UInt64.toNat_shiftRight, hs, Nat.mod_eq_of_lt hj, BitVec.toNat_ushiftRight]
    rfl
  rw [← Int64.toBitVec_inj, Int64.toBitVec_and, e]
  show w.toBitVec >>> j &&& 1#64 = 0#64 ↔ _
  constructor
  · intro h
    have t := congrArg (fun x => x.getLsbD 0) h
    simpa using t
  · intro h
    apply BitVec.eq_of_getLsbD_eq
    intro i hi
    cases i with
    | zero => simp [h]
    | succ i => simp
theorem ts_or {w m : Int64} {j : Nat} (hj : j < 64) (hm : m.toBitVec = BitVec.twoPow 64 j) : (w ||| m) = w ↔ w.toBitVec.getLsbD j = true := by
  rw [← Int64.toBitVec_inj, Int64.toBitVec_or, hm]
  constructor
  · intro h
    have t := congrArg (fun x => x.getLsbD j) h
    simp only [BitVec.getLsbD_or, BitVec.getLsbD_twoPow] at t
    simpa [hj] using t.symm
  · intro h
    apply BitVec.eq_of_getLsbD_eq
    intro i hi
    rw [BitVec.getLsbD_or, BitVec.getLsbD_twoPow]
    by_cases e : j = i
    · subst e; rw [h, Bool.true_or]
    · simp [e]
theorem ts_and {w m : Int64} {j : Nat} (hj : j < 64) (hm : m.toBitVec = BitVec.twoPow 64 j) : (w &&& (m ^^^ (-1))) = w ↔ w.toBitVec.getLsbD j = false := by
  have ha : (-1 : Int64).toBitVec = BitVec.allOnes 64 := by decide
  rw [← Int64.toBitVec_inj, Int64.toBitVec_and, Int64.toBitVec_xor, hm, ha]
  constructor
  · intro h
    have t := congrArg (fun x => x.getLsbD j) h
    simp only [BitVec.getLsbD_and, BitVec.getLsbD_xor, BitVec.getLsbD_twoPow, BitVec.getLsbD_allOnes] at t
    simpa [hj] using t.symm
  · intro h
    apply BitVec.eq_of_getLsbD_eq
    intro i hi
    rw [BitVec.getLsbD_and, BitVec.getLsbD_xor, BitVec.getLsbD_twoPow, BitVec.getLsbD_allOnes]
    by_cases e : j = i
    · subst e; rw [h, Bool.false_and]
    · simp [e, hi]
/-! ===== lN n to 2^64: shifts, and, or, masks, one bit ===== -/
theorem wb_tb (n : Nat) : (lN n).toBitVec = BitVec.ofNat 64 n := rfl
theorem wb_inj {a b : Int64} (h : a.toBitVec = b.toBitVec) : a = b := Int64.toBitVec_inj.mp h
theorem wb_tn {n : Nat} (h : n < 2 ^ 64) : (lN n).toBitVec.toNat = n := by rw [wb_tb, BitVec.toNat_ofNat, Nat.mod_eq_of_lt h]
theorem wb_of (x : Int64) : ∃ n, n < 2 ^ 64 ∧ x = lN n := ⟨x.toBitVec.toNat, x.toBitVec.isLt, wb_inj (by rw [wb_tb]; simp)⟩
theorem wb_of32 (x : Int32) : ∃ n, n < 2 ^ 32 ∧ x = nI n := ⟨x.toBitVec.toNat, x.toBitVec.isLt, Int32.toBitVec_inj.mp (by show _ = BitVec.ofNat 32 _; simp)⟩
theorem wb_c : ∀ k, k < 64 → ((nI k).toInt64 &&& 63) = lN k := by decide +kernel
theorem wb_cu : ∀ k, k < 64 → ((nI k).toInt64.toUInt64 &&& Int64.toUInt64 63) = UInt64.ofNat k := by decide +kernel
theorem wb_sm : ∀ k, k < 64 → (BitVec.ofNat 64 k).smod 64 = BitVec.ofNat 64 k := by decide +kernel
theorem wb_pw {a b : Nat} (h : a ≤ b) : 2 ^ b = 2 ^ a * 2 ^ (b - a) := by rw [← Nat.pow_add]; congr 1; omega
theorem wb_lt2 {a b : Nat} (h : a < b) : 2 ^ a < 2 ^ b := Nat.pow_lt_pow_right (by decide) h
theorem wb_mod (n : Nat) : lN n = lN (n % 2 ^ 64) := wb_inj (by rw [wb_tb, wb_tb]; apply BitVec.eq_of_toNat_eq; rw [BitVec.toNat_ofNat, BitVec.toNat_ofNat, Nat.mod_mod])
theorem wb_shr {n k : Nat} (hn : n < 2 ^ 64) (hk : k < 64) : ((lN n).toUInt64 >>> ((nI k).toInt64.toUInt64 &&& Int64.toUInt64 63)).toInt64 = lN (n / 2 ^ k) := by
  rw [wb_cu k hk]
  apply wb_inj
  apply BitVec.eq_of_toNat_eq
  show ((lN n).toUInt64 >>> UInt64.ofNat k).toNat = (BitVec.ofNat 64 _).toNat
  have h1 : (UInt64.ofNat k).toNat = k := by
    show (BitVec.ofNat 64 k).toNat = k
    rw [BitVec.toNat_ofNat, Nat.mod_eq_of_lt (by omega)]
  have h2 : (lN n).toUInt64.toNat = n := wb_tn hn
  rw [UInt64.toNat_shiftRight, h1, h2, Nat.mod_eq_of_lt hk, Nat.shiftRight_eq_div_pow, BitVec.toNat_ofNat, Nat.mod_eq_of_lt (Nat.lt_of_le_of_lt (Nat.div_le_self _ _) hn)]
theorem wb_shl (n : Nat) {k : Nat} (hk : k < 64) : lN n <<< ((nI k).toInt64 &&& 63) = lN (n * 2 ^ k) := by
  rw [wb_c k hk]
  apply wb_inj
  rw [Int64.toBitVec_shiftLeft, wb_tb, wb_tb, wb_tb, wb_sm k hk]
  apply BitVec.eq_of_toNat_eq
  rw [BitVec.shiftLeft_eq', BitVec.toNat_shiftLeft, BitVec.toNat_ofNat, BitVec.toNat_ofNat, BitVec.toNat_ofNat, Nat.mod_eq_of_lt (show k < 2 ^ 64 by omega), Nat.shiftLeft_eq, Nat.mul_mod, Nat.mod_mod, ← Nat.mul_mod]
theorem wb_and {a b : Nat} (ha : a < 2 ^ 64) (hb : b < 2 ^ 64) : lN a &&& lN b = lN (a &&& b) := by
  apply wb_inj
  rw [Int64.toBitVec_and, wb_tb, wb_tb, wb_tb]
  apply BitVec.eq_of_toNat_eq
  rw [BitVec.toNat_and, BitVec.toNat_ofNat, BitVec.toNat_ofNat, BitVec.toNat_ofNat, Nat.mod_eq_of_lt ha, Nat.mod_eq_of_lt hb, Nat.mod_eq_of_lt (Nat.and_lt_two_pow _ hb)]
theorem wb_or {a b : Nat} (ha : a < 2 ^ 64) (hb : b < 2 ^ 64) : lN a ||| lN b = lN (a ||| b) := by
  apply wb_inj
  rw [Int64.toBitVec_or, wb_tb, wb_tb, wb_tb]
  apply BitVec.eq_of_toNat_eq
  rw [BitVec.toNat_or, BitVec.toNat_ofNat, BitVec.toNat_ofNat, BitVec.toNat_ofNat, Nat.mod_eq_of_lt ha, Nat.mod_eq_of_lt hb, Nat.mod_eq_of_lt (Nat.or_lt_two_pow ha hb)]
theorem wb_mask {n k : Nat} (hn : n < 2 ^ 64) (hk : k < 64) : lN n &&& lN (2 ^ k - 1) = lN (n % 2 ^ k) := by
  rw [wb_and hn (by have := wb_lt2 hk; omega), Nat.and_two_pow_sub_one_eq_mod]
theorem wb_a1 {n : Nat} (hn : n < 2 ^ 64) : lN n &&& 1 = lN (n % 2) := wb_mask (k := 1) hn (by decide)
theorem wb_bit {n k : Nat} (hn : n < 2 ^ 64) (hk : k < 64) : ((lN n).toUInt64 >>> ((nI k).toInt64.toUInt64 &&& Int64.toUInt64 63)).toInt64 &&& 1 = lN (n / 2 ^ k % 2) := by
  rw [wb_shr hn hk, wb_a1 (Nat.lt_of_le_of_lt (Nat.div_le_self _ _) hn)]
theorem wb_xor {q k : Nat} (hk : k < 63) (h : 2 ^ k ≤ q) (h2 : q < 2 ^ (k + 1)) : lN q ^^^ lN (2 ^ k) = lN (q - 2 ^ k) := by
  obtain ⟨r, rfl⟩ : ∃ r, q = 2 ^ k + r := ⟨q - 2 ^ k, by omega⟩
  have hr : r < 2 ^ k := by rw [Nat.pow_succ] at h2; omega
  have hx : (2 ^ k + r) ^^^ 2 ^ k = r := by
    apply Nat.eq_of_testBit_eq
    intro i
    rw [Nat.testBit_xor, Nat.testBit_two_pow]
    rcases Nat.lt_trichotomy i k with h | h | h
    · rw [Nat.testBit_two_pow_add_gt h]
      simp [show ¬ k = i by omega]
    · subst h
      rw [Nat.testBit_two_pow_add_eq]
      simp
    · have a1 : 2 ^ (k + 1) ≤ 2 ^ i := Nat.pow_le_pow_right (by decide) h
      rw [Nat.testBit_lt_two_pow (show 2 ^ k + r < 2 ^ i by omega), Nat.testBit_lt_two_pow (show r < 2 ^ i by omega)]
      simp [show ¬ k = i by omega]
  have b1 := wb_lt2 (show k + 1 < 64 by omega)
  have b2 := wb_lt2 (show k < 64 by omega)
  apply wb_inj
  rw [Int64.toBitVec_xor, wb_tb, wb_tb, wb_tb]
  apply BitVec.eq_of_toNat_eq
  rw [BitVec.toNat_xor, BitVec.toNat_ofNat, BitVec.toNat_ofNat, BitVec.toNat_ofNat, Nat.mod_eq_of_lt (by omega : 2 ^ k + r < 2 ^ 64), Nat.mod_eq_of_lt b2, hx, Nat.add_sub_cancel_left, Nat.mod_eq_of_lt (by omega)]
/-! pure rows to paste: stores, nI and lN arithmetic, masks, shifts, narrowing, branches by naturals (pk_le, pk_lt, pk_eq), loops (lp1 .. lp16: the measure of the state; rp1 ..: recursion), negatives. Take what you need -/
theorem pk_us {f : Nat → Int32} {k : Nat} {x : Int32} : upd f k x k = x := if_pos rfl
theorem pk_un {f : Nat → Int32} {k j : Nat} {x : Int32} (h : j ≠ k) : upd f k x j = f j := if_neg h
theorem pk_uLs {f : Nat → Int64} {k : Nat} {x : Int64} : vp_updL f k x k = x := if_pos rfl
theorem pk_uLn {f : Nat → Int64} {k j : Nat} {x : Int64} (h : j ≠ k) : vp_updL f k x j = f j := if_neg h
theorem pk_sub {a b : Nat} (h : b ≤ a) : nI a - nI b = nI (a - b) := by
  obtain ⟨c, rfl⟩ : ∃ c, a = c + b := ⟨a - b, by omega⟩
  rw [← nI_add, Int32.add_sub_cancel, Nat.add_sub_cancel]
theorem pk_m1 (n : Nat) : nI (n + 1) + (-1) = nI n := by
  rw [← nI_1, Int32.add_assoc, show (1 : Int32) + (-1) = 0 from rfl, Int32.add_zero]
theorem pk_mul (a b : Nat) : nI a * nI b = nI (a * b) := (Int32.ofNat_mul a b).symm
theorem pk_div {a d : Nat} (ha : a < 2 ^ 31) (h0 : 0 < d) (hd : d < 2 ^ 31) : nI a / nI d = nI (a / d) := by
  apply Int32.toInt_inj.mp
  rw [lg_idiv_nonneg (by rw [nI_toInt ha]; omega) (by rw [nI_toInt hd]; omega), nI_toInt ha, nI_toInt hd, nI_toInt (Nat.lt_of_le_of_lt (Nat.div_le_self a d) ha)]
  first | rfl | exact (Int.natCast_ediv _ _).symm
theorem pk_rem {a d : Nat} (ha : a < 2 ^ 31) (h0 : 0 < d) (hd : d < 2 ^ 31) : nI a - nI a / nI d * nI d = nI (a % d) := by
  rw [pk_div ha h0 hd, pk_mul, pk_sub (Nat.div_mul_le_self a d)]
  exact congrArg nI (by have := Nat.div_add_mod' a d; omega)
theorem pk_sub_toInt {a b : Nat} (ha : a < 2 ^ 30) (hb : b < 2 ^ 30) : (nI a - nI b).toInt = (a : Int) - b := by
  rw [Int32.toInt_sub, nI_toInt (by omega), nI_toInt (by omega)]
  exact Int.bmod_eq_of_le (by omega) (by omega)
theorem pk_sneg {a b : Nat} (hb : b < 2 ^ 30) (h : a < b) : nI a - nI b < 0 := by
  rw [Int32.lt_iff_toInt_lt, pk_sub_toInt (by omega) hb, show (0 : Int32).toInt = 0 from by decide]
  omega
theorem pk_ix (x : Int32) {n : Nat} (hn : n < 2 ^ 31) : x < 0 ∨ nI n ≤ x ∨ ∃ j : Nat, j < n ∧ x = nI j := by
  by_cases h : x < 0
  · exact Or.inl h
  · obtain ⟨j, hj, rfl⟩ := nI_of h
    by_cases h2 : j < n
    · exact Or.inr (Or.inr ⟨j, h2, rfl⟩)
    · exact Or.inr (Or.inl (nI_le (by omega) hj))
theorem pk_le {x y : Int32} {A B : Prop} (a b : Nat) (f : a ≤ b → A) (g : b < a → B) (hx : x = nI a := by rfl) (hy : y = nI b := by rfl) (ha : a < 2 ^ 31 := by omega) (hb : b < 2 ^ 31 := by omega) : (x ≤ y → A) ∧ (¬ x ≤ y → B) := by
  subst hx hy
  rw [nI_leI ha hb]
  exact ⟨f, fun z => g (by omega)⟩
theorem pk_lt {x y : Int32} {A B : Prop} (a b : Nat) (f : a < b → A) (g : b ≤ a → B) (hx : x = nI a := by rfl) (hy : y = nI b := by rfl) (ha : a < 2 ^ 31 := by omega) (hb : b < 2 ^ 31 := by omega) : (x < y → A) ∧ (¬ x < y → B) := by
  subst hx hy
  rw [nI_ltI ha hb]
  exact ⟨f, fun z => g (by omega)⟩
theorem pk_eq {x y : Int32} {A B : Prop} (a b : Nat) (f : a = b → A) (g : a ≠ b → B) (hx : x = nI a := by rfl) (hy : y = nI b := by rfl) (ha : a < 2 ^ 31 := by omega) (hb : b < 2 ^ 31 := by omega) : (x = y → A) ∧ (¬ x = y → B) := by
  subst hx hy
  rw [nI_eq ha hb]
  exact ⟨f, g⟩
theorem pk_in {x : Int32} (n N : Nat) (h : n < N) (hx : x = nI n := by rfl) (hN : N < 2 ^ 31 := by omega) : vp_in x N := by
  subst hx
  exact vp_in_nI h hN
theorem pk_cl {x : Int32} (n : Nat) (hx : x = nI n := by rfl) (h : n < 2 ^ 31 := by omega) : x.toNatClampNeg = n := by
  subst hx
  exact nI_clamp h
theorem pk_tn {n : Nat} (h : n < 2 ^ 32) : (nI n).toBitVec.toNat = n := Nat.mod_eq_of_lt h
theorem pk_and (x : Int32) {m : Int32} (k : Nat) (hm : m.toBitVec.toNat = 2 ^ k - 1) : x &&& m = nI (x.toBitVec.toNat % 2 ^ k) := by
  apply Int32.toBitVec_inj.mp
  apply BitVec.eq_of_toNat_eq
  rw [Int32.toBitVec_and, BitVec.toNat_and, hm, Nat.and_two_pow_sub_one_eq_mod]
  show _ = (BitVec.ofNat 32 _).toNat
  rw [BitVec.toNat_ofNat]
  exact (Nat.mod_eq_of_lt (Nat.lt_of_le_of_lt (Nat.mod_le _ _) x.toBitVec.isLt)).symm
theorem pk_andN {n : Nat} (h : n < 2 ^ 32) {m : Int32} (k : Nat) (hm : m.toBitVec.toNat = 2 ^ k - 1) : nI n &&& m = nI (n % 2 ^ k) := by
  rw [pk_and _ k hm, pk_tn h]
theorem pk_andE (x : Int32) {m : Int32} (k : Nat) (hm : m.toBitVec.toNat = 2 ^ k - 1) : ∃ j : Nat, j < 2 ^ k ∧ x &&& m = nI j := ⟨_, Nat.mod_lt _ (Nat.two_pow_pos k), pk_and x k hm⟩
theorem pk_andIn (x : Int32) {m : Int32} (k : Nat) (hm : m.toBitVec.toNat = 2 ^ k - 1) (hk : k ≤ 30) : vp_in (x &&& m) (2 ^ k) := by
  obtain ⟨j, hj, e⟩ := pk_andE x k hm
  rw [e]
  exact vp_in_nI hj (Nat.lt_of_le_of_lt (Nat.pow_le_pow_right (by decide) hk) (by decide))
theorem pk_shl (a s : Int32) (k : Nat) (hs : (s.toBitVec.smod 32).toNat = k) : (a <<< s).toBitVec.toNat = a.toBitVec.toNat * 2 ^ k % 2 ^ 32 := by
  show (a.toBitVec <<< (s.toBitVec.smod 32).toNat).toNat = _
  rw [hs, BitVec.toNat_shiftLeft, Nat.shiftLeft_eq]
theorem pk_shlN {n : Nat} (s : Int32) (k : Nat) (hs : (s.toBitVec.smod 32).toNat = k) (h : n * 2 ^ k < 2 ^ 32) : nI n <<< s = nI (n * 2 ^ k) := by
  apply Int32.toBitVec_inj.mp
  apply BitVec.eq_of_toNat_eq
  have hn : n < 2 ^ 32 := Nat.lt_of_le_of_lt (Nat.le_mul_of_pos_right n (Nat.two_pow_pos k)) h
  rw [pk_shl _ _ k hs, pk_tn hn, pk_tn h, Nat.mod_eq_of_lt h]
theorem pk_shr (a s : Int32) (k : Nat) (hs : (s.toBitVec.smod 32).toNat = k) : (a >>> s).toInt = a.toInt >>> k := by
  show (a.toBitVec.sshiftRight (s.toBitVec.smod 32).toNat).toInt = _
  rw [hs, BitVec.toInt_sshiftRight]
  rfl
theorem pk_shrN {n : Nat} (h : n < 2 ^ 31) (s : Int32) (k : Nat) (hs : (s.toBitVec.smod 32).toNat = k) : nI n >>> s = nI (n / 2 ^ k) := by
  apply Int32.toInt_inj.mp
  have h2 : n / 2 ^ k ≤ n := Nat.div_le_self _ _
  rw [pk_shr _ _ k hs, nI_toInt h, nI_toInt (by omega), Int.shiftRight_eq_div_pow]
  rfl
theorem pk_ushr (x s : Int32) (k : Nat) (hs : ((s.toUInt32 &&& Int32.toUInt32 31).toBitVec % 32).toNat = k) : (x.toUInt32 >>> (s.toUInt32 &&& Int32.toUInt32 31)).toInt32.toBitVec.toNat = x.toBitVec.toNat / 2 ^ k := by
  have e : (x.toUInt32 >>> (s.toUInt32 &&& Int32.toUInt32 31)).toInt32.toBitVec = x.toBitVec >>> k := by
    rw [← hs]
    exact UInt32.toBitVec_shiftRight _ _
  rw [e, BitVec.toNat_ushiftRight, Nat.shiftRight_eq_div_pow]
theorem pk_ushrN {n : Nat} (hn : n < 2 ^ 32) (s : Int32) (k : Nat) (hs : ((s.toUInt32 &&& Int32.toUInt32 31).toBitVec % 32).toNat = k) : ((nI n).toUInt32 >>> (s.toUInt32 &&& Int32.toUInt32 31)).toInt32 = nI (n / 2 ^ k) := by
  apply Int32.toBitVec_inj.mp
  apply BitVec.eq_of_toNat_eq
  rw [pk_ushr _ s k hs, pk_tn hn, pk_tn (Nat.lt_of_le_of_lt (Nat.div_le_self _ _) hn)]
end
section
section
/-! numbers, stores -/
def sm_tn (x : Int32) : Nat := x.toNatClampNeg
theorem sm_tnN {n : Nat} (h : n < 2 ^ 31) : sm_tn (nI n) = n := nI_clamp h
theorem sm_t8 (a : Nat) : nI a * 8 = nI (a * 8) := pk_mul a 8
theorem sm_t32 (a : Nat) : nI a * 32 = nI (a * 32) := pk_mul a 32
theorem sm_ix (t a : Nat) : nI t * 8 + nI a = nI (t * 8 + a) := by rw [sm_t8, nI_add]
theorem sm_ix32 (t a : Nat) : nI t * 32 + nI a = nI (t * 32 + a) := by rw [sm_t32, nI_add]
theorem sm_m1 : (-1 : Int32) < 0 := by decide
theorem sm_ne1 {a : Nat} (h : a < 2 ^ 31) : ¬ nI a = -1 := by
  intro e
  have := nI_pos (n := a) h
  rw [e] at this
  exact this sm_m1
theorem sm_im {a b : Nat} (h : nI a = nI b) (ha : a < 2 ^ 31) (hb : b < 2 ^ 31) : a = b := (nI_eq ha hb).mp h
theorem sm_vb0 : vp_nar .boolean 0 = 0 := by decide
theorem sm_vb1 : vp_nar .boolean 1 = 1 := by decide
theorem sm_10 : ¬ (1 : Int32) = 0 := by decide
/-- a store at a known place -/
theorem sm_st {P : (Nat → Int32) → Prop} {f : Nat → Int32} {x : Int32} {n N : Nat} (h : n < N) (hN : N < 2 ^ 31) (k : P (upd f n x)) : vp_in (nI n) N ∧ ∀ y, y = upd f (nI n).toNatClampNeg x → P y :=
  ⟨vp_in_nI h hN, fun y e => by rw [e, nI_clamp (by omega)]; exact k⟩
theorem sm_sv {P : (Nat → Int32) → Prop} {f : Nat → Int32} {x x' : Int32} {n N : Nat} (h : n < N) (hN : N < 2 ^ 31) (ex : x = x') (k : P (upd f n x')) : vp_in (nI n) N ∧ ∀ y, y = upd f (nI n).toNatClampNeg x → P y :=
  ⟨vp_in_nI h hN, fun y e => by rw [e, nI_clamp (by omega), ex]; exact k⟩
/-- the same at an index that is only equal to a number -/
theorem sm_si {P : (Nat → Int32) → Prop} {f : Nat → Int32} {x x' i : Int32} {n N : Nat} (ei : i = nI n) (h : n < N) (hN : N < 2 ^ 31) (ex : x = x') (k : P (upd f n x')) : vp_in i N ∧ ∀ y, y = upd f i.toNatClampNeg x → P y := by
  subst ei
  exact sm_sv h hN ex k
theorem sm_in {i : Int32} {n N : Nat} (ei : i = nI n) (h : n < N) (hN : N < 2 ^ 31) : vp_in i N := by
  subst ei
  exact vp_in_nI h hN
theorem sm_cl {i : Int32} {n : Nat} (ei : i = nI n) (h : n < 2 ^ 31) : i.toNatClampNeg = n := by
  subst ei
  exact nI_clamp h
theorem sm_us {f : Nat → Int32} {k : Nat} {x : Int32} : upd f k x k = x := if_pos rfl
theorem sm_un {f : Nat → Int32} {k j : Nat} {x : Int32} (h : j ≠ k) : upd f k x j = f j := if_neg h
theorem sm_id {f : Nat → Int32} {k : Nat} : upd f k (f k) = f := by
  funext j
  by_cases h : j = k
  · rw [h, sm_us]
  · rw [sm_un h]
/-! masks -/
def sm_MK (x : Int32) (f : Nat → Int32) : Prop := ∀ i, i < 32 → bt x i = (decide (i < 8) && !decide (f i = 0))
theorem sm_b1 : ∀ i, i < 32 → bt 1 i = decide (i = 0) := by decide +kernel
theorem sm_sh {a i : Nat} (ha : a < 32) (hi : i < 32) : bt ((1 : Int32) <<< (nI a &&& 31)) i = decide (i = a) := by
  rw [b_shl a ha 1 hi]
  by_cases h : a ≤ i
  · rw [sm_b1 (i - a) (by omega), decide_eq_true h, Bool.true_and]
    exact decide_eq_decide.mpr (by omega)
  · rw [decide_eq_false h, Bool.false_and]
    exact (decide_eq_false (by omega)).symm
theorem sm_MKc {x : Int32} {f g : Nat → Int32} (h : sm_MK x f) (e : ∀ i, i < 8 → (f i = 0 ↔ g i = 0)) : sm_MK x g := by
  intro i hi
  rw [h i hi]
  by_cases h8 : i < 8
  · simp [h8, e i h8]
  · simp [h8]
theorem sm_MK0 {f : Nat → Int32} (h : ∀ i, i < 8 → f i = 0) : sm_MK 0 f := by
  intro i hi
  rw [b_0]
  by_cases h8 : i < 8
  · simp [h8, h i h8]
  · simp [h8]
theorem sm_MKe {x y : Int32} {f g : Nat → Int32} (h : sm_MK x f) (k : sm_MK y g) : x = y ↔ ∀ i, i < 8 → (f i = 0 ↔ g i = 0) := by
  constructor
  · intro e i hi
    have a := h i (by omega)
    have b := k i (by omega)
    rw [e, b] at a
    simp [hi] at a
    exact a.symm
  · intro e
    exact b_ext fun i hi => by rw [sm_MKc h e i hi, k i hi]
theorem sm_MK00 {x : Int32} {f : Nat → Int32} (h : sm_MK x f) : x = 0 ↔ ∀ i, i < 8 → f i = 0 := by
  have := sm_MKe h (sm_MK0 (f := fun _ => 0) (fun _ _ => rfl))
  rw [this]
  constructor
  · intro e i hi
    exact (e i hi).mpr rfl
  · intro e i hi
    simp [e i hi]
theorem sm_odd (y : Int32) : (y &&& 1) = 0 ↔ bt y 0 = false := by
  constructor
  · intro h
    have := congrArg (fun z => bt z 0) h
    simp only [b_and, b_0] at this
    rw [sm_b1 0 (by omega)] at this
    simpa using this
  · intro h
    refine b_ext fun i hi => ?_
    rw [b_and, b_0, sm_b1 i hi]
    by_cases e : i = 0
    · subst e
      simp [h]
    · simp [e]
theorem sm_hs {x : Int32} {f : Nat → Int32} {a : Nat} (h : sm_MK x f) (ha : a < 8) : ((x >>> (nI a &&& 31)) &&& 1) = 0 ↔ f a = 0 := by
  rw [sm_odd, b_sshr a (by omega) x (by omega), if_pos (by omega), Nat.add_zero, h a (by omega)]
  simp [ha]
theorem sm_MKs {x : Int32} {f g : Nat → Int32} {a : Nat} (h : sm_MK x f) (ha : a < 8) (hg : ¬ g a = 0) (e : ∀ i, i < 8 → i ≠ a → (f i = 0 ↔ g i = 0)) : sm_MK (x ||| ((1 : Int32) <<< (nI a &&& 31))) g := by
  intro i hi
  rw [b_or, sm_sh (by omega) hi, h i hi]
  by_cases h8 : i < 8
  · by_cases ia : i = a
    · subst ia
      simp [hg, h8]
    · simp [h8, ia, e i h8 ia]
  · have : i ≠ a := by omega
    simp [h8, this]
theorem sm_MKr {x : Int32} {f g : Nat → Int32} {a : Nat} (h : sm_MK x f) (ha : a < 8) (hg : g a = 0) (e : ∀ i, i < 8 → i ≠ a → (f i = 0 ↔ g i = 0)) : sm_MK (x &&& (((1 : Int32) <<< (nI a &&& 31)) ^^^ (-1))) g := by
  intro i hi
  rw [b_and, b_xor, b_m1 i hi, sm_sh (by omega) hi, h i hi]
  by_cases h8 : i < 8
  · by_cases ia : i = a
    · subst ia
      simp [hg, h8]
    · simp [h8, ia, e i h8 ia]
  · have : i ≠ a := by omega
    simp [h8]
theorem sm_MKd {x y : Int32} {f g : Nat → Int32} (h : sm_MK x f) (k : sm_MK y g) : sm_MK (x &&& (y ^^^ (-1))) (fun i => if g i = 0 then f i else 0) := by
  intro i hi
  rw [b_and, b_xor, b_m1 i hi, h i hi, k i hi]
  by_cases h8 : i < 8
  · by_cases gi : g i = 0
    · simp [h8, gi]
    · simp [h8, gi]
  · simp [h8]
/-! counts and the least -/
def sm_ct (f : Nat → Int32) : Nat → Nat
  | 0 => 0
  | n + 1 => sm_ct f n + (if f n = 0 then 0 else 1)
theorem sm_ct_le (f : Nat → Int32) (n : Nat) : sm_ct f n ≤ n := by
  induction n with
  | zero => exact Nat.le_refl 0
  | succ n ih =>
    show sm_ct f n + (if f n = 0 then 0 else 1) ≤ n + 1
    split <;> omega
theorem sm_ct_c {f g : Nat → Int32} (n : Nat) (e : ∀ i, i < n → (f i = 0 ↔ g i = 0)) : sm_ct f n = sm_ct g n := by
  induction n with
  | zero => rfl
  | succ n ih =>
    show sm_ct f n + (if f n = 0 then 0 else 1) = sm_ct g n + (if g n = 0 then 0 else 1)
    rw [ih (fun i hi => e i (by omega))]
    simp only [e n (by omega)]
theorem sm_ct_0 {f : Nat → Int32} (n : Nat) : sm_ct f n = 0 ↔ ∀ i, i < n → f i = 0 := by
  induction n with
  | zero => exact ⟨fun _ i hi => absurd hi (by omega), fun _ => rfl⟩
  | succ n ih =>
    show sm_ct f n + (if f n = 0 then 0 else 1) = 0 ↔ _
    constructor
    · intro h i hi
      by_cases z : f n = 0
      · rw [if_pos z] at h
        rcases Nat.lt_or_ge i n with l | l
        · exact (ih.mp (by omega)) i l
        · have : i = n := by omega
          rw [this]; exact z
      · rw [if_neg z] at h
        omega
    · intro h
      rw [ih.mpr (fun i hi => h i (by omega)), if_pos (h n (by omega))]
/-- f splits into two -/
theorem sm_ct_d {f g h : Nat → Int32} (n : Nat) (e : ∀ i, i < n → (if f i = 0 then 0 else 1) = (if g i = 0 then 0 else 1) + (if h i = 0 then (0 : Nat) else 1)) : sm_ct f n = sm_ct g n + sm_ct h n := by
  induction n with
  | zero => rfl
  | succ n ih =>
    show sm_ct f n + (if f n = 0 then 0 else 1) = (sm_ct g n + (if g n = 0 then 0 else 1)) + (sm_ct h n + (if h n = 0 then 0 else 1))
    rw [ih (fun i hi => e i (by omega)), e n (by omega)]
    omega
/-- beyond m nothing -/
theorem sm_ct_x {f : Nat → Int32} {m : Nat} : ∀ n, m ≤ n → (∀ i, m ≤ i → i < n → f i = 0) → sm_ct f n = sm_ct f m := by
  intro n
  induction n with
  | zero => intro h _; have : m = 0 := by omega
            rw [this]
  | succ n ih =>
    intro h e
    rcases Nat.lt_or_ge n m with l | l
    · have : m = n + 1 := by omega
      rw [this]
    · show sm_ct f n + (if f n = 0 then 0 else 1) = _
      rw [ih l (fun i a b => e i a (by omega)), if_pos (e n l (by omega))]
      rfl
def sm_Le (f : Nat → Int32) (n a : Nat) : Prop := a < n ∧ ¬ f a = 0 ∧ ∀ j, j < a → f j = 0
theorem sm_Le_ex {f : Nat → Int32} : ∀ n, (∃ a, a < n ∧ ¬ f a = 0) → ∃ a, sm_Le f n a := by
  intro n
  induction n with
  | zero => rintro ⟨a, h, _⟩; omega
  | succ n ih =>
    rintro ⟨a, h, k⟩
    by_cases e : ∃ b, b < n ∧ ¬ f b = 0
    · obtain ⟨b, hb, hb2, hb3⟩ := ih e
      exact ⟨b, by omega, hb2, hb3⟩
    · have no : ∀ j, j < n → f j = 0 := fun j hj => Classical.byContradiction fun z => e ⟨j, hj, z⟩
      rcases Nat.lt_or_ge a n with l | l
      · exact absurd (no a l) k
      · exact ⟨a, h, k, fun j hj => no j (by omega)⟩
theorem sm_Le_c {f g : Nat → Int32} {n a : Nat} (e : ∀ i, i < n → (f i = 0 ↔ g i = 0)) (h : sm_Le f n a) : sm_Le g n a :=
  ⟨h.1, fun z => h.2.1 ((e a h.1).mpr z), fun j hj => (e j (Nat.lt_trans hj h.1)).mp (h.2.2 j hj)⟩
end
end
section
section
/-! the records that wrote a word, their count, stamp and values -/
def sm_cn (f : Nat → Int32) (a : Nat) : Nat → Nat
  | 0 => 0
  | c + 1 => sm_cn f a c + (if f (c * 8 + a) = 0 then 0 else 1)
theorem sm_cn_s (f : Nat → Int32) (a c : Nat) : sm_cn f a (c + 1) = sm_cn f a c + (if f (c * 8 + a) = 0 then 0 else 1) := rfl
theorem sm_cn_z {f : Nat → Int32} {a c : Nat} (h : f (c * 8 + a) = 0) : sm_cn f a (c + 1) = sm_cn f a c := by
  rw [sm_cn_s, if_pos h, Nat.add_zero]
theorem sm_cn_o {f : Nat → Int32} {a c : Nat} (h : ¬ f (c * 8 + a) = 0) : sm_cn f a (c + 1) = sm_cn f a c + 1 := by
  rw [sm_cn_s, if_neg h]
theorem sm_cn_le (f : Nat → Int32) (a n : Nat) : sm_cn f a n ≤ n := by
  induction n with
  | zero => exact Nat.le_refl 0
  | succ n ih =>
    rw [sm_cn_s]
    split <;> omega
theorem sm_cn_m {f : Nat → Int32} {a m : Nat} : ∀ n, m ≤ n → sm_cn f a m ≤ sm_cn f a n := by
  intro n
  induction n with
  | zero => intro h; have : m = 0 := by omega
            rw [this]; exact Nat.le_refl _
  | succ n ih =>
    intro h
    rcases Nat.lt_or_ge n m with l | l
    · have : m = n + 1 := by omega
      rw [this]; exact Nat.le_refl _
    · have := ih l
      rw [sm_cn_s]
      omega
theorem sm_cn_lt {f : Nat → Int32} {a c n : Nat} (h : c < n) (hw : ¬ f (c * 8 + a) = 0) : sm_cn f a c < sm_cn f a n := by
  have := sm_cn_m (f := f) (a := a) (m := c + 1) n h
  rw [sm_cn_o hw] at this
  omega
theorem sm_cn_ex {f : Nat → Int32} {a i : Nat} : ∀ n, i < sm_cn f a n → ∃ c, c < n ∧ ¬ f (c * 8 + a) = 0 ∧ sm_cn f a c = i := by
  intro n
  induction n with
  | zero => intro h; exact absurd h (Nat.not_lt_zero i)
  | succ n ih =>
    intro h
    by_cases z : f (n * 8 + a) = 0
    · rw [sm_cn_z z] at h
      obtain ⟨c, h1, h2, h3⟩ := ih h
      exact ⟨c, by omega, h2, h3⟩
    · rw [sm_cn_o z] at h
      rcases Nat.lt_or_ge i (sm_cn f a n) with l | l
      · obtain ⟨c, h1, h2, h3⟩ := ih l
        exact ⟨c, by omega, h2, h3⟩
      · exact ⟨n, by omega, z, by omega⟩
theorem sm_cn_c {f g : Nat → Int32} {a : Nat} (n : Nat) (e : ∀ c, c < n → f (c * 8 + a) = g (c * 8 + a)) : sm_cn f a n = sm_cn g a n := by
  induction n with
  | zero => rfl
  | succ n ih =>
    rw [sm_cn_s, sm_cn_s, ih (fun c hc => e c (by omega)), e n (by omega)]
theorem sm_cn_ij {f : Nat → Int32} {a c d : Nat} (hc : ¬ f (c * 8 + a) = 0) (hd : ¬ f (d * 8 + a) = 0) (e : sm_cn f a c = sm_cn f a d) : c = d := by
  rcases Nat.lt_trichotomy c d with l | l | l
  · have := sm_cn_lt l hc; omega
  · exact l
  · have := sm_cn_lt l hd; omega
def sm_sp (f p : Nat → Int32) (a : Nat) : Nat → Nat
  | 0 => 0
  | c + 1 => if f (c * 8 + a) = 0 then sm_sp f p a c else sm_tn (p c)
theorem sm_sp_z {f p : Nat → Int32} {a c : Nat} (h : f (c * 8 + a) = 0) : sm_sp f p a (c + 1) = sm_sp f p a c := if_pos h
theorem sm_sp_o {f p : Nat → Int32} {a c : Nat} (h : ¬ f (c * 8 + a) = 0) : sm_sp f p a (c + 1) = sm_tn (p c) := if_neg h
def sm_lv (b f w : Nat → Int32) (a : Nat) : Nat → Int32
  | 0 => b a
  | c + 1 => if f (c * 8 + a) = 0 then sm_lv b f w a c else w (c * 8 + a)
theorem sm_lv_z {b f w : Nat → Int32} {a c : Nat} (h : f (c * 8 + a) = 0) : sm_lv b f w a (c + 1) = sm_lv b f w a c := if_pos h
theorem sm_lv_o {b f w : Nat → Int32} {a c : Nat} (h : ¬ f (c * 8 + a) = 0) : sm_lv b f w a (c + 1) = w (c * 8 + a) := if_neg h
def sm_va (b f w p : Nat → Int32) (a k : Nat) : Nat → Int32
  | 0 => b a
  | c + 1 => if f (c * 8 + a) = 0 then sm_va b f w p a k c else if sm_tn (p c) ≤ k then w (c * 8 + a) else sm_va b f w p a k c
theorem sm_va_z {b f w p : Nat → Int32} {a k c : Nat} (h : f (c * 8 + a) = 0) : sm_va b f w p a k (c + 1) = sm_va b f w p a k c := if_pos h
theorem sm_va_o {b f w p : Nat → Int32} {a k c : Nat} (h : ¬ f (c * 8 + a) = 0) (hk : sm_tn (p c) ≤ k) : sm_va b f w p a k (c + 1) = w (c * 8 + a) := (if_neg h).trans (if_pos hk)
theorem sm_va_n {b f w p : Nat → Int32} {a k c : Nat} (h : ¬ f (c * 8 + a) = 0) (hk : ¬ sm_tn (p c) ≤ k) : sm_va b f w p a k (c + 1) = sm_va b f w p a k c := (if_neg h).trans (if_neg hk)
/-- points grow along a word's records -/
def sm_In (f p : Nat → Int32) (a n : Nat) : Prop := ∀ c d, c < d → d < n → ¬ f (c * 8 + a) = 0 → ¬ f (d * 8 + a) = 0 → sm_tn (p c) < sm_tn (p d)
theorem sm_sp_ge {f p : Nat → Int32} {a c : Nat} : ∀ n, sm_In f p a n → c < n → ¬ f (c * 8 + a) = 0 → sm_tn (p c) ≤ sm_sp f p a n := by
  intro n
  induction n with
  | zero => intro _ h; exact absurd h (Nat.not_lt_zero c)
  | succ n ih =>
    intro I h hc
    have I' : sm_In f p a n := fun c d l m => I c d l (by omega)
    by_cases z : f (n * 8 + a) = 0
    · rw [sm_sp_z z]
      have : c ≠ n := fun e => hc (by rw [e]; exact z)
      exact ih I' (by omega) hc
    · rw [sm_sp_o z]
      rcases Nat.lt_or_ge c n with l | l
      · exact Nat.le_of_lt (I c n l (by omega) hc z)
      · have : c = n := by omega
        rw [this]; exact Nat.le_refl _
theorem sm_sp_b {f p : Nat → Int32} {a m : Nat} : ∀ n, (∀ c, c < n → sm_tn (p c) ≤ m) → sm_sp f p a n ≤ m := by
  intro n
  induction n with
  | zero => intro _; exact Nat.zero_le _
  | succ n ih =>
    intro h
    by_cases z : f (n * 8 + a) = 0
    · rw [sm_sp_z z]; exact ih fun c hc => h c (by omega)
    · rw [sm_sp_o z]; exact h n (by omega)
theorem sm_sp_l {f p : Nat → Int32} {a m : Nat} : ∀ n, 0 < m → (∀ c, c < n → ¬ f (c * 8 + a) = 0 → sm_tn (p c) < m) → sm_sp f p a n < m := by
  intro n
  induction n with
  | zero => intro h _; exact h
  | succ n ih =>
    intro h k
    by_cases z : f (n * 8 + a) = 0
    · rw [sm_sp_z z]; exact ih h fun c hc => k c (by omega)
    · rw [sm_sp_o z]; exact k n (by omega) z
theorem sm_sp_c {f g p q : Nat → Int32} {a : Nat} (n : Nat) (e : ∀ c, c < n → f (c * 8 + a) = g (c * 8 + a)) (e2 : ∀ c, c < n → p c = q c) : sm_sp f p a n = sm_sp g q a n := by
  induction n with
  | zero => rfl
  | succ n ih =>
    show (if f (n * 8 + a) = 0 then sm_sp f p a n else sm_tn (p n)) = (if g (n * 8 + a) = 0 then sm_sp g q a n else sm_tn (q n))
    rw [ih (fun c hc => e c (by omega)) (fun c hc => e2 c (by omega)), e n (by omega), e2 n (by omega)]
theorem sm_lv_c {b f g w v : Nat → Int32} {a : Nat} (n : Nat) (e : ∀ c, c < n → f (c * 8 + a) = g (c * 8 + a)) (e2 : ∀ c, c < n → w (c * 8 + a) = v (c * 8 + a)) : sm_lv b f w a n = sm_lv b g v a n := by
  induction n with
  | zero => rfl
  | succ n ih =>
    show (if f (n * 8 + a) = 0 then sm_lv b f w a n else w (n * 8 + a)) = (if g (n * 8 + a) = 0 then sm_lv b g v a n else v (n * 8 + a))
    rw [ih (fun c hc => e c (by omega)) (fun c hc => e2 c (by omega)), e n (by omega), e2 n (by omega)]
theorem sm_va_lv {b f w p : Nat → Int32} {a k : Nat} : ∀ n, (∀ c, c < n → ¬ f (c * 8 + a) = 0 → sm_tn (p c) ≤ k) → sm_va b f w p a k n = sm_lv b f w a n := by
  intro n
  induction n with
  | zero => intro _; rfl
  | succ n ih =>
    intro h
    by_cases z : f (n * 8 + a) = 0
    · rw [sm_va_z z, sm_lv_z z]; exact ih fun c hc => h c (by omega)
    · rw [sm_va_o z (h n (by omega) z), sm_lv_o z]
theorem sm_va_sp {b f w p : Nat → Int32} {a k n : Nat} (I : sm_In f p a n) (h : sm_sp f p a n ≤ k) : sm_va b f w p a k n = sm_lv b f w a n :=
  sm_va_lv n fun _ hc hw => Nat.le_trans (sm_sp_ge n I hc hw) h
theorem sm_va_b {b b' f w p : Nat → Int32} {a k : Nat} (e : b a = b' a) : ∀ n, sm_va b f w p a k n = sm_va b' f w p a k n := by
  intro n
  induction n with
  | zero => exact e
  | succ n ih =>
    show (if f (n * 8 + a) = 0 then sm_va b f w p a k n else if sm_tn (p n) ≤ k then w (n * 8 + a) else sm_va b f w p a k n) = (if f (n * 8 + a) = 0 then sm_va b' f w p a k n else if sm_tn (p n) ≤ k then w (n * 8 + a) else sm_va b' f w p a k n)
    rw [ih]
/-! thresholds -/
def sm_Th (g : Nat → Prop) (L n : Nat) : Prop := n ≤ L ∧ (∀ i, i < n → g i) ∧ (∀ i, n ≤ i → i < L → ¬ g i)
theorem sm_Th_u {g : Nat → Prop} {L n m : Nat} (h : sm_Th g L n) (k : sm_Th g L m) : n = m := by
  rcases Nat.lt_trichotomy n m with l | l | l
  · exact absurd (k.2.1 n l) (h.2.2 n (Nat.le_refl n) (Nat.lt_of_lt_of_le l k.1))
  · exact l
  · exact absurd (h.2.1 m l) (k.2.2 m (Nat.le_refl m) (Nat.lt_of_lt_of_le l h.1))
theorem sm_Th_ex {g : Nat → Prop} : ∀ L, (∀ i j, i ≤ j → j < L → g j → g i) → ∃ n, sm_Th g L n := by
  intro L
  induction L with
  | zero => intro _; exact ⟨0, Nat.le_refl 0, fun i h => absurd h (Nat.not_lt_zero i), fun i _ h => absurd h (Nat.not_lt_zero i)⟩
  | succ L ih =>
    intro mono
    obtain ⟨n, h1, h2, h3⟩ := ih fun i j a b => mono i j a (by omega)
    by_cases z : g L
    · exact ⟨L + 1, Nat.le_refl _, fun i hi => mono i L (by omega) (by omega) z, fun i a b => by omega⟩
    · refine ⟨n, by omega, h2, fun i a b => ?_⟩
      rcases Nat.lt_or_ge i L with l | l
      · exact h3 i a l
      · have : i = L := by omega
        rw [this]; exact z
/-- chains: the table cl of lengths and ch of records -/
def sm_Cn (wd rc : Nat) (f ch cl : Nat → Int32) : Prop := ∀ a, a < wd → cl a = nI (sm_cn f a rc) ∧ ∀ c, c < rc → ¬ f (c * 8 + a) = 0 → ch (a * 32 + sm_cn f a c) = nI c
def sm_C (ch : Nat → Int32) (a i : Nat) : Nat := sm_tn (ch (a * 32 + i))
theorem sm_C_ex {wd rc a i : Nat} {f ch cl : Nat → Int32} (h : sm_Cn wd rc f ch cl) (hr : rc ≤ 32) (ha : a < wd) (hi : i < sm_cn f a rc) : ∃ c, c < rc ∧ ¬ f (c * 8 + a) = 0 ∧ sm_cn f a c = i ∧ ch (a * 32 + i) = nI c ∧ sm_C ch a i = c := by
  obtain ⟨c, h1, h2, h3⟩ := sm_cn_ex rc hi
  have e := (h a ha).2 c h1 h2
  rw [h3] at e
  exact ⟨c, h1, h2, h3, e, by unfold sm_C; rw [e, sm_tnN (by omega)]⟩
theorem sm_C_of {wd rc a c : Nat} {f ch cl : Nat → Int32} (h : sm_Cn wd rc f ch cl) (hr : rc ≤ 32) (ha : a < wd) (hc : c < rc) (hw : ¬ f (c * 8 + a) = 0) : sm_C ch a (sm_cn f a c) = c := by
  unfold sm_C
  rw [(h a ha).2 c hc hw, sm_tnN (by omega)]
/-- the value after n versions -/
def sm_vl (b w ch : Nat → Int32) (a : Nat) : Nat → Int32
  | 0 => b a
  | n + 1 => w (sm_C ch a n * 8 + a)
theorem sm_vl_va {wd rc a k n : Nat} {b f w v p ch cl : Nat → Int32} (h : sm_Cn wd rc f ch cl) (hr : rc ≤ 32) (ha : a < wd) (hv : ∀ c, c < rc → ¬ f (c * 8 + a) = 0 → v (c * 8 + a) = w (c * 8 + a)) (T : sm_Th (fun i => sm_tn (p (sm_C ch a i)) ≤ k) (sm_cn f a rc) n) : sm_va b f w p a k rc = sm_vl b v ch a n := by
  have key : ∀ c, c ≤ rc → sm_va b f w p a k c = sm_vl b v ch a (min n (sm_cn f a c)) := by
    intro c
    induction c with
    | zero => intro _; show b a = sm_vl b v ch a (min n 0); rw [Nat.min_zero]; rfl
    | succ c ih =>
      intro hc
      have ih := ih (by omega)
      by_cases z : f (c * 8 + a) = 0
      · rw [sm_va_z z, sm_cn_z z, ih]
      · have hC := sm_C_of h hr ha (by omega : c < rc) z
        have hlt := sm_cn_lt (f := f) (a := a) (by omega : c < rc) z
        rw [sm_cn_o z]
        by_cases hk : sm_tn (p c) ≤ k
        · have hn : sm_cn f a c < n := by
            rcases Nat.lt_or_ge (sm_cn f a c) n with l | l
            · exact l
            · have := T.2.2 _ l hlt
              dsimp only at this
              rw [hC] at this
              exact absurd hk this
          rw [sm_va_o z hk, show min n (sm_cn f a c + 1) = sm_cn f a c + 1 by omega]
          show _ = v (sm_C ch a (sm_cn f a c) * 8 + a)
          rw [hC, hv c (by omega) z]
        · have hn : n ≤ sm_cn f a c := by
            rcases Nat.lt_or_ge (sm_cn f a c) n with l | l
            · have := T.2.1 _ l
              dsimp only at this
              rw [hC] at this
              exact absurd this hk
            · exact l
          rw [sm_va_n z hk, ih, show min n (sm_cn f a c + 1) = n by omega, show min n (sm_cn f a c) = n by omega]
  have := key rc (Nat.le_refl _)
  rw [this, show min n (sm_cn f a rc) = n from Nat.min_eq_left T.1]
/-! ranks -/
def sm_rk (K : Nat → Nat) (x : Nat) : Nat → Nat
  | 0 => 0
  | c + 1 => sm_rk K x c + (if K c < x then 1 else 0)
theorem sm_rk_s (K : Nat → Nat) (x c : Nat) : sm_rk K x (c + 1) = sm_rk K x c + (if K c < x then 1 else 0) := rfl
theorem sm_rk_le (K : Nat → Nat) (x n : Nat) : sm_rk K x n ≤ n := by
  induction n with
  | zero => exact Nat.le_refl 0
  | succ n ih =>
    rw [sm_rk_s]
    split <;> omega
theorem sm_rk_m {K : Nat → Nat} {x y : Nat} (h : x ≤ y) (n : Nat) : sm_rk K x n ≤ sm_rk K y n := by
  induction n with
  | zero => exact Nat.le_refl 0
  | succ n ih =>
    rw [sm_rk_s, sm_rk_s]
    by_cases z : K n < x
    · rw [if_pos z, if_pos (by omega)]; omega
    · rw [if_neg z]; omega
theorem sm_rk_lt {K : Nat → Nat} {x d : Nat} : ∀ n, d < n → K d < x → sm_rk K (K d) n < sm_rk K x n := by
  intro n
  induction n with
  | zero => intro h; exact absurd h (Nat.not_lt_zero d)
  | succ n ih =>
    intro h k
    rw [sm_rk_s, sm_rk_s]
    rcases Nat.lt_or_ge d n with l | l
    · have := ih l k
      by_cases z : K n < K d
      · rw [if_pos z, if_pos (by omega)]; omega
      · rw [if_neg z]; omega
    · have e : d = n := by omega
      subst e
      have := sm_rk_m (K := K) (Nat.le_of_lt k) d
      rw [if_neg (by omega), if_pos k]; omega
theorem sm_rk_c {K H : Nat → Nat} {x : Nat} (n : Nat) (e : ∀ c, c < n → K c = H c) : sm_rk K x n = sm_rk H x n := by
  induction n with
  | zero => rfl
  | succ n ih =>
    rw [sm_rk_s, sm_rk_s, ih (fun c hc => e c (by omega)), e n (by omega)]
/-- by ranks: x before d -/
theorem sm_rk_b {K : Nat → Nat} {x d n : Nat} (hd : d < n) (ne : x ≠ K d) : x < K d ↔ sm_rk K x n ≤ sm_rk K (K d) n := by
  constructor
  · intro h; exact sm_rk_m (Nat.le_of_lt h) n
  · intro h
    rcases Nat.lt_or_ge x (K d) with l | l
    · exact l
    · have := sm_rk_lt (K := K) (x := x) n hd (by omega)
      omega
def sm_ky (p xW : Nat → Int32) (c : Nat) : Nat := (2 * sm_tn (p c) + (if xW c = 0 then 1 else 0)) * 32 + c
theorem sm_ky_ij {p xW : Nat → Int32} {c d : Nat} (hc : c < 32) (hd : d < 32) (h : sm_ky p xW c = sm_ky p xW d) : c = d := by
  unfold sm_ky at h
  omega
def sm_Od (K : Nat → Nat) (rc : Nat) (od po : Nat → Int32) : Prop := (∀ c, c < rc → po c = nI (sm_rk K (K c) rc) ∧ od (sm_rk K (K c) rc) = nI c) ∧ (∀ i, i < rc → ∃ c, c < rc ∧ sm_rk K (K c) rc = i)
theorem sm_Od_lt {K : Nat → Nat} {rc c : Nat} (hc : c < rc) : sm_rk K (K c) rc < rc := by
  -- the record itself doesn't count
  have h : ∀ n, c < n → sm_rk K (K c) n < n := by
    intro n
    induction n with
    | zero => intro h; exact absurd h (Nat.not_lt_zero c)
    | succ n ih =>
      intro h
      rw [sm_rk_s]
      rcases Nat.lt_or_ge c n with l | l
      · have := ih l
        split <;> omega
      · have e : c = n := by omega
        subst e
        have := sm_rk_le K (K c) c
        rw [if_neg (by omega)]; omega
  exact h rc hc
theorem sm_rk_ij {K : Nat → Nat} {rc c d : Nat} (ij : ∀ c d, c < rc → d < rc → K c = K d → c = d) (hc : c < rc) (hd : d < rc) (e : sm_rk K (K c) rc = sm_rk K (K d) rc) : c = d := by
  rcases Nat.lt_trichotomy (K c) (K d) with l | l | l
  · have := sm_rk_lt (K := K) rc hc l; omega
  · exact ij c d hc hd l
  · have := sm_rk_lt (K := K) rc hd l; omega
end
end
section
section
variable {th wd rl kl nw rc : Nat} {lw me bas ph ou st pt be re ta ld rm wm hm km bm se tw rT rS rB rP xR xW xs xw od po ch cl hd iR ck iW bk yR ys yW yw : Nat → Int32}
theorem sm_uu {f : Nat → Int32} {k : Nat} {x y : Int32} : upd (upd f k x) k y = upd f k y := by
  funext j
  by_cases h : j = k
  · rw [h, sm_us, sm_us]
  · rw [sm_un h, sm_un h, sm_un h]
theorem sm_lwd : ∀ v, v < 33 → ∀ o, o < 8 → ((nI (v * 8 + o) &&& 7) - 1 = nI o - 1) ∧ (nI (v * 8 + o) >>> ((3 : Int32) &&& 31) = nI v) ∧ (nI v <<< ((3 : Int32) &&& 31)) ||| nI o = nI (v * 8 + o) := by decide +kernel
theorem sm_shl3 : ∀ v, v < 33 → nI v <<< ((3 : Int32) &&& 31) = nI (v * 8) := by decide +kernel
theorem xh_T {post : Int32 → Prop} {t : Nat} (ht : t < th) (h4 : th ≤ 4) (h : post 1) : wpX_isThread post (nI th, nI wd, nI rl, nI kl, nI nw, nI rc, lw, me, bas, ph, ou, st, pt, be, re, ta, ld, rm, wm, hm, km, bm, se, tw, rT, rS, rB, rP, xR, xW, xs, xw, od, po, ch, cl) (nI t) :=
  br_f (nI_pos (by omega)) (br_f (nI_ge ht (by omega)) h)
theorem xh_T0 {post : Int32 → Prop} {v : Int32} (hv : v < 0 ∨ nI th ≤ v) (h : post 0) : wpX_isThread post (nI th, nI wd, nI rl, nI kl, nI nw, nI rc, lw, me, bas, ph, ou, st, pt, be, re, ta, ld, rm, wm, hm, km, bm, se, tw, rT, rS, rB, rP, xR, xW, xs, xw, od, po, ch, cl) v :=
  br_c (fun _ => h) (fun n => br_t (hv.resolve_left n) h)
theorem xh_W {post : Int32 → Prop} {t : Nat} (ht : t < wd) (h4 : wd ≤ 8) (h : post 1) : wpX_isWord post (nI th, nI wd, nI rl, nI kl, nI nw, nI rc, lw, me, bas, ph, ou, st, pt, be, re, ta, ld, rm, wm, hm, km, bm, se, tw, rT, rS, rB, rP, xR, xW, xs, xw, od, po, ch, cl) (nI t) :=
  br_f (nI_pos (by omega)) (br_f (nI_ge ht (by omega)) h)
theorem xh_W0 {post : Int32 → Prop} {v : Int32} (hv : v < 0 ∨ nI wd ≤ v) (h : post 0) : wpX_isWord post (nI th, nI wd, nI rl, nI kl, nI nw, nI rc, lw, me, bas, ph, ou, st, pt, be, re, ta, ld, rm, wm, hm, km, bm, se, tw, rT, rS, rB, rP, xR, xW, xs, xw, od, po, ch, cl) v :=
  br_c (fun _ => h) (fun n => br_t (hv.resolve_left n) h)
theorem xh_R {post : Int32 → Prop} {t : Nat} (ht : t < rc) (h4 : rc ≤ 32) (h : post 1) : wpX_isRecord post (nI th, nI wd, nI rl, nI kl, nI nw, nI rc, lw, me, bas, ph, ou, st, pt, be, re, ta, ld, rm, wm, hm, km, bm, se, tw, rT, rS, rB, rP, xR, xW, xs, xw, od, po, ch, cl) (nI t) :=
  br_f (nI_pos (by omega)) (br_f (nI_ge ht (by omega)) h)
theorem xh_R0 {post : Int32 → Prop} {v : Int32} (hv : v < 0 ∨ nI rc ≤ v) (h : post 0) : wpX_isRecord post (nI th, nI wd, nI rl, nI kl, nI nw, nI rc, lw, me, bas, ph, ou, st, pt, be, re, ta, ld, rm, wm, hm, km, bm, se, tw, rT, rS, rB, rP, xR, xW, xs, xw, od, po, ch, cl) v :=
  br_c (fun _ => h) (fun n => br_t (hv.resolve_left n) h)
theorem xh_O {post : Int32 → Prop} {t : Nat} (ht : t < th) (h4 : th ≤ 4) (hp : ph t = 1) (h : post 1) : wpX_isOpen post (nI th, nI wd, nI rl, nI kl, nI nw, nI rc, lw, me, bas, ph, ou, st, pt, be, re, ta, ld, rm, wm, hm, km, bm, se, tw, rT, rS, rB, rP, xR, xW, xs, xw, od, po, ch, cl) (nI t) := by
  unfold wpX_isOpen
  refine xh_T ht h4 ?_
  refine br_f sm_10 ?_
  refine And.intro (vp_in_nI (by omega) (by omega)) (br_t ?_ h)
  rw [nI_clamp (by omega)]; exact hp
theorem xh_O0 {post : Int32 → Prop} {t : Nat} (ht : t < th) (h4 : th ≤ 4) (hp : ¬ ph t = 1) (h : post 0) : wpX_isOpen post (nI th, nI wd, nI rl, nI kl, nI nw, nI rc, lw, me, bas, ph, ou, st, pt, be, re, ta, ld, rm, wm, hm, km, bm, se, tw, rT, rS, rB, rP, xR, xW, xs, xw, od, po, ch, cl) (nI t) := by
  unfold wpX_isOpen
  refine xh_T ht h4 ?_
  refine br_f sm_10 ?_
  refine And.intro (vp_in_nI (by omega) (by omega)) (br_f ?_ h)
  rw [nI_clamp (by omega)]; exact hp
theorem xh_O00 {post : Int32 → Prop} {v : Int32} (hv : v < 0 ∨ nI th ≤ v) (h : post 0) : wpX_isOpen post (nI th, nI wd, nI rl, nI kl, nI nw, nI rc, lw, me, bas, ph, ou, st, pt, be, re, ta, ld, rm, wm, hm, km, bm, se, tw, rT, rS, rB, rP, xR, xW, xs, xw, od, po, ch, cl) v := by
  unfold wpX_isOpen
  refine xh_T0 hv ?_
  exact br_t rfl h
theorem xh_has {post : Int32 → Prop} {x : Int32} {f : Nat → Int32} {a : Nat} (hm' : sm_MK x f) (ha : a < 8) (h0 : f a = 0 → post 0) (h1 : ¬ f a = 0 → post 1) : wpX_has post (nI th, nI wd, nI rl, nI kl, nI nw, nI rc, lw, me, bas, ph, ou, st, pt, be, re, ta, ld, rm, wm, hm, km, bm, se, tw, rT, rS, rB, rP, xR, xW, xs, xw, od, po, ch, cl) x (nI a) :=
  br_c (fun e => h0 ((sm_hs hm' ha).mp e)) (fun e => h1 (fun z => e ((sm_hs hm' ha).mpr z)))
theorem xh_own {post : Int32 → Prop} {a v o : Nat} (ha : a < 8) (hl : lw a = nI (v * 8 + o)) (hv : v ≤ 32) (ho : o ≤ 4) (h : post (nI o - 1)) : wpX_ownerOf post (nI th, nI wd, nI rl, nI kl, nI nw, nI rc, lw, me, bas, ph, ou, st, pt, be, re, ta, ld, rm, wm, hm, km, bm, se, tw, rT, rS, rB, rP, xR, xW, xs, xw, od, po, ch, cl) (nI a) := by
  unfold wpX_ownerOf
  refine And.intro (vp_in_nI ha (by omega)) ?_
  rw [nI_clamp (by omega), hl, (sm_lwd v (by omega) o (by omega)).1]
  exact h
theorem xh_ver {post : Int32 → Prop} {a v o : Nat} (ha : a < 8) (hl : lw a = nI (v * 8 + o)) (hv : v ≤ 32) (ho : o ≤ 4) (h : post (nI v)) : wpX_versionOf post (nI th, nI wd, nI rl, nI kl, nI nw, nI rc, lw, me, bas, ph, ou, st, pt, be, re, ta, ld, rm, wm, hm, km, bm, se, tw, rT, rS, rB, rP, xR, xW, xs, xw, od, po, ch, cl) (nI a) := by
  unfold wpX_versionOf
  refine And.intro (vp_in_nI ha (by omega)) ?_
  rw [nI_clamp (by omega), hl, (sm_lwd v (by omega) o (by omega)).2.1]
  exact h
theorem xh_ob17 {post : Int32 → Prop} {t a v o s0 : Nat} (ht : t < 4) (ha : a < 8) (hl : lw a = nI (v * 8 + o)) (hv : v ≤ 32) (ho : o ≤ 4) (hs : st t = nI s0) (hs' : s0 ≤ 32) (h0 : v ≤ s0 → post 0) (h3 : s0 < v → post 3) : wX_obstacle_17 post (nI t) (nI a) (nI th) (nI wd) (nI rl) (nI kl) (nI nw) (nI rc) lw me bas ph ou st pt be re ta ld rm wm hm km bm se tw rT rS rB rP xR xW xs xw od po ch cl := by
  unfold wX_obstacle_17
  refine xh_ver ha hl hv ho ?_
  refine And.intro (vp_in_nI ht (by omega)) ?_
  rw [nI_clamp (by omega), hs]
  exact br_c (fun e => h0 ((nI_leI (by omega) (by omega)).mp e)) (fun e => h3 (Nat.lt_of_not_le fun z => e ((nI_leI (by omega) (by omega)).mpr z)))
theorem xh_obV {post : Int32 → Prop} {t a v o s0 : Nat} (ht : t < 4) (ha : a < 8) (hl : lw a = nI (v * 8 + o)) (hv : v ≤ 32) (ho : o = 0 ∨ o = t + 1) (hs : st t = nI s0) (hs' : s0 ≤ 32) (h0 : v ≤ s0 → post 0) (h3 : s0 < v → post 3) : wpX_obstacle post (nI th, nI wd, nI rl, nI kl, nI nw, nI rc, lw, me, bas, ph, ou, st, pt, be, re, ta, ld, rm, wm, hm, km, bm, se, tw, rT, rS, rB, rP, xR, xW, xs, xw, od, po, ch, cl) (nI t) (nI a) := by
  unfold wpX_obstacle
  refine xh_own ha hl hv (by omega) ?_
  have k := xh_ob17 (th := th) (wd := wd) (rl := rl) (kl := kl) (nw := nw) (rc := rc) (lw := lw) (me := me) (bas := bas) (ph := ph) (ou := ou) (st := st) (pt := pt) (be := be) (re := re) (ta := ta) (ld := ld) (rm := rm) (wm := wm) (hm := hm) (km := km) (bm := bm) (se := se) (tw := tw) (rT := rT) (rS := rS) (rB := rB) (rP := rP) (xR := xR) (xW := xW) (xs := xs) (xw := xw) (od := od) (po := po) (ch := ch) (cl := cl) ht ha hl hv (by omega) hs hs' h0 h3
  rcases ho with rfl | rfl
  · exact br_t (by decide) k
  · refine br_f ?_ (br_t ?_ k)
    · rw [nI_pred]; exact nI_pos (by omega)
    · exact nI_pred t
theorem xh_obH {post : Int32 → Prop} {t a v s : Nat} (ht : t < 4) (ha : a < 8) (hl : lw a = nI (v * 8 + (s + 1))) (hv : v ≤ 32) (hs : s < 4) (ne : s ≠ t) (h : post 2) : wpX_obstacle post (nI th, nI wd, nI rl, nI kl, nI nw, nI rc, lw, me, bas, ph, ou, st, pt, be, re, ta, ld, rm, wm, hm, km, bm, se, tw, rT, rS, rB, rP, xR, xW, xs, xw, od, po, ch, cl) (nI t) (nI a) := by
  unfold wpX_obstacle
  refine xh_own ha hl hv (by omega) ?_
  refine br_f ?_ (br_f ?_ h)
  · rw [nI_pred]; exact nI_pos (by omega)
  · rw [nI_pred]; exact fun e => ne (sm_im e (by omega) (by omega))
theorem xh_ab0 {post : Int32 → SX → Prop} {t : Nat} {w : Int32} (ht : t < 4) (hz : hm t = 0) (h : post (-2) (nI th, nI wd, nI rl, nI kl, nI nw, nI rc, lw, me, bas, upd ph t 0, upd ou t w, st, pt, be, re, upd ta t (-1), ld, rm, wm, hm, km, bm, se, tw, rT, rS, rB, rP, xR, xW, xs, xw, od, po, ch, cl)) : wpX_abort post (nI th, nI wd, nI rl, nI kl, nI nw, nI rc, lw, me, bas, ph, ou, st, pt, be, re, ta, ld, rm, wm, hm, km, bm, se, tw, rT, rS, rB, rP, xR, xW, xs, xw, od, po, ch, cl) (nI t) w := by
  unfold wpX_abort
  refine sm_st ht (by omega) (sm_st ht (by omega) (And.intro (vp_in_nI ht (by omega)) (br_t ?_ (sm_st ht (by omega) h))))
  rw [nI_clamp (by omega)]; exact hz
theorem xh_ab1 {post : Int32 → SX → Prop} {t : Nat} {w : Int32} (ht : t < 4) (hz : ¬ hm t = 0) (h : post (-2) (nI th, nI wd, nI rl, nI kl, nI nw, nI rc, lw, me, bas, upd ph t 10, upd ou t w, st, pt, be, re, upd ta t (-1), ld, rm, wm, hm, km, bm, se, tw, rT, rS, rB, rP, xR, xW, xs, xw, od, po, ch, cl)) : wpX_abort post (nI th, nI wd, nI rl, nI kl, nI nw, nI rc, lw, me, bas, ph, ou, st, pt, be, re, ta, ld, rm, wm, hm, km, bm, se, tw, rT, rS, rB, rP, xR, xW, xs, xw, od, po, ch, cl) (nI t) w := by
  unfold wpX_abort
  refine sm_st ht (by omega) (sm_st ht (by omega) (And.intro (vp_in_nI ht (by omega)) (br_f ?_ (sm_st ht (by omega) h))))
  rw [nI_clamp (by omega)]; exact hz
theorem xh_least_l {post : Int32 → Prop} {x : Int32} {f : Nat → Int32} {a : Nat} (hx : sm_MK x f) (hw : wd ≤ 8) (hl : sm_Le f wd a) (hp : post (nI a)) : ∀ (i : Nat) (y : Int32), i ≤ wd → (i ≤ a → y = nI a) → wX_leastWord_9 post x (nI th) (nI wd) (nI rl) (nI kl) (nI nw) (nI rc) lw me bas ph ou st pt be re ta ld rm wm hm km bm se tw rT rS rB rP xR xW xs xw od po ch cl (i + 1) y (nI i - 1) := by
  intro i
  induction i with
  | zero =>
    intro y _ e
    refine br_t (by decide) ?_
    rw [e (Nat.zero_le a)]; exact hp
  | succ i ih =>
    intro y hi e
    rw [nI_pred]
    refine br_f (nI_pos (by omega)) ?_
    refine xh_has hx (by omega) (fun z => ?_) (fun z => ?_)
    · refine br_t rfl (nm_r (Int32.sub_eq_add_neg (nI i) 1).symm (ih y (by omega) fun g => e ?_))
      rcases Nat.lt_or_ge i a with l | l
      · exact l
      · have : i = a := by omega
        exact absurd (this ▸ z) hl.2.1
    · refine br_f sm_10 (nm_r (Int32.sub_eq_add_neg (nI i) 1).symm (ih (nI i) (by omega) fun g => ?_))
      rcases Nat.lt_or_ge i a with l | l
      · exact absurd (hl.2.2 i l) z
      · rw [show i = a by omega]
theorem xh_least {post : Int32 → Prop} {x : Int32} {f : Nat → Int32} {a : Nat} (hx : sm_MK x f) (hw : wd ≤ 8) (hl : sm_Le f wd a) (hp : post (nI a)) : wpX_leastWord post (nI th, nI wd, nI rl, nI kl, nI nw, nI rc, lw, me, bas, ph, ou, st, pt, be, re, ta, ld, rm, wm, hm, km, bm, se, tw, rT, rS, rB, rP, xR, xW, xs, xw, od, po, ch, cl) x := by
  unfold wpX_leastWord
  refine nm_e (Exists.intro (wd + 1) (xh_least_l hx hw hl hp wd 0 (Nat.le_refl _) fun g => ?_))
  exact absurd hl.1 (by omega)
theorem xh_count_l {post : Int32 → Prop} {x : Int32} {f : Nat → Int32} (hx : sm_MK x f) (hw : wd ≤ 8) (hp : post (nI (sm_ct f wd))) : ∀ d i : Nat, i + d = wd → wX_countWords_4 post x (nI th) (nI wd) (nI rl) (nI kl) (nI nw) (nI rc) lw me bas ph ou st pt be re ta ld rm wm hm km bm se tw rT rS rB rP xR xW xs xw od po ch cl (d + 1) (nI (sm_ct f i)) (nI i) := by
  intro d
  induction d with
  | zero =>
    intro i hi
    have : i = wd := by omega
    subst this
    exact br_t (nI_le (Nat.le_refl _) (by omega)) hp
  | succ d ih =>
    intro i hi
    have k := ih (i + 1) (by omega)
    refine br_f (nI_ge (by omega) (by omega)) ?_
    refine xh_has hx (by omega) (fun z => ?_) (fun z => ?_)
    · rw [show sm_ct f (i + 1) = sm_ct f i from by show sm_ct f i + (if f i = 0 then 0 else 1) = _; rw [if_pos z]; rfl] at k
      exact br_t rfl (nm_r (nI_1 i) k)
    · rw [show sm_ct f (i + 1) = sm_ct f i + 1 from by show sm_ct f i + (if f i = 0 then 0 else 1) = _; rw [if_neg z]] at k
      exact br_f sm_10 (nm_r (nI_1 _) (nm_r (nI_1 i) k))
theorem xh_count {post : Int32 → Prop} {x : Int32} {f : Nat → Int32} (hx : sm_MK x f) (hw : wd ≤ 8) (hp : post (nI (sm_ct f wd))) : wpX_countWords post (nI th, nI wd, nI rl, nI kl, nI nw, nI rc, lw, me, bas, ph, ou, st, pt, be, re, ta, ld, rm, wm, hm, km, bm, se, tw, rT, rS, rB, rP, xR, xW, xs, xw, od, po, ch, cl) x := by
  unfold wpX_countWords
  exact Exists.intro (wd + 1) (xh_count_l hx hw hp wd 0 (by omega))
end
end
section
section
variable {th wd rl kl nw rc : Nat} {lw me bas ph ou st pt be re ta ld rm wm hm km bm se tw rT rS rB rP xR xW xs xw od po ch cl hd iR ck iW bk yR ys yW yw : Nat → Int32}
theorem yh_T {post : Int32 → Prop} {t : Nat} (ht : t < th) (h4 : th ≤ 4) (h : post 0) : wpY_badThread post (nI th, nI wd, nI rl, nI kl, nI nw, nI rc, bas, hd, ph, ou, st, pt, be, re, ta, iR, se, ck, iW, tw, bk, rT, rS, rB, rP, yR, ys, yW, yw) (nI t) :=
  br_f (nI_pos (by omega)) (br_t (nI_lt ht (by omega)) h)
theorem yh_T0 {post : Int32 → Prop} {v : Int32} (hv : v < 0 ∨ nI th ≤ v) (h : post 1) : wpY_badThread post (nI th, nI wd, nI rl, nI kl, nI nw, nI rc, bas, hd, ph, ou, st, pt, be, re, ta, iR, se, ck, iW, tw, bk, rT, rS, rB, rP, yR, ys, yW, yw) v :=
  br_c (fun _ => h) (fun n => br_f (Int32.not_lt.mpr (hv.resolve_left n)) h)
theorem yh_W {post : Int32 → Prop} {t : Nat} (ht : t < wd) (h4 : wd ≤ 8) (h : post 0) : wpY_badWord post (nI th, nI wd, nI rl, nI kl, nI nw, nI rc, bas, hd, ph, ou, st, pt, be, re, ta, iR, se, ck, iW, tw, bk, rT, rS, rB, rP, yR, ys, yW, yw) (nI t) :=
  br_f (nI_pos (by omega)) (br_t (nI_lt ht (by omega)) h)
theorem yh_W0 {post : Int32 → Prop} {v : Int32} (hv : v < 0 ∨ nI wd ≤ v) (h : post 1) : wpY_badWord post (nI th, nI wd, nI rl, nI kl, nI nw, nI rc, bas, hd, ph, ou, st, pt, be, re, ta, iR, se, ck, iW, tw, bk, rT, rS, rB, rP, yR, ys, yW, yw) v :=
  br_c (fun _ => h) (fun n => br_f (Int32.not_lt.mpr (hv.resolve_left n)) h)
theorem yh_p4 {post : Int32 → Prop} {t a : Nat} (ht : t < 4) (ha : a < 8) (hq : ph t = 4) (h : post (if iW (t * 8 + a) = 0 then 0 else if hd a = nI t then 0 else 1)) : wpY_pending post (nI th, nI wd, nI rl, nI kl, nI nw, nI rc, bas, hd, ph, ou, st, pt, be, re, ta, iR, se, ck, iW, tw, bk, rT, rS, rB, rP, yR, ys, yW, yw) (nI t) (nI a) := by
  have e1 : (nI t * 8 + nI a).toNatClampNeg = t * 8 + a := sm_cl (sm_ix t a) (by omega)
  have e2 : (nI a).toNatClampNeg = a := nI_clamp (by omega)
  unfold wpY_pending
  refine And.intro (vp_in_nI ht (by omega)) (nm_r (e' := 4) (by rw [nI_clamp (by omega)]; exact hq) ?_)
  refine br_t rfl (And.intro (sm_in (sm_ix t a) (by omega) (by omega)) ?_)
  refine br_c (fun z => ?_) (fun z => And.intro (vp_in_nI ha (by omega)) (br_c (fun w => ?_) (fun w => ?_)))
  · rw [e1] at z; rw [if_pos z] at h; exact h
  · rw [e1] at z; rw [e2] at w; rw [if_neg z, if_pos w] at h; exact h
  · rw [e1] at z; rw [e2] at w; rw [if_neg z, if_neg w] at h; exact h
theorem yh_p6 {post : Int32 → Prop} {t a : Nat} (ht : t < 4) (ha : a < 8) (hq : ph t = 6) (h : post (if iR (t * 8 + a) = 0 then 0 else if ck (t * 8 + a) = 0 then 1 else 0)) : wpY_pending post (nI th, nI wd, nI rl, nI kl, nI nw, nI rc, bas, hd, ph, ou, st, pt, be, re, ta, iR, se, ck, iW, tw, bk, rT, rS, rB, rP, yR, ys, yW, yw) (nI t) (nI a) := by
  have e1 : (nI t * 8 + nI a).toNatClampNeg = t * 8 + a := sm_cl (sm_ix t a) (by omega)
  unfold wpY_pending
  refine And.intro (vp_in_nI ht (by omega)) (nm_r (e' := 6) (by rw [nI_clamp (by omega)]; exact hq) ?_)
  refine br_f (by decide) (br_t rfl (And.intro (sm_in (sm_ix t a) (by omega) (by omega)) ?_))
  refine br_c (fun z => ?_) (fun z => And.intro (sm_in (sm_ix t a) (by omega) (by omega)) (br_c (fun w => ?_) (fun w => ?_)))
  · rw [e1] at z; rw [if_pos z] at h; exact h
  · rw [e1] at z w; rw [if_neg z, if_pos w] at h; exact h
  · rw [e1] at z w; rw [if_neg z, if_neg w] at h; exact h
theorem yh_p8 {post : Int32 → Prop} {t a : Nat} (ht : t < 4) (ha : a < 8) (hq : ph t = 8) (h : post (if iW (t * 8 + a) = 0 then 0 else if bk (t * 8 + a) = 0 then 1 else 0)) : wpY_pending post (nI th, nI wd, nI rl, nI kl, nI nw, nI rc, bas, hd, ph, ou, st, pt, be, re, ta, iR, se, ck, iW, tw, bk, rT, rS, rB, rP, yR, ys, yW, yw) (nI t) (nI a) := by
  have e1 : (nI t * 8 + nI a).toNatClampNeg = t * 8 + a := sm_cl (sm_ix t a) (by omega)
  unfold wpY_pending
  refine And.intro (vp_in_nI ht (by omega)) (nm_r (e' := 8) (by rw [nI_clamp (by omega)]; exact hq) ?_)
  refine br_f (by decide) (br_f (by decide) (br_t rfl (And.intro (sm_in (sm_ix t a) (by omega) (by omega)) ?_)))
  refine br_c (fun z => ?_) (fun z => And.intro (sm_in (sm_ix t a) (by omega) (by omega)) (br_c (fun w => ?_) (fun w => ?_)))
  · rw [e1] at z; rw [if_pos z] at h; exact h
  · rw [e1] at z w; rw [if_neg z, if_pos w] at h; exact h
  · rw [e1] at z w; rw [if_neg z, if_neg w] at h; exact h
theorem yh_p134 {post : Int32 → Prop} {t a : Nat} (ha : a < 8) (h : post (if hd a = nI t then 1 else 0)) : wY_pending_134 post (nI t) (nI a) (nI th) (nI wd) (nI rl) (nI kl) (nI nw) (nI rc) bas hd ph ou st pt be re ta iR se ck iW tw bk rT rS rB rP yR ys yW yw := by
  have e2 : (nI a).toNatClampNeg = a := nI_clamp (by omega)
  unfold wY_pending_134
  refine And.intro (vp_in_nI ha (by omega)) (br_c (fun w => ?_) (fun w => ?_))
  · rw [e2] at w; rw [if_pos w] at h; exact h
  · rw [e2] at w; rw [if_neg w] at h; exact h
theorem yh_p9 {post : Int32 → Prop} {t a : Nat} (ht : t < 4) (ha : a < 8) (hq : ph t = 9 ∨ ph t = 10) (h : post (if hd a = nI t then 1 else 0)) : wpY_pending post (nI th, nI wd, nI rl, nI kl, nI nw, nI rc, bas, hd, ph, ou, st, pt, be, re, ta, iR, se, ck, iW, tw, bk, rT, rS, rB, rP, yR, ys, yW, yw) (nI t) (nI a) := by
  unfold wpY_pending
  rcases hq with hq | hq
  · refine And.intro (vp_in_nI ht (by omega)) (nm_r (e' := 9) (by rw [nI_clamp (by omega)]; exact hq) ?_)
    exact br_f (by decide) (br_f (by decide) (br_f (by decide) (br_t rfl (yh_p134 ha h))))
  · refine And.intro (vp_in_nI ht (by omega)) (nm_r (e' := 10) (by rw [nI_clamp (by omega)]; exact hq) ?_)
    exact br_f (by decide) (br_f (by decide) (br_f (by decide) (br_f (by decide) (br_t rfl (yh_p134 ha h)))))
theorem yh_p0 {post : Int32 → Prop} {t a q : Nat} (ht : t < 4) (hq : ph t = nI q) (hq2 : q ≤ 10) (hn : q ≠ 4 ∧ q ≠ 6 ∧ q ≠ 8 ∧ q ≠ 9 ∧ q ≠ 10) (h : post 0) : wpY_pending post (nI th, nI wd, nI rl, nI kl, nI nw, nI rc, bas, hd, ph, ou, st, pt, be, re, ta, iR, se, ck, iW, tw, bk, rT, rS, rB, rP, yR, ys, yW, yw) (nI t) (nI a) := by
  unfold wpY_pending
  refine And.intro (vp_in_nI ht (by omega)) (nm_r (e' := nI q) (by rw [nI_clamp (by omega)]; exact hq) ?_)
  have k : ∀ z : Nat, z ≤ 10 → q ≠ z → ¬ nI q = nI z := fun z hz ne e => ne (sm_im e (by omega) (by omega))
  exact br_f (k 4 (by omega) hn.1) (br_f (k 6 (by omega) hn.2.1) (br_f (k 8 (by omega) hn.2.2.1) (br_f (k 9 (by omega) hn.2.2.2.1) (br_f (k 10 (by omega) hn.2.2.2.2) h))))
theorem yh_todo_l {post : Int32 → Prop} {t : Nat} {g : Nat → Int32} (H : ∀ a, a < wd → ∀ post : Int32 → Prop, post (g a) → wpY_pending post (nI th, nI wd, nI rl, nI kl, nI nw, nI rc, bas, hd, ph, ou, st, pt, be, re, ta, iR, se, ck, iW, tw, bk, rT, rS, rB, rP, yR, ys, yW, yw) (nI t) (nI a)) (hw : wd ≤ 8) (hp : post (nI (sm_ct g wd))) : ∀ d i : Nat, i + d = wd → wY_todo_4 post (nI t) (nI th) (nI wd) (nI rl) (nI kl) (nI nw) (nI rc) bas hd ph ou st pt be re ta iR se ck iW tw bk rT rS rB rP yR ys yW yw (d + 1) (nI (sm_ct g i)) (nI i) := by
  intro d
  induction d with
  | zero =>
    intro i hi
    have : i = wd := by omega
    subst this
    exact br_t (nI_le (Nat.le_refl _) (by omega)) hp
  | succ d ih =>
    intro i hi
    have k := ih (i + 1) (by omega)
    refine br_f (nI_ge (by omega) (by omega)) ?_
    refine H i (by omega) _ ?_
    refine br_c (fun z => ?_) (fun z => ?_)
    · rw [show sm_ct g (i + 1) = sm_ct g i from by show sm_ct g i + (if g i = 0 then 0 else 1) = _; rw [if_pos z]; rfl] at k
      exact nm_r (nI_1 i) k
    · rw [show sm_ct g (i + 1) = sm_ct g i + 1 from by show sm_ct g i + (if g i = 0 then 0 else 1) = _; rw [if_neg z]] at k
      exact nm_r (nI_1 _) (nm_r (nI_1 i) k)
theorem yh_todo {post : Int32 → Prop} {t : Nat} {g : Nat → Int32} (H : ∀ a, a < wd → ∀ post : Int32 → Prop, post (g a) → wpY_pending post (nI th, nI wd, nI rl, nI kl, nI nw, nI rc, bas, hd, ph, ou, st, pt, be, re, ta, iR, se, ck, iW, tw, bk, rT, rS, rB, rP, yR, ys, yW, yw) (nI t) (nI a)) (hw : wd ≤ 8) (hp : post (nI (sm_ct g wd))) : wpY_todo post (nI th, nI wd, nI rl, nI kl, nI nw, nI rc, bas, hd, ph, ou, st, pt, be, re, ta, iR, se, ck, iW, tw, bk, rT, rS, rB, rP, yR, ys, yW, yw) (nI t) := by
  unfold wpY_todo
  exact Exists.intro (wd + 1) (yh_todo_l H hw hp wd 0 (by omega))
theorem yh_least_l {post : Int32 → Prop} {t a : Nat} {g : Nat → Int32} (H : ∀ a, a < wd → ∀ post : Int32 → Prop, post (g a) → wpY_pending post (nI th, nI wd, nI rl, nI kl, nI nw, nI rc, bas, hd, ph, ou, st, pt, be, re, ta, iR, se, ck, iW, tw, bk, rT, rS, rB, rP, yR, ys, yW, yw) (nI t) (nI a)) (hw : wd ≤ 8) (hl : sm_Le g wd a) (hp : post (nI a)) : ∀ d i : Nat, i + d = wd → i ≤ a → wY_least_2 post (nI t) (nI th) (nI wd) (nI rl) (nI kl) (nI nw) (nI rc) bas hd ph ou st pt be re ta iR se ck iW tw bk rT rS rB rP yR ys yW yw (d + 1) (nI i) := by
  intro d
  induction d with
  | zero =>
    intro i hi ia
    exact absurd hl.1 (by omega)
  | succ d ih =>
    intro i hi ia
    refine br_f (nI_ge (by omega) (by omega)) ?_
    refine H i (by omega) _ ?_
    refine br_c (fun z => nm_r (nI_1 i) (ih (i + 1) (by omega) ?_)) (fun z => ?_)
    · rcases Nat.lt_or_ge i a with l | l
      · exact l
      · have : i = a := by omega
        exact absurd (this ▸ z) hl.2.1
    · rcases Nat.lt_or_ge i a with l | l
      · exact absurd (hl.2.2 i l) z
      · rw [show i = a by omega]; exact hp
theorem yh_least {post : Int32 → Prop} {t a : Nat} {g : Nat → Int32} (H : ∀ a, a < wd → ∀ post : Int32 → Prop, post (g a) → wpY_pending post (nI th, nI wd, nI rl, nI kl, nI nw, nI rc, bas, hd, ph, ou, st, pt, be, re, ta, iR, se, ck, iW, tw, bk, rT, rS, rB, rP, yR, ys, yW, yw) (nI t) (nI a)) (hw : wd ≤ 8) (hl : sm_Le g wd a) (hp : post (nI a)) : wpY_least post (nI th, nI wd, nI rl, nI kl, nI nw, nI rc, bas, hd, ph, ou, st, pt, be, re, ta, iR, se, ck, iW, tw, bk, rT, rS, rB, rP, yR, ys, yW, yw) (nI t) := by
  unfold wpY_least
  exact Exists.intro (wd + 1) (yh_least_l H hw hl hp wd 0 (by omega) (by omega))
theorem yh_pass {post : Int32 → SY → Prop} {t : Nat} {g : Nat → Int32} {nx an : Int32} (ht : t < 4) (H : ∀ a, a < wd → ∀ post : Int32 → Prop, post (g a) → wpY_pending post (nI th, nI wd, nI rl, nI kl, nI nw, nI rc, bas, hd, ph, ou, st, pt, be, re, ta, iR, se, ck, iW, tw, bk, rT, rS, rB, rP, yR, ys, yW, yw) (nI t) (nI a)) (hw : wd ≤ 8) (h0 : (∀ a, a < wd → g a = 0) → post an (nI th, nI wd, nI rl, nI kl, nI nw, nI rc, bas, hd, upd ph t nx, ou, st, pt, be, re, ta, iR, se, ck, iW, tw, bk, rT, rS, rB, rP, yR, ys, yW, yw)) (h1 : (∃ a, a < wd ∧ ¬ g a = 0) → post an (nI th, nI wd, nI rl, nI kl, nI nw, nI rc, bas, hd, ph, ou, st, pt, be, re, ta, iR, se, ck, iW, tw, bk, rT, rS, rB, rP, yR, ys, yW, yw)) : wpY_pass post (nI th, nI wd, nI rl, nI kl, nI nw, nI rc, bas, hd, ph, ou, st, pt, be, re, ta, iR, se, ck, iW, tw, bk, rT, rS, rB, rP, yR, ys, yW, yw) (nI t) nx an := by
  unfold wpY_pass
  have hc := sm_ct_le g wd
  refine yh_todo H hw ?_
  refine br_c (fun z => ?_) (fun z => ?_)
  · refine sm_st ht (by omega) (h0 ((sm_ct_0 wd).mp ?_))
    exact sm_im (b := 0) z (by omega) (by omega)
  · refine h1 (Classical.byContradiction fun no => z ?_)
    rw [(sm_ct_0 wd).mpr fun i hi => Classical.byContradiction fun k => no ⟨i, hi, k⟩]
    exact nI_0
theorem yh_ab0 {post : Int32 → SY → Prop} {t : Nat} {w : Int32} (ht : t < 4) (hw : wd ≤ 8) (hz : ∀ a, a < wd → ¬ hd a = nI t) (h : post (-2) (nI th, nI wd, nI rl, nI kl, nI nw, nI rc, bas, hd, upd ph t 0, upd ou t w, st, pt, be, re, upd ta t (-1), iR, se, ck, iW, tw, bk, rT, rS, rB, rP, yR, ys, yW, yw)) : wpY_abort post (nI th, nI wd, nI rl, nI kl, nI nw, nI rc, bas, hd, ph, ou, st, pt, be, re, ta, iR, se, ck, iW, tw, bk, rT, rS, rB, rP, yR, ys, yW, yw) (nI t) w := by
  unfold wpY_abort
  refine sm_st ht (by omega) (sm_st ht (by omega) (sm_st ht (by omega) ?_))
  refine yh_pass (g := fun a => if hd a = nI t then 1 else 0) ht (fun a ha post hp => yh_p9 ht (by omega) (Or.inr sm_us) hp) hw (fun _ => ?_) (fun e => ?_)
  · rw [sm_uu]; exact h
  · obtain ⟨a, ha, k⟩ := e
    exact absurd (if_neg (hz a ha)) k
theorem yh_ab1 {post : Int32 → SY → Prop} {t : Nat} {w : Int32} (ht : t < 4) (hw : wd ≤ 8) (hz : ∃ a, a < wd ∧ hd a = nI t) (h : post (-2) (nI th, nI wd, nI rl, nI kl, nI nw, nI rc, bas, hd, upd ph t 10, upd ou t w, st, pt, be, re, upd ta t (-1), iR, se, ck, iW, tw, bk, rT, rS, rB, rP, yR, ys, yW, yw)) : wpY_abort post (nI th, nI wd, nI rl, nI kl, nI nw, nI rc, bas, hd, ph, ou, st, pt, be, re, ta, iR, se, ck, iW, tw, bk, rT, rS, rB, rP, yR, ys, yW, yw) (nI t) w := by
  unfold wpY_abort
  refine sm_st ht (by omega) (sm_st ht (by omega) (sm_st ht (by omega) ?_))
  refine yh_pass (g := fun a => if hd a = nI t then 1 else 0) ht (fun a ha post hp => yh_p9 ht (by omega) (Or.inr sm_us) hp) hw (fun e => ?_) (fun _ => ?_)
  · obtain ⟨a, ha, k⟩ := hz
    have := e a ha
    rw [if_pos k] at this
    exact absurd this sm_10
  · exact h
theorem yh_stamp_l {post : Int32 → Prop} {a : Nat} (ha : a < 8) (hr : rc ≤ 32) (hP : ∀ c, c < rc → rP c = nI (sm_tn (rP c)) ∧ sm_tn (rP c) ≤ 32) (hS : ∀ c, c < rc → ¬ yW (c * 8 + a) = 0 → sm_sp yW rP a c < sm_tn (rP c)) (hb : ∀ c, c ≤ rc → sm_sp yW rP a c ≤ 32) (hp : post (nI (sm_sp yW rP a rc))) : ∀ d c : Nat, c + d = rc → wY_stampOf_4 post (nI a) (nI th) (nI wd) (nI rl) (nI kl) (nI nw) (nI rc) bas hd ph ou st pt be re ta iR se ck iW tw bk rT rS rB rP yR ys yW yw (d + 1) (nI (sm_sp yW rP a c)) (nI c) := by
  intro d
  induction d with
  | zero =>
    intro c hc
    have : c = rc := by omega
    subst this
    exact br_t (nI_le (Nat.le_refl _) (by omega)) hp
  | succ d ih =>
    intro c hc
    have k := ih (c + 1) (by omega)
    have e1 : (nI c * 8 + nI a).toNatClampNeg = c * 8 + a := sm_cl (sm_ix c a) (by omega)
    have e2 : (nI c).toNatClampNeg = c := nI_clamp (by omega)
    have p := hP c (by omega)
    have b := hb c (by omega)
    refine br_f (nI_ge (by omega) (by omega)) (And.intro (sm_in (sm_ix c a) (by omega) (by omega)) ?_)
    refine br_c (fun z => ?_) (fun z => And.intro (vp_in_nI (by omega) (by omega)) (br_f ?_ (And.intro (vp_in_nI (by omega) (by omega)) ?_)))
    · rw [e1] at z
      rw [sm_sp_z z] at k
      exact nm_r (nI_1 c) k
    · rw [e1] at z
      rw [e2, p.1]
      exact nI_ge (hS c (by omega) z) (by omega)
    · rw [e1] at z
      rw [sm_sp_o z] at k
      exact nm_r (by rw [e2]; exact p.1) (nm_r (nI_1 c) k)
theorem yh_stamp {post : Int32 → Prop} {a : Nat} (ha : a < 8) (hr : rc ≤ 32) (hP : ∀ c, c < rc → rP c = nI (sm_tn (rP c)) ∧ sm_tn (rP c) ≤ 32) (h1 : ∀ c, c < rc → ¬ yW (c * 8 + a) = 0 → 1 ≤ sm_tn (rP c)) (hI : sm_In yW rP a rc) (hp : post (nI (sm_sp yW rP a rc))) : wpY_stampOf post (nI th, nI wd, nI rl, nI kl, nI nw, nI rc, bas, hd, ph, ou, st, pt, be, re, ta, iR, se, ck, iW, tw, bk, rT, rS, rB, rP, yR, ys, yW, yw) (nI a) := by
  unfold wpY_stampOf
  refine Exists.intro (rc + 1) (yh_stamp_l ha hr hP (fun c hc z => ?_) (fun c hc => ?_) hp rc 0 (by omega))
  · exact sm_sp_l c (by have := h1 c hc z; omega) fun d hd w => hI d c hd hc w z
  · exact sm_sp_b c fun d hd => (hP d (by omega)).2
theorem yh_val_l {post : Int32 → Prop} {a k : Nat} (ha : a < 8) (hk : k ≤ 32) (hr : rc ≤ 32) (hP : ∀ c, c < rc → rP c = nI (sm_tn (rP c)) ∧ sm_tn (rP c) ≤ 32) (hI : sm_In yW rP a rc) (hp : post (sm_va bas yW yw rP a k rc)) : ∀ (d c : Nat) (b : Int32), c + d = rc → (∀ e, c ≤ e → e < rc → ¬ yW (e * 8 + a) = 0 → b < rP e) → wY_valueOf_13 post (nI a) (nI k) (nI th) (nI wd) (nI rl) (nI kl) (nI nw) (nI rc) bas hd ph ou st pt be re ta iR se ck iW tw bk rT rS rB rP yR ys yW yw (d + 1) (sm_va bas yW yw rP a k c) b (nI c) := by
  intro d
  induction d with
  | zero =>
    intro c b hc _
    have : c = rc := by omega
    subst this
    exact br_t (nI_le (Nat.le_refl _) (by omega)) hp
  | succ d ih =>
    intro c b hc hb
    have K := ih (c + 1)
    have e1 : (nI c * 8 + nI a).toNatClampNeg = c * 8 + a := sm_cl (sm_ix c a) (by omega)
    have e2 : (nI c).toNatClampNeg = c := nI_clamp (by omega)
    have p := hP c (by omega)
    refine br_f (nI_ge (by omega) (by omega)) (And.intro (sm_in (sm_ix c a) (by omega) (by omega)) ?_)
    refine br_c (fun z => ?_) (fun z => And.intro (vp_in_nI (by omega) (by omega)) ?_)
    · rw [e1] at z
      have K := K b (by omega) fun e he => hb e (by omega)
      rw [sm_va_z z] at K
      exact nm_r (nI_1 c) K
    · rw [e1] at z
      refine br_c (fun w => ?_) (fun w => And.intro (vp_in_nI (by omega) (by omega)) (br_f ?_ (And.intro (vp_in_nI (by omega) (by omega)) ?_)))
      · rw [e2, p.1, nI_ltI (by omega) (by omega)] at w
        have K := K b (by omega) fun e he => hb e (by omega)
        rw [sm_va_n z (by omega)] at K
        exact nm_r (nI_1 c) K
      · rw [e2]
        exact Int32.not_le.mpr (hb c (Nat.le_refl _) (by omega) z)
      · rw [e2, p.1, nI_ltI (by omega) (by omega)] at w
        have K := K (rP c) (by omega) fun e he hl g => by
          rw [p.1, (hP e hl).1]
          exact nI_lt (hI c e (by omega) hl z g) (by have := (hP e hl).2; omega)
        rw [sm_va_o z (by omega)] at K
        exact nm_r (by rw [e2]) (And.intro (sm_in (sm_ix c a) (by omega) (by omega)) (nm_r (by rw [e1]) (nm_r (nI_1 c) K)))
theorem yh_val {post : Int32 → Prop} {a k : Nat} (ha : a < 8) (hk : k ≤ 32) (hr : rc ≤ 32) (hP : ∀ c, c < rc → rP c = nI (sm_tn (rP c)) ∧ sm_tn (rP c) ≤ 32) (hI : sm_In yW rP a rc) (hp : post (sm_va bas yW yw rP a k rc)) : wpY_valueOf post (nI th, nI wd, nI rl, nI kl, nI nw, nI rc, bas, hd, ph, ou, st, pt, be, re, ta, iR, se, ck, iW, tw, bk, rT, rS, rB, rP, yR, ys, yW, yw) (nI a) (nI k) := by
  unfold wpY_valueOf
  refine And.intro (vp_in_nI ha (by omega)) (nm_r (e' := bas a) (by rw [nI_clamp (by omega)]) (Exists.intro (rc + 1) (yh_val_l ha hk hr hP hI hp rc 0 (-1) (by omega) fun e _ he _ => ?_)))
  rw [(hP e he).1]
  have := (hP e he).2
  exact Int32.lt_of_lt_of_le sm_m1 (nI_pos' (by omega))
end
end
section
section
variable {th wd rl kl nw rc : Nat} {lw me bas ph ou st pt be re ta ld rm wm hm km bm se tw rT rS rB rP xR xW xs xw od po ch cl hd iR ck iW bk yR ys yW yw : Nat → Int32}
/-! the relation, in groups -/
def sm_rw (f : Nat → Int32) (t a : Nat) : Int32 := f (t * 8 + a)
def sm_hw (hd : Nat → Int32) (t a : Nat) : Int32 := if hd a = nI t then 1 else 0
theorem sm_hw1 {hd : Nat → Int32} {t a : Nat} (h : hd a = nI t) : sm_hw hd t a = 1 := if_pos h
theorem sm_hw0 {hd : Nat → Int32} {t a : Nat} (h : ¬ hd a = nI t) : sm_hw hd t a = 0 := if_neg h
theorem sm_hwz {hd : Nat → Int32} {t a : Nat} : sm_hw hd t a = 0 ↔ ¬ hd a = nI t := by
  by_cases h : hd a = nI t
  · rw [sm_hw1 h]; exact ⟨fun e => absurd e sm_10, fun e => absurd h e⟩
  · rw [sm_hw0 h]; exact ⟨fun _ => h, fun _ => rfl⟩
def sm_Nb (th wd rl kl nw rc : Nat) : Prop := 2 ≤ th ∧ th ≤ 4 ∧ 2 ≤ wd ∧ wd ≤ 8 ∧ 2 ≤ rl ∧ rl ≤ 32 ∧ 2 ≤ kl ∧ kl ≤ 32 ∧ nw ≤ kl ∧ rc ≤ rl
def sm_Rk (wd rc : Nat) (xR xW xs xw yR ys yW yw : Nat → Int32) : Prop := ∀ c, c < rc → sm_MK (xR c) (sm_rw yR c) ∧ sm_MK (xW c) (sm_rw yW c) ∧ (∀ a, wd ≤ a → a < 8 → yR (c * 8 + a) = 0 ∧ yW (c * 8 + a) = 0) ∧ (∀ a, a < wd → xs (c * 8 + a) = (if yR (c * 8 + a) = 0 then 0 else ys (c * 8 + a)) ∧ xw (c * 8 + a) = (if yW (c * 8 + a) = 0 then 0 else yw (c * 8 + a)))
def sm_Pt (wd nw rc : Nat) (rP xW yW : Nat → Int32) : Prop := (∀ c, c < rc → rP c = nI (sm_tn (rP c)) ∧ sm_tn (rP c) ≤ nw ∧ (¬ xW c = 0 → 1 ≤ sm_tn (rP c))) ∧ (∀ c d, c < rc → d < rc → ¬ xW c = 0 → ¬ xW d = 0 → sm_tn (rP c) = sm_tn (rP d) → c = d) ∧ (∀ a, a < wd → sm_In yW rP a rc)
def sm_E1 (wd : Nat) (f g : Nat → Int32) : Prop := ∃ a, a < wd ∧ ¬ f a = 0 ∧ g a = 0
def sm_E2 (wd t : Nat) (hd f : Nat → Int32) : Prop := ∃ a, a < wd ∧ ¬ f a = 0 ∧ ¬ hd a = nI t
def sm_E3 (wd t : Nat) (hd : Nat → Int32) : Prop := ∃ a, a < wd ∧ hd a = nI t
def sm_TA (wd nw q : Nat) (x m1 m2 m4 m5 : Int32) (fR fW fK fB : Nat → Int32) : Prop :=
  x = nI (sm_tn x) ∧ sm_tn x ≤ nw ∧ sm_MK m1 fR ∧ sm_MK m2 fW ∧ (∀ a, a < 8 → (fR a = 0 ∨ fR a = 1) ∧ (fW a = 0 ∨ fW a = 1)) ∧ (∀ a, wd ≤ a → a < 8 → fR a = 0 ∧ fW a = 0) ∧ (4 ≤ q → sm_MK m4 fK ∧ sm_MK m5 fB ∧ ∀ a, a < 8 → (¬ fK a = 0 → ¬ fR a = 0) ∧ (¬ fB a = 0 → ¬ fW a = 0)) ∧ ((q = 4 ∨ q = 5) → ∀ a, a < 8 → fK a = 0) ∧ (4 ≤ q → q ≤ 7 → ∀ a, a < 8 → fB a = 0) ∧ (q = 6 → sm_E1 wd fR fK) ∧ (q = 8 → sm_E1 wd fW fB)
def sm_TT (th wd nw : Nat) (ph st rm wm km bm iR iW ck bk : Nat → Int32) : Prop := ∀ t, t < th → ph t = nI (sm_tn (ph t)) ∧ sm_tn (ph t) ≤ 10 ∧ sm_TA wd nw (sm_tn (ph t)) (st t) (rm t) (wm t) (km t) (bm t) (sm_rw iR t) (sm_rw iW t) (sm_rw ck t) (sm_rw bk t)
def sm_HA (wd q t : Nat) (m3 : Int32) (hd fW : Nat → Int32) : Prop :=
  sm_MK m3 (sm_hw hd t) ∧ (q < 4 → ∀ a, a < 8 → ¬ hd a = nI t) ∧ (4 ≤ q → q ≤ 9 → ∀ a, a < 8 → hd a = nI t → ¬ fW a = 0) ∧ (q = 4 → sm_E2 wd t hd fW) ∧ (5 ≤ q → q ≤ 8 → ∀ a, a < 8 → ¬ fW a = 0 → hd a = nI t) ∧ (5 ≤ q → sm_E3 wd t hd)
def sm_HH (th wd : Nat) (ph hm hd iW : Nat → Int32) : Prop := (∀ a, a < 8 → hd a = -1 ∨ ∃ s, s < th ∧ a < wd ∧ hd a = nI s) ∧ ∀ t, t < th → sm_HA wd (sm_tn (ph t)) t (hm t) hd (sm_rw iW t)
def sm_WA (th S : Nat) (V : Int32) (a : Nat) (lwa mea hda : Int32) (ph pt tw bk : Nat → Int32) : Prop :=
  ∃ v o, v ≤ 32 ∧ o ≤ 4 ∧ lwa = nI (v * 8 + o) ∧ hda = nI o - 1 ∧ ((∀ s, s < th → hda = nI s → sm_tn (ph s) < 8 ∨ sm_tn (ph s) = 10) → v = S) ∧ ((∀ s, s < th → hda = nI s → sm_tn (ph s) = 8 → ¬ sm_rw bk s a = 0) → mea = V) ∧ (∀ s, s < th → hda = nI s → (8 ≤ sm_tn (ph s) → sm_tn (ph s) ≤ 9 → S = sm_tn (pt s)) ∧ (sm_tn (ph s) = 8 → V = sm_rw tw s a) ∧ (6 ≤ sm_tn (ph s) → sm_tn (ph s) ≤ 7 → S < sm_tn (pt s)))
def sm_WW (th wd : Nat) (S : Nat → Nat) (V lw me hd ph pt tw bk : Nat → Int32) : Prop := ∀ a, a < wd → sm_WA th (S a) (V a) a (lw a) (me a) (hd a) ph pt tw bk
def sm_PP (th nw rc : Nat) (rP xW ph pt : Nat → Int32) : Prop := (∀ t, t < th → 6 ≤ sm_tn (ph t) → sm_tn (ph t) ≤ 9 → pt t = nI (sm_tn (pt t)) ∧ 1 ≤ sm_tn (pt t) ∧ sm_tn (pt t) ≤ nw) ∧ (∀ t, t < th → 6 ≤ sm_tn (ph t) → sm_tn (ph t) ≤ 7 → ∀ c, c < rc → ¬ xW c = 0 → sm_tn (rP c) ≠ sm_tn (pt t)) ∧ (∀ s t, s < th → t < th → s ≠ t → 6 ≤ sm_tn (ph s) → sm_tn (ph s) ≤ 7 → 6 ≤ sm_tn (ph t) → sm_tn (ph t) ≤ 7 → sm_tn (pt s) ≠ sm_tn (pt t))
def sm_RA (th wd q : Nat) (S : Nat → Nat) (V : Nat → Int32) (x y z : Int32) (hd ph pt : Nat → Int32) : Prop := 2 ≤ q → q ≤ 3 → ∃ a, a < wd ∧ y = nI a ∧ (∀ s, s < th → hd a = nI s → 6 ≤ sm_tn (ph s) → sm_tn (ph s) ≤ 9 → sm_tn x < sm_tn (pt s)) ∧ (q = 3 → S a ≤ sm_tn x → z = V a)
def sm_RD (th wd : Nat) (S : Nat → Nat) (V hd ph pt st ta ld : Nat → Int32) : Prop := ∀ t, t < th → sm_RA th wd (sm_tn (ph t)) S V (st t) (ta t) (ld t) hd ph pt
def sm_S (rc : Nat) (yW rP : Nat → Int32) (a : Nat) : Nat := sm_sp yW rP a rc
def sm_V (rc : Nat) (bas yW yw : Nat → Int32) (a : Nat) : Int32 := sm_lv bas yW yw a rc
/-- what concerns the records -/
def sm_FR (wd nw rc : Nat) (rP xR xW xs xw od po ch cl yR ys yW yw : Nat → Int32) : Prop := sm_Rk wd rc xR xW xs xw yR ys yW yw ∧ sm_Cn wd rc yW ch cl ∧ sm_Pt wd nw rc rP xW yW ∧ sm_Od (sm_ky rP xW) rc od po
/-- what concerns the threads and words -/
def sm_FT (th wd nw rc : Nat) (S : Nat → Nat) (V lw me ph st pt ta ld rm wm hm km bm tw rP xW hd iR ck iW bk : Nat → Int32) : Prop := sm_TT th wd nw ph st rm wm km bm iR iW ck bk ∧ sm_HH th wd ph hm hd iW ∧ sm_WW th wd S V lw me hd ph pt tw bk ∧ sm_PP th nw rc rP xW ph pt ∧ sm_RD th wd S V hd ph pt st ta ld
def sm_F (th wd rl kl nw rc : Nat) (lw me bas ph ou st pt be re ta ld rm wm hm km bm se tw rT rS rB rP xR xW xs xw od po ch cl hd iR ck iW bk yR ys yW yw : Nat → Int32) : Prop := sm_Nb th wd rl kl nw rc ∧ sm_FR wd nw rc rP xR xW xs xw od po ch cl yR ys yW yw ∧ sm_FT th wd nw rc (sm_S rc yW rP) (sm_V rc bas yW yw) lw me ph st pt ta ld rm wm hm km bm tw rP xW hd iR ck iW bk
theorem sm_TA_c {wd nw q : Nat} {x m1 m2 m4 m5 : Int32} {fR fW fK fB gR gW gK gB : Nat → Int32} (hw : wd ≤ 8) (h : sm_TA wd nw q x m1 m2 m4 m5 fR fW fK fB) (e : ∀ a, a < 8 → gR a = fR a ∧ gW a = fW a ∧ gK a = fK a ∧ gB a = fB a) : sm_TA wd nw q x m1 m2 m4 m5 gR gW gK gB := by
  obtain ⟨h1, h2, h3, h4, h5, h6, h7, h8, h9, h10, h11⟩ := h
  refine ⟨h1, h2, sm_MKc h3 fun i hi => by rw [(e i hi).1], sm_MKc h4 fun i hi => by rw [(e i hi).2.1], fun a ha => ?_, fun a hb ha => ?_, fun hq => ⟨?_, ?_, fun a ha => ?_⟩, fun hq a ha => ?_, fun hq hq' a ha => ?_, fun hq => ?_, fun hq => ?_⟩
  · rw [(e a ha).1, (e a ha).2.1]; exact h5 a ha
  · rw [(e a ha).1, (e a ha).2.1]; exact h6 a hb ha
  · exact sm_MKc (h7 hq).1 fun i hi => by rw [(e i hi).2.2.1]
  · exact sm_MKc (h7 hq).2.1 fun i hi => by rw [(e i hi).2.2.2]
  · rw [(e a ha).1, (e a ha).2.1, (e a ha).2.2.1, (e a ha).2.2.2]; exact (h7 hq).2.2 a ha
  · rw [(e a ha).2.2.1]; exact h8 hq a ha
  · rw [(e a ha).2.2.2]; exact h9 hq hq' a ha
  · obtain ⟨a, ha, k1, k2⟩ := h10 hq
    exact ⟨a, ha, by rw [(e a (by omega)).1]; exact k1, by rw [(e a (by omega)).2.2.1]; exact k2⟩
  · obtain ⟨a, ha, k1, k2⟩ := h11 hq
    exact ⟨a, ha, by rw [(e a (by omega)).2.1]; exact k1, by rw [(e a (by omega)).2.2.2]; exact k2⟩
theorem sm_TA_n {wd nw nw' q : Nat} {x m1 m2 m4 m5 : Int32} {fR fW fK fB : Nat → Int32} (hn : nw ≤ nw') (h : sm_TA wd nw q x m1 m2 m4 m5 fR fW fK fB) : sm_TA wd nw' q x m1 m2 m4 m5 fR fW fK fB :=
  ⟨h.1, Nat.le_trans h.2.1 hn, h.2.2⟩
theorem sm_HA_c {wd q t : Nat} {m3 : Int32} {hd hd' fW gW : Nat → Int32} (hw : wd ≤ 8) (h : sm_HA wd q t m3 hd fW) (e : ∀ a, a < 8 → gW a = fW a) (e2 : ∀ a, a < 8 → (hd' a = nI t ↔ hd a = nI t)) : sm_HA wd q t m3 hd' gW := by
  obtain ⟨h1, h2, h3, h4, h5, h6⟩ := h
  refine ⟨sm_MKc h1 fun i hi => by rw [sm_hwz, sm_hwz, e2 i hi], fun hq a ha => ?_, fun hq hq' a ha hh => ?_, fun hq => ?_, fun hq hq' a ha hh => ?_, fun hq => ?_⟩
  · rw [e2 a ha]; exact h2 hq a ha
  · rw [e a ha]; exact h3 hq hq' a ha ((e2 a ha).mp hh)
  · obtain ⟨a, ha, k1, k2⟩ := h4 hq
    exact ⟨a, ha, by rw [e a (by omega)]; exact k1, by rw [e2 a (by omega)]; exact k2⟩
  · rw [e a ha] at hh; exact (e2 a ha).mpr (h5 hq hq' a ha hh)
  · obtain ⟨a, ha, k⟩ := h6 hq
    exact ⟨a, ha, (e2 a (by omega)).mpr k⟩
theorem sm_ne {s t : Nat} (h : nI s = nI t) (hs : s < 4) (ht : t < 4) : s = t := sm_im h (by omega) (by omega)
def sm_RB (th wd q t : Nat) (S : Nat → Nat) (V : Nat → Int32) (x y z : Int32) (hd ph pt : Nat → Int32) : Prop := 2 ≤ q → q ≤ 3 → ∃ a, a < wd ∧ y = nI a ∧ (∀ s, s < th → s ≠ t → hd a = nI s → 6 ≤ sm_tn (ph s) → sm_tn (ph s) ≤ 9 → sm_tn x < sm_tn (pt s)) ∧ (q = 3 → S a ≤ sm_tn x → z = V a)
/-- an action of thread t alone: no word, no record, no clock -/
theorem sm_fr {t q' : Nat} {S : Nat → Nat} {V ph' st' pt' ta' ld' rm' wm' hm' km' bm' tw' iR' ck' iW' bk' : Nat → Int32} (ht : t < th) (h4 : th ≤ 4) (h8 : wd ≤ 8) (F : sm_FT th wd nw rc S V lw me ph st pt ta ld rm wm hm km bm tw rP xW hd iR ck iW bk)
    (e1 : ∀ s, s ≠ t → ph' s = ph s ∧ st' s = st s ∧ pt' s = pt s ∧ ta' s = ta s ∧ ld' s = ld s ∧ rm' s = rm s ∧ wm' s = wm s ∧ hm' s = hm s ∧ km' s = km s ∧ bm' s = bm s)
    (e2 : ∀ s, s ≠ t → ∀ a, a < 8 → sm_rw iR' s a = sm_rw iR s a ∧ sm_rw iW' s a = sm_rw iW s a ∧ sm_rw ck' s a = sm_rw ck s a ∧ sm_rw bk' s a = sm_rw bk s a ∧ sm_rw tw' s a = sm_rw tw s a)
    (hq : ph' t = nI q') (hq10 : q' ≤ 10)
    (hA : sm_TA wd nw q' (st' t) (rm' t) (wm' t) (km' t) (bm' t) (sm_rw iR' t) (sm_rw iW' t) (sm_rw ck' t) (sm_rw bk' t))
    (hH : sm_HA wd q' t (hm' t) hd (sm_rw iW' t))
    (n1 : sm_tn (ph t) < 8) (n2 : q' < 8 ∨ q' = 10)
    (n3 : 6 ≤ q' → q' ≤ 7 → 6 ≤ sm_tn (ph t) ∧ sm_tn (ph t) ≤ 7 ∧ pt' t = pt t)
    (hR : sm_RB th wd q' t S V (st' t) (ta' t) (ld' t) hd ph pt) :
    sm_FT th wd nw rc S V lw me ph' st' pt' ta' ld' rm' wm' hm' km' bm' tw' rP xW hd iR' ck' iW' bk' := by
  obtain ⟨FT, FH, FW, FP, FD⟩ := F
  have eq : sm_tn (ph' t) = q' := by rw [hq, sm_tnN (by omega)]
  have ep : ∀ s, s ≠ t → sm_tn (ph' s) = sm_tn (ph s) := fun s hs => by rw [(e1 s hs).1]
  have et : ∀ s, s ≠ t → sm_tn (pt' s) = sm_tn (pt s) := fun s hs => by rw [(e1 s hs).2.2.1]
  refine ⟨fun s hs => ?_, ⟨FH.1, fun s hs => ?_⟩, fun a ha => ?_, ⟨fun s hs g1 g2 => ?_, fun s hs g1 g2 c hc hw => ?_, fun r s hr hs ne g1 g2 g3 g4 => ?_⟩, fun s hs g1 g2 => ?_⟩
  · by_cases st_ : s = t
    · subst st_
      rw [eq]
      exact ⟨hq, hq10, hA⟩
    · obtain ⟨k1, k2, k3⟩ := FT s hs
      obtain ⟨a1, a2, a3, a4, a5, a6, a7, a8, a9, a10⟩ := e1 s st_
      rw [a1, a2, a6, a7, a9, a10]
      refine ⟨k1, k2, sm_TA_c h8 k3 fun a ha => ?_⟩
      obtain ⟨b1, b2, b3, b4, b5⟩ := e2 s st_ a ha
      exact ⟨b1, b2, b3, b4⟩
  · by_cases st_ : s = t
    · subst st_
      rw [eq]
      exact hH
    · obtain ⟨a1, a2, a3, a4, a5, a6, a7, a8, a9, a10⟩ := e1 s st_
      rw [a1, a8]
      exact sm_HA_c h8 (FH.2 s hs) (fun a ha => (e2 s st_ a ha).2.1) fun a _ => Iff.rfl
  · obtain ⟨v, o, w1, w2, w3, w4, w5, w6, w7⟩ := FW a ha
    refine ⟨v, o, w1, w2, w3, w4, fun k => w5 fun s hs e => ?_, fun k => w6 fun s hs e g => ?_, fun s hs e => ?_⟩
    · by_cases st_ : s = t
      · left; rw [st_]; exact n1
      · have := k s hs e
        rw [ep s st_] at this
        exact this
    · by_cases st_ : s = t
      · rw [st_] at g; omega
      · have := k s hs e
        rw [ep s st_, (e2 s st_ a (by omega)).2.2.2.1] at this
        exact this g
    · by_cases st_ : s = t
      · subst st_
        rw [eq]
        refine ⟨fun _ _ => by omega, fun _ => by omega, fun g1 g2 => ?_⟩
        obtain ⟨k1, k2, k3⟩ := n3 g1 g2
        rw [k3]
        exact (w7 s hs e).2.2 k1 k2
      · rw [ep s st_, et s st_, (e2 s st_ a (by omega)).2.2.2.2]
        exact w7 s hs e
  · by_cases st_ : s = t
    · subst st_
      rw [eq] at g1 g2
      obtain ⟨k1, k2, k3⟩ := n3 g1 (by omega)
      rw [k3]
      exact FP.1 s hs k1 (by omega)
    · rw [ep s st_] at g1 g2
      rw [(e1 s st_).2.2.1]
      exact FP.1 s hs g1 g2
  · by_cases st_ : s = t
    · subst st_
      rw [eq] at g1 g2
      obtain ⟨k1, k2, k3⟩ := n3 g1 g2
      rw [k3]
      exact FP.2.1 s hs k1 k2 c hc hw
    · rw [ep s st_] at g1 g2
      rw [et s st_]
      exact FP.2.1 s hs g1 g2 c hc hw
  · have key : ∀ s, s < th → 6 ≤ sm_tn (ph' s) → sm_tn (ph' s) ≤ 7 → 6 ≤ sm_tn (ph s) ∧ sm_tn (ph s) ≤ 7 ∧ pt' s = pt s := by
      intro s hs g1 g2
      by_cases st_ : s = t
      · subst st_
        rw [eq] at g1 g2
        exact n3 g1 g2
      · rw [ep s st_] at g1 g2
        exact ⟨g1, g2, (e1 s st_).2.2.1⟩
    obtain ⟨a1, a2, a3⟩ := key r hr g1 g2
    obtain ⟨b1, b2, b3⟩ := key s hs g3 g4
    rw [a3, b3]
    exact FP.2.2 r s hr hs ne a1 a2 b1 b2
  · by_cases st_ : s = t
    · subst st_
      rw [eq] at g1 g2
      obtain ⟨a, k1, k2, k3, k4⟩ := hR g1 g2
      refine ⟨a, k1, k2, fun r hr e g3 g4 => ?_, fun g => ?_⟩
      · by_cases rs : r = s
        · rw [rs] at e
          exact absurd e (hH.2.1 (by omega) a (by omega))
        · rw [ep r rs] at g3 g4
          rw [et r rs]
          exact k3 r hr rs e g3 g4
      · rw [eq] at g
        exact k4 g
    · obtain ⟨a1, a2, a3, a4, a5, a6, a7, a8, a9, a10⟩ := e1 s st_
      rw [ep s st_] at g1 g2
      obtain ⟨a, k1, k2, k3, k4⟩ := FD s hs g1 g2
      rw [a2, a4, a5, a1]
      refine ⟨a, k1, k2, fun r hr e g3 g4 => ?_, k4⟩
      by_cases rs : r = t
      · subst rs
        rw [eq] at g3 g4
        obtain ⟨m1, m2, m3⟩ := n3 g3 (by omega)
        rw [m3]
        exact k3 r hr e m1 (by omega)
      · rw [ep r rs] at g3 g4
        rw [et r rs]
        exact k3 r hr e g3 g4
end
end
section
section
variable {th wd rl kl nw rc : Nat} {lw me bas ph ou st pt be re ta ld rm wm hm km bm se tw rT rS rB rP xR xW xs xw od po ch cl hd iR ck iW bk yR ys yW yw : Nat → Int32}
theorem xg_vu_l {post : Int32 → Prop} {a k n : Nat} (ha : a < wd) (hw : wd ≤ 8) (hr : rc ≤ 32) (hk : k ≤ 32) (hC : sm_Cn wd rc yW ch cl) (hP : ∀ c, c < rc → rP c = nI (sm_tn (rP c)) ∧ sm_tn (rP c) ≤ 32) (T : sm_Th (fun i => sm_tn (rP (sm_C ch a i)) ≤ k) (sm_cn yW a rc) n) (hp : post (nI n)) : ∀ d r lo hi : Nat, r + d = 7 → hi - lo < 2 ^ d → lo ≤ n → n ≤ hi → hi ≤ sm_cn yW a rc → wX_versionsUntil_13 post (nI a) (nI k) (nI th) (nI wd) (nI rl) (nI kl) (nI nw) (nI rc) lw me bas ph ou st pt be re ta ld rm wm hm km bm se tw rT rS rB rP xR xW xs xw od po ch cl (d + 1) (nI lo) (nI hi) (nI r) := by
  intro d
  induction d with
  | zero =>
    intro r lo hi h1 h2 h3 h4 _
    have : r = 7 := by omega
    subst this
    have : lo = n := by omega
    subst this
    exact br_t (by decide) hp
  | succ d ih =>
    intro r lo hi h1 h2 h3 h4 h5
    have hL := sm_cn_le yW a rc
    refine br_f (nI_ge (b := 7) (by omega) (by omega)) ?_
    rcases Nat.lt_or_ge lo hi with l | l
    · rw [Nat.pow_succ] at h2
      obtain ⟨c, c1, c2, c3, c4, c5⟩ := sm_C_ex (i := (lo + hi) / 2) hC hr ha (by omega)
      have p := hP c c1
      have e3 : ch (nI a * 32 + nI ((lo + hi) / 2)).toNatClampNeg = nI c := by
        rw [sm_cl (sm_ix32 a _) (by omega)]; exact c4
      refine br_f (nI_ge l (by omega)) (nm_r (e' := nI ((lo + hi) / 2)) ?_ ?_)
      · rw [nI_add, pk_ushrN (by omega) 1 1 (by decide)]
      refine And.intro (sm_in (sm_ix32 a _) (by omega) (by omega)) (And.intro ?_ ?_)
      · rw [e3]; exact vp_in_nI (by omega) (by omega)
      rw [e3, nI_clamp (by omega), p.1]
      refine br_c (fun w => nm_r (nI_1 r) (ih (r + 1) lo ((lo + hi) / 2) (by omega) (by omega) h3 ?_ (by omega))) (fun w => nm_r (nI_1 _) (nm_r (nI_1 r) (ih (r + 1) ((lo + hi) / 2 + 1) hi (by omega) (by omega) ?_ h4 h5)))
      · rw [nI_ltI (by omega) (by omega)] at w
        refine Nat.le_of_not_lt fun z => ?_
        have := T.2.1 _ z
        dsimp only at this
        rw [c5] at this
        omega
      · rw [nI_ltI (by omega) (by omega)] at w
        refine Nat.lt_of_not_le fun z => ?_
        have := T.2.2 _ z (by omega)
        dsimp only at this
        rw [c5] at this
        omega
    · have : lo = n := by omega
      subst this
      exact br_t (nI_le l (by omega)) hp
theorem xg_vu {post : Int32 → Prop} {a k n : Nat} (ha : a < wd) (hw : wd ≤ 8) (hr : rc ≤ 32) (hk : k ≤ 32) (hC : sm_Cn wd rc yW ch cl) (hP : ∀ c, c < rc → rP c = nI (sm_tn (rP c)) ∧ sm_tn (rP c) ≤ 32) (T : sm_Th (fun i => sm_tn (rP (sm_C ch a i)) ≤ k) (sm_cn yW a rc) n) (hp : post (nI n)) : wpX_versionsUntil post (nI th, nI wd, nI rl, nI kl, nI nw, nI rc, lw, me, bas, ph, ou, st, pt, be, re, ta, ld, rm, wm, hm, km, bm, se, tw, rT, rS, rB, rP, xR, xW, xs, xw, od, po, ch, cl) (nI a) (nI k) := by
  unfold wpX_versionsUntil
  have hL := sm_cn_le yW a rc
  refine And.intro (vp_in_nI (by omega) (by omega)) (nm_r (e' := nI (sm_cn yW a rc)) ?_ (Exists.intro 8 ?_))
  · rw [nI_clamp (by omega)]; exact (hC a ha).1
  · exact xg_vu_l ha hw hr hk hC hP T hp 7 0 0 (sm_cn yW a rc) (by omega) (by omega) (Nat.zero_le _) T.1 (Nat.le_refl _)
theorem xg_vp_l {post : Int32 → Prop} {a k n : Nat} (ha : a < wd) (hw : wd ≤ 8) (hr : rc ≤ 32) (hk : k ≤ 32) (hC : sm_Cn wd rc yW ch cl) (hP : ∀ c, c < rc → po c = nI (sm_tn (po c)) ∧ sm_tn (po c) ≤ 32) (T : sm_Th (fun i => sm_tn (po (sm_C ch a i)) < k) (sm_cn yW a rc) n) (hp : post (nI n)) : ∀ d r lo hi : Nat, r + d = 7 → hi - lo < 2 ^ d → lo ≤ n → n ≤ hi → hi ≤ sm_cn yW a rc → wX_versionsInPrefix_13 post (nI a) (nI k) (nI th) (nI wd) (nI rl) (nI kl) (nI nw) (nI rc) lw me bas ph ou st pt be re ta ld rm wm hm km bm se tw rT rS rB rP xR xW xs xw od po ch cl (d + 1) (nI lo) (nI hi) (nI r) := by
  intro d
  induction d with
  | zero =>
    intro r lo hi h1 h2 h3 h4 _
    have : r = 7 := by omega
    subst this
    have : lo = n := by omega
    subst this
    exact br_t (by decide) hp
  | succ d ih =>
    intro r lo hi h1 h2 h3 h4 h5
    have hL := sm_cn_le yW a rc
    refine br_f (nI_ge (b := 7) (by omega) (by omega)) ?_
    rcases Nat.lt_or_ge lo hi with l | l
    · rw [Nat.pow_succ] at h2
      obtain ⟨c, c1, c2, c3, c4, c5⟩ := sm_C_ex (i := (lo + hi) / 2) hC hr ha (by omega)
      have p := hP c c1
      have e3 : ch (nI a * 32 + nI ((lo + hi) / 2)).toNatClampNeg = nI c := by
        rw [sm_cl (sm_ix32 a _) (by omega)]; exact c4
      refine br_f (nI_ge l (by omega)) (nm_r (e' := nI ((lo + hi) / 2)) ?_ ?_)
      · rw [nI_add, pk_ushrN (by omega) 1 1 (by decide)]
      refine And.intro (sm_in (sm_ix32 a _) (by omega) (by omega)) (And.intro ?_ ?_)
      · rw [e3]; exact vp_in_nI (by omega) (by omega)
      rw [e3, nI_clamp (by omega), p.1]
      refine br_c (fun w => nm_r (nI_1 r) (ih (r + 1) lo ((lo + hi) / 2) (by omega) (by omega) h3 ?_ (by omega))) (fun w => nm_r (nI_1 _) (nm_r (nI_1 r) (ih (r + 1) ((lo + hi) / 2 + 1) hi (by omega) (by omega) ?_ h4 h5)))
      · rw [nI_leI (by omega) (by omega)] at w
        refine Nat.le_of_not_lt fun z => ?_
        have := T.2.1 _ z
        dsimp only at this
        rw [c5] at this
        omega
      · rw [nI_leI (by omega) (by omega)] at w
        refine Nat.lt_of_not_le fun z => ?_
        have := T.2.2 _ z (by omega)
        dsimp only at this
        rw [c5] at this
        omega
    · have : lo = n := by omega
      subst this
      exact br_t (nI_le l (by omega)) hp
theorem xg_vp {post : Int32 → Prop} {a k n : Nat} (ha : a < wd) (hw : wd ≤ 8) (hr : rc ≤ 32) (hk : k ≤ 32) (hC : sm_Cn wd rc yW ch cl) (hP : ∀ c, c < rc → po c = nI (sm_tn (po c)) ∧ sm_tn (po c) ≤ 32) (T : sm_Th (fun i => sm_tn (po (sm_C ch a i)) < k) (sm_cn yW a rc) n) (hp : post (nI n)) : wpX_versionsInPrefix post (nI th, nI wd, nI rl, nI kl, nI nw, nI rc, lw, me, bas, ph, ou, st, pt, be, re, ta, ld, rm, wm, hm, km, bm, se, tw, rT, rS, rB, rP, xR, xW, xs, xw, od, po, ch, cl) (nI a) (nI k) := by
  unfold wpX_versionsInPrefix
  have hL := sm_cn_le yW a rc
  refine And.intro (vp_in_nI (by omega) (by omega)) (nm_r (e' := nI (sm_cn yW a rc)) ?_ (Exists.intro 8 ?_))
  · rw [nI_clamp (by omega)]; exact (hC a ha).1
  · exact xg_vp_l ha hw hr hk hC hP T hp 7 0 0 (sm_cn yW a rc) (by omega) (by omega) (Nat.zero_le _) T.1 (Nat.le_refl _)
theorem xg_va {post : Int32 → Prop} {a n : Nat} (ha : a < wd) (hw : wd ≤ 8) (hr : rc ≤ 32) (hC : sm_Cn wd rc yW ch cl) (hn : n ≤ sm_cn yW a rc) (hp : post (sm_vl bas xw ch a n)) : wpX_valueAfter post (nI th, nI wd, nI rl, nI kl, nI nw, nI rc, lw, me, bas, ph, ou, st, pt, be, re, ta, ld, rm, wm, hm, km, bm, se, tw, rT, rS, rB, rP, xR, xW, xs, xw, od, po, ch, cl) (nI a) (nI n) := by
  have hL := sm_cn_le yW a rc
  unfold wpX_valueAfter
  cases n with
  | zero =>
    refine br_f (by decide) (And.intro (vp_in_nI (by omega) (by omega)) ?_)
    rw [nI_clamp (by omega)]; exact hp
  | succ m =>
    obtain ⟨c, c1, c2, c3, c4, c5⟩ := sm_C_ex (i := m) hC hr ha (by omega)
    have e0 : nI a * 32 + nI (m + 1) - 1 = nI (a * 32 + m) := by rw [sm_ix32, ← Nat.add_assoc, nI_pred]
    have hp : post (xw (c * 8 + a)) := by
      have : sm_vl bas xw ch a (m + 1) = xw (c * 8 + a) := by show xw (sm_C ch a m * 8 + a) = _; rw [c5]
      rw [← this]; exact hp
    refine br_t (nI_lt (a := 0) (by omega) (by omega)) (And.intro (sm_in e0 (by omega) (by omega)) (nm_r (e' := nI c) ?_ (And.intro (sm_in (sm_ix c a) (by omega) (by omega)) ?_)))
    · rw [sm_cl e0 (by omega)]; exact c4
    · rw [sm_cl (sm_ix c a) (by omega)]; exact hp
theorem sm_Tk {wd rc a k : Nat} {f p ch cl : Nat → Int32} (hr : rc ≤ 32) (ha : a < wd) (hC : sm_Cn wd rc f ch cl) (hI : sm_In f p a rc) : ∃ n, sm_Th (fun i => sm_tn (p (sm_C ch a i)) ≤ k) (sm_cn f a rc) n := by
  refine sm_Th_ex _ fun i j ij hj g => ?_
  obtain ⟨c, c1, c2, c3, c4, c5⟩ := sm_C_ex (i := i) hC hr ha (by omega)
  obtain ⟨d, d1, d2, d3, d4, d5⟩ := sm_C_ex (i := j) hC hr ha (by omega)
  have g : sm_tn (p (sm_C ch a j)) ≤ k := g
  show sm_tn (p (sm_C ch a i)) ≤ k
  rw [d5] at g
  rw [c5]
  rcases Nat.lt_trichotomy c d with l | l | l
  · have := hI c d l d1 c2 d2; omega
  · rw [l]; exact g
  · have := sm_cn_lt l d2; omega
theorem xg_tv {post : Int32 → Prop} {a k : Nat} (ha : a < wd) (hw : wd ≤ 8) (hr : rc ≤ 32) (hk : k ≤ 32) (hC : sm_Cn wd rc yW ch cl) (hP : ∀ c, c < rc → rP c = nI (sm_tn (rP c)) ∧ sm_tn (rP c) ≤ 32) (hI : sm_In yW rP a rc) (hv : ∀ c, c < rc → ¬ yW (c * 8 + a) = 0 → xw (c * 8 + a) = yw (c * 8 + a)) (hp : post (sm_va bas yW yw rP a k rc)) : wpX_timedValue post (nI th, nI wd, nI rl, nI kl, nI nw, nI rc, lw, me, bas, ph, ou, st, pt, be, re, ta, ld, rm, wm, hm, km, bm, se, tw, rT, rS, rB, rP, xR, xW, xs, xw, od, po, ch, cl) (nI k) (nI a) := by
  unfold wpX_timedValue
  obtain ⟨n, T⟩ := sm_Tk (k := k) hr ha hC hI
  refine xg_vu ha hw hr hk hC hP T ?_
  refine xg_va ha hw hr hC T.1 ?_
  rw [← sm_vl_va hC hr ha hv T]; exact hp
/-- the read set of t agrees with time k -/
def sm_ag (wd rc t k i : Nat) (bas se iR rP yW yw : Nat → Int32) : Prop := ∀ a, i ≤ a → a < wd → ¬ iR (t * 8 + a) = 0 → sm_va bas yW yw rP a k rc = se (t * 8 + a)
theorem sm_ag_e {i t k : Nat} (hi : wd ≤ i) : sm_ag wd rc t k i bas se iR rP yW yw := fun a h1 h2 => by omega
theorem sm_ag_0 {i t k : Nat} (z : iR (t * 8 + i) = 0) : sm_ag wd rc t k i bas se iR rP yW yw ↔ sm_ag wd rc t k (i + 1) bas se iR rP yW yw := by
  constructor
  · intro h a h1 h2
    exact h a (by omega) h2
  · intro h a h1 h2 h3
    have : a ≠ i := fun e => h3 (e ▸ z)
    exact h a (by omega) h2 h3
theorem sm_ag_1 {i t k : Nat} (e : sm_va bas yW yw rP i k rc = se (t * 8 + i)) : sm_ag wd rc t k i bas se iR rP yW yw ↔ sm_ag wd rc t k (i + 1) bas se iR rP yW yw := by
  constructor
  · intro h a h1 h2
    exact h a (by omega) h2
  · intro h a h1 h2 h3
    rcases Nat.lt_or_ge i a with l | l
    · exact h a l h2 h3
    · have : a = i := by omega
      rw [this]; exact e
theorem sm_ag_n {i t k : Nat} (hi : i < wd) (z : ¬ iR (t * 8 + i) = 0) (e : ¬ sm_va bas yW yw rP i k rc = se (t * 8 + i)) : ¬ sm_ag wd rc t k i bas se iR rP yW yw := fun h => e (h i (Nat.le_refl _) hi z)
theorem xg_ag_l {post : Int32 → Prop} {t k : Nat} (ht : t < 4) (hw : wd ≤ 8) (hr : rc ≤ 32) (hk : k ≤ 32) (hM : sm_MK (rm t) (sm_rw iR t)) (hC : sm_Cn wd rc yW ch cl) (hP : ∀ c, c < rc → rP c = nI (sm_tn (rP c)) ∧ sm_tn (rP c) ≤ 32) (hI : ∀ a, a < wd → sm_In yW rP a rc) (hv : ∀ c, c < rc → ∀ a, a < wd → ¬ yW (c * 8 + a) = 0 → xw (c * 8 + a) = yw (c * 8 + a)) : ∀ d i : Nat, i + d = wd → (sm_ag wd rc t k i bas se iR rP yW yw → post 1) → (¬ sm_ag wd rc t k i bas se iR rP yW yw → post 0) → wX_agrees_24 post (nI t) (nI k) (nI th) (nI wd) (nI rl) (nI kl) (nI nw) (nI rc) lw me bas ph ou st pt be re ta ld rm wm hm km bm se tw rT rS rB rP xR xW xs xw od po ch cl (d + 1) (nI i) := by
  intro d
  induction d with
  | zero =>
    intro i hi h1 h0
    have : i = wd := by omega
    subst this
    exact br_t (nI_le (Nat.le_refl _) (by omega)) (h1 (sm_ag_e (Nat.le_refl _)))
  | succ d ih =>
    intro i hi h1 h0
    have e1 : (nI t * 8 + nI i).toNatClampNeg = t * 8 + i := sm_cl (sm_ix t i) (by omega)
    refine br_f (nI_ge (by omega) (by omega)) (And.intro (vp_in_nI ht (by omega)) ?_)
    rw [nI_clamp (by omega)]
    refine xh_has hM (by omega) (fun z => ?_) (fun z => ?_)
    · have g := sm_ag_0 (wd := wd) (rc := rc) (k := k) (bas := bas) (se := se) (rP := rP) (yW := yW) (yw := yw) z
      exact br_t rfl (nm_r (nI_1 i) (ih (i + 1) (by omega) (fun k => h1 (g.mpr k)) (fun k => h0 fun m => k (g.mp m))))
    · refine br_f sm_10 ?_
      refine xg_tv (yW := yW) (yw := yw) (by omega) hw hr hk hC hP (hI i (by omega)) (fun c hc => hv c hc i (by omega)) ?_
      refine And.intro (sm_in (sm_ix t i) (by omega) (by omega)) ?_
      rw [e1]
      refine br_c (fun w => ?_) (fun w => h0 (sm_ag_n (by omega) z w))
      have g := sm_ag_1 (wd := wd) (iR := iR) w
      exact nm_r (nI_1 i) (ih (i + 1) (by omega) (fun k => h1 (g.mpr k)) (fun k => h0 fun m => k (g.mp m)))
theorem yg_ag_l {post : Int32 → Prop} {t k : Nat} (ht : t < 4) (hw : wd ≤ 8) (hr : rc ≤ 32) (hk : k ≤ 32) (hP : ∀ c, c < rc → rP c = nI (sm_tn (rP c)) ∧ sm_tn (rP c) ≤ 32) (hI : ∀ a, a < wd → sm_In yW rP a rc) : ∀ d i : Nat, i + d = wd → (sm_ag wd rc t k i bas se iR rP yW yw → post 1) → (¬ sm_ag wd rc t k i bas se iR rP yW yw → post 0) → wY_agrees_24 post (nI t) (nI k) (nI th) (nI wd) (nI rl) (nI kl) (nI nw) (nI rc) bas hd ph ou st pt be re ta iR se ck iW tw bk rT rS rB rP yR ys yW yw (d + 1) (nI i) := by
  intro d
  induction d with
  | zero =>
    intro i hi h1 h0
    have : i = wd := by omega
    subst this
    exact br_t (nI_le (Nat.le_refl _) (by omega)) (h1 (sm_ag_e (Nat.le_refl _)))
  | succ d ih =>
    intro i hi h1 h0
    have e1 : (nI t * 8 + nI i).toNatClampNeg = t * 8 + i := sm_cl (sm_ix t i) (by omega)
    refine br_f (nI_ge (by omega) (by omega)) (And.intro (sm_in (sm_ix t i) (by omega) (by omega)) ?_)
    rw [e1]
    refine br_c (fun z => ?_) (fun z => ?_)
    · have g := sm_ag_0 (wd := wd) (rc := rc) (k := k) (bas := bas) (se := se) (rP := rP) (yW := yW) (yw := yw) z
      exact nm_r (nI_1 i) (ih (i + 1) (by omega) (fun k => h1 (g.mpr k)) (fun k => h0 fun m => k (g.mp m)))
    · refine And.intro (sm_in (sm_ix t i) (by omega) (by omega)) ?_
      refine yh_val (by omega) hk hr hP (hI i (by omega)) ?_
      refine br_c (fun w => ?_) (fun w => h0 (sm_ag_n (by omega) z fun v => w v.symm))
      have g := sm_ag_1 (wd := wd) (iR := iR) w.symm
      exact nm_r (nI_1 i) (ih (i + 1) (by omega) (fun k => h1 (g.mpr k)) (fun k => h0 fun m => k (g.mp m)))
theorem yg_ag {post : Int32 → Prop} {t k : Nat} (ht : t < th) (h4 : th ≤ 4) (hw : wd ≤ 8) (hr : rc ≤ 32) (hk : k ≤ nw) (hn : nw ≤ 32) (hP : ∀ c, c < rc → rP c = nI (sm_tn (rP c)) ∧ sm_tn (rP c) ≤ 32) (hI : ∀ a, a < wd → sm_In yW rP a rc) (h1 : sm_ag wd rc t k 0 bas se iR rP yW yw → post 1) (h0 : ¬ sm_ag wd rc t k 0 bas se iR rP yW yw → post 0) : wpY_agrees post (nI th, nI wd, nI rl, nI kl, nI nw, nI rc, bas, hd, ph, ou, st, pt, be, re, ta, iR, se, ck, iW, tw, bk, rT, rS, rB, rP, yR, ys, yW, yw) (nI t) (nI k) := by
  unfold wpY_agrees
  refine yh_T ht h4 ?_
  refine br_t rfl (br_f (nI_pos (by omega)) (br_t (nI_le hk (by omega)) (Exists.intro (wd + 1) ?_)))
  exact yg_ag_l (by omega) hw hr (by omega) hP hI wd 0 (by omega) h1 h0
end
end
section
section
variable {th wd rl kl nw rc : Nat} {lw me bas ph ou st pt be re ta ld rm wm hm km bm se tw rT rS rB rP xR xW xs xw od po ch cl hd iR ck iW bk yR ys yW yw : Nat → Int32}
def sm_tb (w : Int64) (k : Nat) : Bool := w.toBitVec.getLsbD k
theorem sm_tb_o (w v : Int64) (k : Nat) : sm_tb (w ||| v) k = (sm_tb w k || sm_tb v k) := by
  unfold sm_tb; rw [Int64.toBitVec_or, BitVec.getLsbD_or]
theorem sm_tb_a (w v : Int64) (k : Nat) : sm_tb (w &&& v) k = (sm_tb w k && sm_tb v k) := by
  unfold sm_tb; rw [Int64.toBitVec_and, BitVec.getLsbD_and]
theorem sm_tb_0 (k : Nat) : sm_tb 0 k = false := BitVec.getLsbD_zero
theorem sm_pw {f m : Nat} (h : f ≤ m) : 2 ^ m - 2 ^ f = (2 ^ (m - f) - 1) * 2 ^ f := by
  rw [Nat.sub_mul, Nat.one_mul, ← Nat.pow_add, Nat.sub_add_cancel h]
theorem sm_spn {f m k : Nat} (h : f ≤ m) (h33 : m ≤ 33) (hk : k < 64) : sm_tb (((1 : Int64) <<< ((nI m).toInt64 &&& 63)) - ((1 : Int64) <<< ((nI f).toInt64 &&& 63))) k = decide (f ≤ k ∧ k < m) := by
  have e : ((1 : Int64) <<< ((nI m).toInt64 &&& 63)) - ((1 : Int64) <<< ((nI f).toInt64 &&& 63)) = lN (2 ^ m - 2 ^ f) := by
    have a := wb_shl 1 (k := m) (by omega)
    have b := wb_shl 1 (k := f) (by omega)
    rw [Nat.one_mul] at a b
    have c : lN (2 ^ m) - lN (2 ^ f) = lN (2 ^ m - 2 ^ f) := lN_sub (Nat.pow_le_pow_right (by omega) h)
    rw [← c, ← a, ← b]
    rfl
  unfold sm_tb
  rw [e, wb_tb, BitVec.getLsbD_ofNat, sm_pw h, Nat.testBit_mul_two_pow, Nat.testBit_two_pow_sub_one]
  by_cases h1 : f ≤ k
  · by_cases h2 : k < m
    · simp [hk, h1, h2]; omega
    · simp [hk, h1, h2]; omega
  · simp [hk, h1]
theorem sm_bit {w : Int64} {k : Nat} (hk : k < 64) : ((w.toUInt64 >>> ((nI k).toInt64.toUInt64 &&& Int64.toUInt64 63)).toInt64 &&& 1) = 0 ↔ sm_tb w k = false := by
  refine ts_bit hk ?_
  rw [wb_cu k hk]
  exact Nat.mod_eq_of_lt (by omega)
theorem xg_span {post : Int64 → Prop} {f m : Nat} {x : Int32} (hx : x + 1 = nI m) (h : f ≤ m) (h33 : m ≤ 33) (hp : ∀ w, (∀ k, k < 64 → (sm_tb w k = true ↔ f ≤ k ∧ k < m)) → post w) : wpX_span post (nI th, nI wd, nI rl, nI kl, nI nw, nI rc, lw, me, bas, ph, ou, st, pt, be, re, ta, ld, rm, wm, hm, km, bm, se, tw, rT, rS, rB, rP, xR, xW, xs, xw, od, po, ch, cl) (nI f) x := by
  unfold wpX_span
  refine hp _ fun k hk => ?_
  rw [hx, sm_spn h h33 hk, decide_eq_true_iff]
/-- the points along a chain -/
def sm_Q (rP ch : Nat → Int32) (a i : Nat) : Nat := sm_tn (rP (sm_C ch a i))
theorem xg_57 {post : Int64 → Prop} {J : Int64 → Int32 → Int32 → Prop} {a j fr m L : Nat} {v : Int32} {w : Int64} {x : Int32} (ha : a < wd) (hw : wd ≤ 8) (hr : rc ≤ 32) (hC : sm_Cn wd rc yW ch cl) (hv : ∀ c, c < rc → ¬ yW (c * 8 + a) = 0 → xw (c * 8 + a) = yw (c * 8 + a)) (hj : j ≤ sm_cn yW a rc) (hx : x + 1 = nI m) (hf : fr ≤ m) (h33 : m ≤ 33)
    (hlo : ∀ i, i < j → sm_Q rP ch a i ≤ fr) (hhi : ∀ i, j ≤ i → i < sm_cn yW a rc → m ≤ sm_Q rP ch a i)
    (hb : ∀ k, k < 64 → (sm_tb w k = true ↔ k < fr ∧ sm_va bas yW yw rP a k rc = v))
    (hJ : ∀ w', (∀ k, k < 64 → (sm_tb w' k = true ↔ k < m ∧ sm_va bas yW yw rP a k rc = v)) → J w' (nI m) (nI (j + 1))) : wX_timesOfValue_57 post J (nI a) v w (nI fr) (nI L) (nI j) x (nI th) (nI wd) (nI rl) (nI kl) (nI nw) (nI rc) lw me bas ph ou st pt be re ta ld rm wm hm km bm se tw rT rS rB rP xR xW xs xw od po ch cl := by
  have val : ∀ k, fr ≤ k → k < m → sm_va bas yW yw rP a k rc = sm_vl bas xw ch a j := by
    intro k h1 h2
    refine sm_vl_va hC hr ha hv ⟨hj, fun i hi => ?_, fun i h3 h4 h5 => ?_⟩
    · have : sm_Q rP ch a i ≤ fr := hlo i hi
      show sm_Q rP ch a i ≤ k
      omega
    · have h5 : sm_Q rP ch a i ≤ k := h5
      have := hhi i h3 h4
      omega
  unfold wX_timesOfValue_57
  refine xg_va ha hw hr hC hj ?_
  refine br_c (fun z => ?_) (fun z => ?_)
  · refine xg_span hx hf h33 fun s hs => ?_
    refine nm_e (nm_r hx (nm_r (nI_1 j) (hJ _ fun k hk => ?_)))
    rw [sm_tb_o, Bool.or_eq_true, hb k hk, hs k hk]
    constructor
    · rintro (h | h)
      · exact ⟨by omega, h.2⟩
      · exact ⟨h.2, (val k h.1 h.2).trans z⟩
    · intro h
      rcases Nat.lt_or_ge k fr with l | l
      · exact Or.inl ⟨l, h.2⟩
      · exact Or.inr ⟨l, h.1⟩
  · refine nm_r hx (nm_r (nI_1 j) (hJ _ fun k hk => ?_))
    rw [hb k hk]
    constructor
    · intro h
      exact ⟨by omega, h.2⟩
    · intro h
      rcases Nat.lt_or_ge k fr with l | l
      · exact ⟨l, h.2⟩
      · exact absurd ((val k l h.1).symm.trans h.2) z
theorem xg_tov_l {post : Int64 → Prop} {a : Nat} {v : Int32} (ha : a < wd) (hw : wd ≤ 8) (hr : rc ≤ 32) (hn : nw ≤ 32) (hC : sm_Cn wd rc yW ch cl) (hP : ∀ c, c < rc → rP c = nI (sm_tn (rP c)) ∧ sm_tn (rP c) ≤ nw) (hI : sm_In yW rP a rc) (hv : ∀ c, c < rc → ¬ yW (c * 8 + a) = 0 → xw (c * 8 + a) = yw (c * 8 + a)) (hp : ∀ w, (∀ k, k < 64 → (sm_tb w k = true ↔ k < nw + 1 ∧ sm_va bas yW yw rP a k rc = v)) → post w) :
    ∀ (d j fr : Nat) (w : Int64), j + d = sm_cn yW a rc + 1 → (∀ i, i < j → i < sm_cn yW a rc → sm_Q rP ch a i ≤ fr) → (∀ i, j ≤ i → i < sm_cn yW a rc → fr ≤ sm_Q rP ch a i) → (j ≤ sm_cn yW a rc → fr ≤ nw) → (sm_cn yW a rc < j → fr = nw + 1) → (∀ k, k < 64 → (sm_tb w k = true ↔ k < fr ∧ sm_va bas yW yw rP a k rc = v)) → wX_timesOfValue_16 post (nI a) v (nI (sm_cn yW a rc)) (nI th) (nI wd) (nI rl) (nI kl) (nI nw) (nI rc) lw me bas ph ou st pt be re ta ld rm wm hm km bm se tw rT rS rB rP xR xW xs xw od po ch cl (d + 1) w (nI fr) (nI j) := by
  have hL := sm_cn_le yW a rc
  have hQ : ∀ i j, i < j → j < sm_cn yW a rc → sm_Q rP ch a i < sm_Q rP ch a j := by
    intro i j ij hj
    obtain ⟨c, c1, c2, c3, c4, c5⟩ := sm_C_ex (i := i) hC hr ha (by omega)
    obtain ⟨d, d1, d2, d3, d4, d5⟩ := sm_C_ex (i := j) hC hr ha hj
    unfold sm_Q
    rw [c5, d5]
    rcases Nat.lt_trichotomy c d with l | l | l
    · exact hI c d l d1 c2 d2
    · subst l; omega
    · have := sm_cn_lt l d2; omega
  have hQn : ∀ i, i < sm_cn yW a rc → sm_Q rP ch a i ≤ nw := by
    intro i hi
    obtain ⟨c, c1, c2, c3, c4, c5⟩ := sm_C_ex (i := i) hC hr ha hi
    unfold sm_Q
    rw [c5]; exact (hP c c1).2
  intro d
  induction d with
  | zero =>
    intro j fr w hj h1 h2 h3 h4 hb
    refine br_t (nI_lt (by omega) (by omega)) (hp w ?_)
    rw [← h4 (by omega)]; exact hb
  | succ d ih =>
    intro j fr w hj h1 h2 h3 h4 hb
    refine br_f (nI_nlt (by omega) (by omega)) ?_
    rcases Nat.lt_or_ge j (sm_cn yW a rc) with l | l
    · obtain ⟨c, c1, c2, c3, c4, c5⟩ := sm_C_ex (i := j) hC hr ha l
      have e3 : ch (nI a * 32 + nI j).toNatClampNeg = nI c := by
        rw [sm_cl (sm_ix32 a _) (by omega)]; exact c4
      have eQ : sm_Q rP ch a j = sm_tn (rP c) := by unfold sm_Q; rw [c5]
      have p := hP c c1
      refine br_f (nI_ge l (by omega)) (And.intro (sm_in (sm_ix32 a _) (by omega) (by omega)) (And.intro ?_ (nm_e ?_)))
      · rw [e3]; exact vp_in_nI (by omega) (by omega)
      refine xg_57 (m := sm_tn (rP c)) (yW := yW) (yw := yw) ha hw hr hC hv (by omega) ?_ ?_ (by omega) (fun i hi => h1 i hi (by omega)) (fun i hi hi2 => ?_) hb (fun w' hb' => ?_)
      · rw [e3, nI_clamp (by omega), Int32.sub_add_cancel]; exact p.1
      · rw [← eQ]; exact h2 j (Nat.le_refl _) l
      · rcases Nat.lt_or_ge j i with g | g
        · have := hQ j i g hi2; omega
        · have : i = j := by omega
          rw [this, eQ]; exact Nat.le_refl _
      · refine ih (j + 1) (sm_tn (rP c)) w' (by omega) (fun i g1 g2 => ?_) (fun i g1 g2 => ?_) (fun _ => p.2) (fun g => by omega) hb'
        · rcases Nat.lt_or_ge i j with g | g
          · have := hQ i j g l; omega
          · have : i = j := by omega
            rw [this, eQ]; exact Nat.le_refl _
        · have := hQ j i (by omega) g2; omega
    · refine br_t (nI_le l (by omega)) ?_
      refine xg_57 (m := nw + 1) (yW := yW) (yw := yw) ha hw hr hC hv (by omega) (nI_1 nw) (by have := h3 (by omega); omega) (by omega) (fun i hi => h1 i hi (by omega)) (fun i hi hi2 => by omega) hb (fun w' hb' => ?_)
      exact ih (j + 1) (nw + 1) w' (by omega) (fun i g1 g2 => by have := hQn i g2; omega) (fun i g1 g2 => by omega) (fun g => by omega) (fun _ => rfl) hb'
theorem xg_tov {post : Int64 → Prop} {a : Nat} {v : Int32} (ha : a < wd) (hw : wd ≤ 8) (hr : rc ≤ 32) (hn : nw ≤ 32) (hC : sm_Cn wd rc yW ch cl) (hP : ∀ c, c < rc → rP c = nI (sm_tn (rP c)) ∧ sm_tn (rP c) ≤ nw) (hI : sm_In yW rP a rc) (hv : ∀ c, c < rc → ¬ yW (c * 8 + a) = 0 → xw (c * 8 + a) = yw (c * 8 + a)) (hp : ∀ w, (∀ k, k < 64 → (sm_tb w k = true ↔ k < nw + 1 ∧ sm_va bas yW yw rP a k rc = v)) → post w) : wpX_timesOfValue post (nI th, nI wd, nI rl, nI kl, nI nw, nI rc, lw, me, bas, ph, ou, st, pt, be, re, ta, ld, rm, wm, hm, km, bm, se, tw, rT, rS, rB, rP, xR, xW, xs, xw, od, po, ch, cl) (nI a) v := by
  unfold wpX_timesOfValue
  refine And.intro (vp_in_nI (by omega) (by omega)) (nm_r (e' := nI (sm_cn yW a rc)) ?_ (Exists.intro (sm_cn yW a rc + 1 + 1) ?_))
  · rw [nI_clamp (by omega)]; exact (hC a ha).1
  · refine xg_tov_l ha hw hr hn hC hP hI hv hp (sm_cn yW a rc + 1) 0 0 0 (by omega) (fun i hi => by omega) (fun i _ _ => Nat.zero_le _) (fun _ => Nat.zero_le _) (fun h => by omega) (fun k hk => ?_)
    rw [sm_tb_0]
    exact ⟨fun h => absurd h (by decide), fun h => absurd h.1 (by omega)⟩
/-- agreement up to word i -/
def sm_au (rc t k i : Nat) (bas se iR rP yW yw : Nat → Int32) : Prop := ∀ a, a < i → ¬ iR (t * 8 + a) = 0 → sm_va bas yW yw rP a k rc = se (t * 8 + a)
theorem sm_au_0 {i t k : Nat} (z : iR (t * 8 + i) = 0) : sm_au rc t k (i + 1) bas se iR rP yW yw ↔ sm_au rc t k i bas se iR rP yW yw := by
  constructor
  · intro h a h1
    exact h a (by omega)
  · intro h a h1 h3
    have : a ≠ i := fun e => h3 (e ▸ z)
    exact h a (by omega) h3
theorem sm_au_1 {i t k : Nat} (z : ¬ iR (t * 8 + i) = 0) : sm_au rc t k (i + 1) bas se iR rP yW yw ↔ (sm_au rc t k i bas se iR rP yW yw ∧ sm_va bas yW yw rP i k rc = se (t * 8 + i)) := by
  constructor
  · intro h
    exact ⟨fun a h1 => h a (by omega), h i (by omega) z⟩
  · intro h a h1 h3
    rcases Nat.lt_or_ge a i with l | l
    · exact h.1 a l h3
    · have : a = i := by omega
      rw [this]; exact h.2
theorem xg_fit_l {post : Int64 → Prop} {t : Nat} (ht : t < 4) (hw : wd ≤ 8) (hr : rc ≤ 32) (hn : nw ≤ 32) (hM : sm_MK (rm t) (sm_rw iR t)) (hC : sm_Cn wd rc yW ch cl) (hP : ∀ c, c < rc → rP c = nI (sm_tn (rP c)) ∧ sm_tn (rP c) ≤ nw) (hI : ∀ a, a < wd → sm_In yW rP a rc) (hv : ∀ c, c < rc → ∀ a, a < wd → ¬ yW (c * 8 + a) = 0 → xw (c * 8 + a) = yw (c * 8 + a)) (hp : ∀ w, (∀ k, k < 64 → (sm_tb w k = true ↔ k < nw + 1 ∧ sm_au rc t k wd bas se iR rP yW yw)) → post w) :
    ∀ (d i : Nat) (w : Int64), i + d = wd → (∀ k, k < 64 → (sm_tb w k = true ↔ k < nw + 1 ∧ sm_au rc t k i bas se iR rP yW yw)) → wX_fitTimes_13 post (nI t) (nI th) (nI wd) (nI rl) (nI kl) (nI nw) (nI rc) lw me bas ph ou st pt be re ta ld rm wm hm km bm se tw rT rS rB rP xR xW xs xw od po ch cl (d + 1) w (nI i) := by
  intro d
  induction d with
  | zero =>
    intro i w hi hb
    have : i = wd := by omega
    subst this
    exact br_t (nI_le (Nat.le_refl _) (by omega)) (hp w hb)
  | succ d ih =>
    intro i w hi hb
    have e1 : (nI t * 8 + nI i).toNatClampNeg = t * 8 + i := sm_cl (sm_ix t i) (by omega)
    refine br_f (nI_ge (by omega) (by omega)) (And.intro (vp_in_nI ht (by omega)) ?_)
    rw [nI_clamp (by omega)]
    refine xh_has hM (by omega) (fun z => ?_) (fun z => ?_)
    · refine br_t rfl (nm_r (nI_1 i) (ih (i + 1) w (by omega) fun k hk => ?_))
      rw [sm_au_0 z]; exact hb k hk
    · refine br_f sm_10 (And.intro (sm_in (sm_ix t i) (by omega) (by omega)) ?_)
      rw [e1]
      refine xg_tov (yW := yW) (yw := yw) (by omega) hw hr hn hC hP (hI i (by omega)) (fun c hc => hv c hc i (by omega)) fun s hs => ?_
      refine nm_e (nm_r (nI_1 i) (ih (i + 1) (w &&& s) (by omega) fun k hk => ?_))
      rw [sm_tb_a, Bool.and_eq_true, hb k hk, hs k hk, sm_au_1 z]
      exact ⟨fun h => ⟨h.1.1, h.1.2, h.2.2⟩, fun h => ⟨⟨h.1, h.2.1⟩, h.1, h.2.2⟩⟩
theorem xg_fit {post : Int64 → Prop} {t : Nat} (ht : t < 4) (hw : wd ≤ 8) (hr : rc ≤ 32) (hn : nw ≤ 32) (hM : sm_MK (rm t) (sm_rw iR t)) (hC : sm_Cn wd rc yW ch cl) (hP : ∀ c, c < rc → rP c = nI (sm_tn (rP c)) ∧ sm_tn (rP c) ≤ nw) (hI : ∀ a, a < wd → sm_In yW rP a rc) (hv : ∀ c, c < rc → ∀ a, a < wd → ¬ yW (c * 8 + a) = 0 → xw (c * 8 + a) = yw (c * 8 + a)) (hp : ∀ w, (∀ k, k < 64 → (sm_tb w k = true ↔ k < nw + 1 ∧ sm_ag wd rc t k 0 bas se iR rP yW yw)) → post w) : wpX_fitTimes post (nI th, nI wd, nI rl, nI kl, nI nw, nI rc, lw, me, bas, ph, ou, st, pt, be, re, ta, ld, rm, wm, hm, km, bm, se, tw, rT, rS, rB, rP, xR, xW, xs, xw, od, po, ch, cl) (nI t) := by
  unfold wpX_fitTimes
  refine xg_span (f := 0) (m := nw + 1) (nI_1 nw) (Nat.zero_le _) (by omega) fun s hs => ?_
  refine Exists.intro (wd + 1) (xg_fit_l ht hw hr hn hM hC hP hI hv (fun w hb => hp w fun k hk => ?_) wd 0 s (by omega) fun k hk => ?_)
  · rw [hb k hk]
    exact ⟨fun h => ⟨h.1, fun a _ h2 => h.2 a h2⟩, fun h => ⟨h.1, fun a h2 => h.2 a (Nat.zero_le _) h2⟩⟩
  · rw [hs k hk]
    exact ⟨fun h => ⟨h.2, fun a h2 => absurd h2 (Nat.not_lt_zero a)⟩, fun h => ⟨Nat.zero_le _, h.1⟩⟩
theorem xg_ff_l {post : Int32 → Prop} {w : Int64} {A : Nat → Prop} (hn : nw ≤ 32) (hb : ∀ k, k < 64 → (sm_tb w k = true ↔ k < nw + 1 ∧ A k)) : ∀ d i : Nat, i + d = nw + 1 → (∀ k, i ≤ k → k ≤ nw → A k → (∀ j, i ≤ j → j < k → ¬ A j) → post (nI k)) → ((∀ k, i ≤ k → k ≤ nw → ¬ A k) → post (-1)) → wX_firstFit_19 post w (nI th) (nI wd) (nI rl) (nI kl) (nI nw) (nI rc) lw me bas ph ou st pt be re ta ld rm wm hm km bm se tw rT rS rB rP xR xW xs xw od po ch cl (d + 1) (nI i) := by
  intro d
  induction d with
  | zero =>
    intro i hi h1 h0
    exact br_t (nI_lt (by omega) (by omega)) (h0 fun k g1 g2 => by omega)
  | succ d ih =>
    intro i hi h1 h0
    refine br_f (nI_nlt (by omega) (by omega)) (br_c (fun z => ?_) (fun z => ?_))
    · have na : ¬ A i := fun g => by
        have t := (hb i (by omega)).mpr ⟨by omega, g⟩
        rw [(sm_bit (by omega)).mp z] at t
        exact absurd t (by decide)
      refine nm_r (nI_1 i) (ih (i + 1) (by omega) (fun k g1 g2 g3 g4 => h1 k (by omega) g2 g3 fun j j1 j2 => ?_) (fun g => h0 fun k k1 k2 => ?_))
      · rcases Nat.lt_or_ge i j with l | l
        · exact g4 j l j2
        · rw [show j = i by omega]; exact na
      · rcases Nat.lt_or_ge i k with l | l
        · exact g k l k2
        · rw [show k = i by omega]; exact na
    · have t : sm_tb w i = true := by
        cases h : sm_tb w i
        · exact absurd ((sm_bit (by omega)).mpr h) z
        · rfl
      exact h1 i (Nat.le_refl _) (by omega) ((hb i (by omega)).mp t).2 fun j j1 j2 => by omega
theorem yg_ff_l {post : Int32 → Prop} {t : Nat} (ht : t < th) (h4 : th ≤ 4) (hw : wd ≤ 8) (hr : rc ≤ 32) (hn : nw ≤ 32) (hP : ∀ c, c < rc → rP c = nI (sm_tn (rP c)) ∧ sm_tn (rP c) ≤ 32) (hI : ∀ a, a < wd → sm_In yW rP a rc) : ∀ d i : Nat, i + d = nw + 1 → (∀ k, i ≤ k → k ≤ nw → sm_ag wd rc t k 0 bas se iR rP yW yw → (∀ j, i ≤ j → j < k → ¬ sm_ag wd rc t j 0 bas se iR rP yW yw) → post (nI k)) → ((∀ k, i ≤ k → k ≤ nw → ¬ sm_ag wd rc t k 0 bas se iR rP yW yw) → post (-1)) → wY_firstFit_12 post (nI t) (nI th) (nI wd) (nI rl) (nI kl) (nI nw) (nI rc) bas hd ph ou st pt be re ta iR se ck iW tw bk rT rS rB rP yR ys yW yw (d + 1) (nI i) := by
  intro d
  induction d with
  | zero =>
    intro i hi h1 h0
    exact br_t (nI_lt (by omega) (by omega)) (h0 fun k g1 g2 => by omega)
  | succ d ih =>
    intro i hi h1 h0
    refine br_f (nI_nlt (by omega) (by omega)) ?_
    refine yg_ag ht h4 hw hr (by omega) hn hP hI (fun t => ?_) (fun na => ?_)
    · exact br_f sm_10 (h1 i (Nat.le_refl _) (by omega) t fun j j1 j2 => by omega)
    · refine br_t rfl (nm_r (nI_1 i) (ih (i + 1) (by omega) (fun k g1 g2 g3 g4 => h1 k (by omega) g2 g3 fun j j1 j2 => ?_) (fun g => h0 fun k k1 k2 => ?_)))
      · rcases Nat.lt_or_ge i j with l | l
        · exact g4 j l j2
        · rw [show j = i by omega]; exact na
      · rcases Nat.lt_or_ge i k with l | l
        · exact g k l k2
        · rw [show k = i by omega]; exact na
/-- downward: i is one more than the time looked at -/
theorem xg_lf_l {post : Int32 → Prop} {w : Int64} {A : Nat → Prop} (hn : nw ≤ 32) (hb : ∀ k, k < 64 → (sm_tb w k = true ↔ k < nw + 1 ∧ A k)) : ∀ i : Nat, i ≤ nw + 1 → (∀ k, k < i → A k → (∀ j, k < j → j < i → ¬ A j) → post (nI k)) → ((∀ k, k < i → ¬ A k) → post (-1)) → wX_lastFit_22 post w (nI th) (nI wd) (nI rl) (nI kl) (nI nw) (nI rc) lw me bas ph ou st pt be re ta ld rm wm hm km bm se tw rT rS rB rP xR xW xs xw od po ch cl (i + 1) (nI i - 1) := by
  intro i
  induction i with
  | zero =>
    intro hi h1 h0
    exact br_t (by decide) (h0 fun k g1 => by omega)
  | succ i ih =>
    intro hi h1 h0
    rw [nI_pred]
    refine br_f (nI_pos (by omega)) (br_c (fun z => ?_) (fun z => ?_))
    · have na : ¬ A i := fun g => by
        have t := (hb i (by omega)).mpr ⟨by omega, g⟩
        rw [(sm_bit (by omega)).mp z] at t
        exact absurd t (by decide)
      refine nm_r (Int32.sub_eq_add_neg (nI i) 1).symm (ih (by omega) (fun k g1 g3 g4 => h1 k (by omega) g3 fun j j1 j2 => ?_) (fun g => h0 fun k k1 => ?_))
      · rcases Nat.lt_or_ge j i with l | l
        · exact g4 j j1 l
        · rw [show j = i by omega]; exact na
      · rcases Nat.lt_or_ge k i with l | l
        · exact g k l
        · rw [show k = i by omega]; exact na
    · have t : sm_tb w i = true := by
        cases h : sm_tb w i
        · exact absurd ((sm_bit (by omega)).mpr h) z
        · rfl
      exact h1 i (by omega) ((hb i (by omega)).mp t).2 fun j j1 j2 => by omega
theorem yg_lf_l {post : Int32 → Prop} {t : Nat} (ht : t < th) (h4 : th ≤ 4) (hw : wd ≤ 8) (hr : rc ≤ 32) (hn : nw ≤ 32) (hP : ∀ c, c < rc → rP c = nI (sm_tn (rP c)) ∧ sm_tn (rP c) ≤ 32) (hI : ∀ a, a < wd → sm_In yW rP a rc) : ∀ i : Nat, i ≤ nw + 1 → (∀ k, k < i → sm_ag wd rc t k 0 bas se iR rP yW yw → (∀ j, k < j → j < i → ¬ sm_ag wd rc t j 0 bas se iR rP yW yw) → post (nI k)) → ((∀ k, k < i → ¬ sm_ag wd rc t k 0 bas se iR rP yW yw) → post (-1)) → wY_lastFit_15 post (nI t) (nI th) (nI wd) (nI rl) (nI kl) (nI nw) (nI rc) bas hd ph ou st pt be re ta iR se ck iW tw bk rT rS rB rP yR ys yW yw (i + 1) (nI i - 1) := by
  intro i
  induction i with
  | zero =>
    intro hi h1 h0
    exact br_t (by decide) (h0 fun k g1 => by omega)
  | succ i ih =>
    intro hi h1 h0
    rw [nI_pred]
    refine br_f (nI_pos (by omega)) ?_
    refine yg_ag ht h4 hw hr (by omega) hn hP hI (fun t => ?_) (fun na => ?_)
    · exact br_f sm_10 (h1 i (by omega) t fun j j1 j2 => by omega)
    · refine br_t rfl (nm_r (Int32.sub_eq_add_neg (nI i) 1).symm (ih (by omega) (fun k g1 g3 g4 => h1 k (by omega) g3 fun j j1 j2 => ?_) (fun g => h0 fun k k1 => ?_)))
      · rcases Nat.lt_or_ge j i with l | l
        · exact g4 j j1 l
        · rw [show j = i by omega]; exact na
      · rcases Nat.lt_or_ge k i with l | l
        · exact g k l
        · rw [show k = i by omega]; exact na
end
end
section
section
variable {th wd rl kl nw rc : Nat} {lw me bas ph ou st pt be re ta ld rm wm hm km bm se tw rT rS rB rP xR xW xs xw od po ch cl hd iR ck iW bk yR ys yW yw : Nat → Int32}
theorem sm_kyz {p xW : Nat → Int32} {c : Nat} (z : xW c = 0) : sm_ky p xW c = (2 * sm_tn (p c) + 1) * 32 + c := by unfold sm_ky; rw [if_pos z]
theorem sm_kyo {p xW : Nat → Int32} {c : Nat} (z : ¬ xW c = 0) : sm_ky p xW c = (2 * sm_tn (p c) + 0) * 32 + c := by unfold sm_ky; rw [if_neg z]
theorem xo_65 {post : Int32 → Prop} {c d : Nat} {x z : Int32} (hc : c < 32) (hd' : d < 32) (hx : x = 0 ∨ x = 1) (hn : ¬ x = z → post x) (h1 : x = z → c < d → post 1) (h0 : x = z → d ≤ c → post 0) : wX_comesBefore_65 post (nI c) (nI d) x z (nI th) (nI wd) (nI rl) (nI kl) (nI nw) (nI rc) lw me bas ph ou st pt be re ta ld rm wm hm km bm se tw rT rS rB rP xR xW xs xw od po ch cl := by
  unfold wX_comesBefore_65
  refine br_c (fun e => br_c (fun w => h0 e ((nI_leI (by omega) (by omega)).mp w)) (fun w => h1 e (Nat.lt_of_not_le fun k => w ((nI_leI (by omega) (by omega)).mpr k)))) (fun e => And.intro ?_ (hn e))
  rcases hx with rfl | rfl
  · exact rfl
  · exact rfl
theorem xo_cb {post : Int32 → Prop} {c d : Nat} (hc : c < 32) (hd' : d < 32) (pc : rP c = nI (sm_tn (rP c)) ∧ sm_tn (rP c) ≤ 32) (pd : rP d = nI (sm_tn (rP d)) ∧ sm_tn (rP d) ≤ 32) (h1 : sm_ky rP xW c < sm_ky rP xW d → post 1) (h0 : ¬ sm_ky rP xW c < sm_ky rP xW d → post 0) : wpX_comesBefore post (nI th, nI wd, nI rl, nI kl, nI nw, nI rc, lw, me, bas, ph, ou, st, pt, be, re, ta, ld, rm, wm, hm, km, bm, se, tw, rT, rS, rB, rP, xR, xW, xs, xw, od, po, ch, cl) (nI c) (nI d) := by
  unfold wpX_comesBefore
  have ec : (nI c).toNatClampNeg = c := nI_clamp (by omega)
  have ed : (nI d).toNatClampNeg = d := nI_clamp (by omega)
  refine And.intro (vp_in_nI hc (by omega)) (And.intro (vp_in_nI hd' (by omega)) (br_c (fun e => And.intro (vp_in_nI hc (by omega)) ?_) (fun e => And.intro (vp_in_nI hc (by omega)) (And.intro (vp_in_nI hd' (by omega)) ?_))))
  · rw [ec, ed] at e
    have e' : sm_tn (rP c) = sm_tn (rP d) := by rw [e]
    rw [ec]
    refine br_c (fun z => ?_) (fun z => ?_)
    · unfold wX_comesBefore_50
      refine And.intro (vp_in_nI hd' (by omega)) ?_
      rw [ed]
      refine br_c (fun w => ?_) (fun w => ?_)
      · refine xo_65 hc hd' (Or.inl rfl) (fun n => absurd rfl n) (fun _ l => h1 ?_) (fun _ l => h0 ?_)
        · rw [sm_kyz z, sm_kyz w]; omega
        · rw [sm_kyz z, sm_kyz w]; omega
      · refine xo_65 hc hd' (Or.inl rfl) (fun n => h0 ?_) (fun n _ => absurd n (by decide)) (fun n _ => absurd n (by decide))
        rw [sm_kyz z, sm_kyo w]; omega
    · unfold wX_comesBefore_50
      refine And.intro (vp_in_nI hd' (by omega)) ?_
      rw [ed]
      refine br_c (fun w => ?_) (fun w => ?_)
      · refine xo_65 hc hd' (Or.inr rfl) (fun n => h1 ?_) (fun n _ => absurd n (by decide)) (fun n _ => absurd n (by decide))
        rw [sm_kyo z, sm_kyz w]; omega
      · refine xo_65 hc hd' (Or.inr rfl) (fun n => absurd rfl n) (fun _ l => h1 ?_) (fun _ l => h0 ?_)
        · rw [sm_kyo z, sm_kyo w]; omega
        · rw [sm_kyo z, sm_kyo w]; omega
  · rw [ec, ed] at e
    rw [ec, ed]
    have ne : sm_tn (rP c) ≠ sm_tn (rP d) := fun k => e (by rw [pc.1, pd.1, k])
    have u1 : sm_ky rP xW c < (2 * sm_tn (rP c) + 2) * 32 ∧ (2 * sm_tn (rP c)) * 32 ≤ sm_ky rP xW c := by
      by_cases z : xW c = 0
      · rw [sm_kyz z]; omega
      · rw [sm_kyo z]; omega
    have u2 : sm_ky rP xW d < (2 * sm_tn (rP d) + 2) * 32 ∧ (2 * sm_tn (rP d)) * 32 ≤ sm_ky rP xW d := by
      by_cases z : xW d = 0
      · rw [sm_kyz z]; omega
      · rw [sm_kyo z]; omega
    rw [pc.1, pd.1]
    refine br_c (fun w => h0 ?_) (fun w => h1 ?_)
    · rw [nI_leI (by omega) (by omega)] at w; omega
    · rw [nI_leI (by omega) (by omega)] at w; omega
theorem yo_wr_l {post : Int32 → Prop} {c : Nat} (hc : c < 32) (hw : wd ≤ 8) (h0 : (∀ a, a < wd → yW (c * 8 + a) = 0) → post 0) (h1 : (∃ a, a < wd ∧ ¬ yW (c * 8 + a) = 0) → post 1) : ∀ d i : Nat, i + d = wd → (∀ a, a < i → yW (c * 8 + a) = 0) → wY_isWriter_2 post (nI c) (nI th) (nI wd) (nI rl) (nI kl) (nI nw) (nI rc) bas hd ph ou st pt be re ta iR se ck iW tw bk rT rS rB rP yR ys yW yw (d + 1) (nI i) := by
  intro d
  induction d with
  | zero =>
    intro i hi h
    have : i = wd := by omega
    subst this
    exact br_t (nI_le (Nat.le_refl _) (by omega)) (h0 h)
  | succ d ih =>
    intro i hi h
    refine br_f (nI_ge (by omega) (by omega)) (And.intro (sm_in (sm_ix c i) (by omega) (by omega)) ?_)
    rw [sm_cl (sm_ix c i) (by omega)]
    refine br_c (fun z => nm_r (nI_1 i) (ih (i + 1) (by omega) fun a ha => ?_)) (fun z => h1 ⟨i, by omega, z⟩)
    rcases Nat.lt_or_ge a i with l | l
    · exact h a l
    · rw [show a = i by omega]; exact z
theorem sm_wz {x : Int32} {c : Nat} (hw : wd ≤ 8) (hM : sm_MK x (sm_rw yW c)) (hz : ∀ a, wd ≤ a → a < 8 → yW (c * 8 + a) = 0) : x = 0 ↔ ∀ a, a < wd → yW (c * 8 + a) = 0 := by
  rw [sm_MK00 hM]
  constructor
  · intro h a ha
    exact h a (by omega)
  · intro h a ha
    rcases Nat.lt_or_ge a wd with l | l
    · exact h a l
    · exact hz a l ha
theorem yo_wr {post : Int32 → Prop} {c : Nat} (hr : rc ≤ 32) (hw : wd ≤ 8) (hc : c < rc) (R : sm_Rk wd rc xR xW xs xw yR ys yW yw) (h0 : xW c = 0 → post 0) (h1 : ¬ xW c = 0 → post 1) : wpY_isWriter post (nI th, nI wd, nI rl, nI kl, nI nw, nI rc, bas, hd, ph, ou, st, pt, be, re, ta, iR, se, ck, iW, tw, bk, rT, rS, rB, rP, yR, ys, yW, yw) (nI c) := by
  unfold wpY_isWriter
  obtain ⟨r1, r2, r3, r4⟩ := R c hc
  have k := sm_wz hw r2 fun a ha ha' => (r3 a ha ha').2
  refine Exists.intro (wd + 1) (yo_wr_l (by omega) hw (fun h => h0 (k.mpr h)) (fun h => h1 fun e => ?_) wd 0 (by omega) fun a ha => absurd ha (Nat.not_lt_zero a))
  obtain ⟨a, ha, z⟩ := h
  exact z (k.mp e a ha)
theorem yo_bf {post : Int32 → Prop} {c d : Nat} (hr : rc ≤ 32) (hw : wd ≤ 8) (hn : nw ≤ 32) (hc : c < rc) (hd' : d < rc) (R : sm_Rk wd rc xR xW xs xw yR ys yW yw) (Q : sm_Pt wd nw rc rP xW yW) (h1 : sm_ky rP xW c < sm_ky rP xW d → post 1) (h0 : ¬ sm_ky rP xW c < sm_ky rP xW d → post 0) : wpY_before post (nI th, nI wd, nI rl, nI kl, nI nw, nI rc, bas, hd, ph, ou, st, pt, be, re, ta, iR, se, ck, iW, tw, bk, rT, rS, rB, rP, yR, ys, yW, yw) (nI c) (nI d) := by
  unfold wpY_before
  have ec : (nI c).toNatClampNeg = c := nI_clamp (by omega)
  have ed : (nI d).toNatClampNeg = d := nI_clamp (by omega)
  obtain ⟨pc, pc2, _⟩ := Q.1 c hc
  obtain ⟨pd, pd2, _⟩ := Q.1 d hd'
  refine And.intro (vp_in_nI (by omega) (by omega)) (And.intro (vp_in_nI (by omega) (by omega)) (br_c (fun e => ?_) (fun e => And.intro (vp_in_nI (by omega) (by omega)) (And.intro (vp_in_nI (by omega) (by omega)) ?_))))
  · rw [ec, ed] at e
    have e' : sm_tn (rP c) = sm_tn (rP d) := by rw [e]
    refine yo_wr hr hw hc R (fun z => ?_) (fun z => ?_)
    · refine yo_wr hr hw hd' R (fun w => ?_) (fun w => ?_)
      · refine br_t rfl (yo_wr hr hw hc R (fun z => ?_) (fun k => absurd z k))
        refine br_t rfl (br_c (fun l => h0 ?_) (fun l => h1 ?_))
        · rw [nI_leI (by omega) (by omega)] at l; rw [sm_kyz z, sm_kyz w]; omega
        · rw [nI_leI (by omega) (by omega)] at l; rw [sm_kyz z, sm_kyz w]; omega
      · refine br_f (by decide) (yo_wr hr hw hc R (fun z => ?_) (fun k => absurd z k))
        refine And.intro rfl (h0 ?_)
        rw [sm_kyz z, sm_kyo w]; omega
    · refine yo_wr hr hw hd' R (fun w => ?_) (fun w => ?_)
      · refine br_f (by decide) (yo_wr hr hw hc R (fun k => absurd k z) (fun z => ?_))
        refine And.intro rfl (h1 ?_)
        rw [sm_kyo z, sm_kyz w]; omega
      · refine br_t rfl (yo_wr hr hw hc R (fun k => absurd k z) (fun z => ?_))
        refine br_f sm_10 (h0 ?_)
        rw [Q.2.1 c d hc hd' z w e']; omega
  · rw [ec, ed] at e
    rw [ec, ed]
    have ne : sm_tn (rP c) ≠ sm_tn (rP d) := fun k => e (by rw [pc, pd, k])
    have u1 : sm_ky rP xW c < (2 * sm_tn (rP c) + 2) * 32 ∧ (2 * sm_tn (rP c)) * 32 ≤ sm_ky rP xW c := by
      by_cases z : xW c = 0
      · rw [sm_kyz z]; omega
      · rw [sm_kyo z]; omega
    have u2 : sm_ky rP xW d < (2 * sm_tn (rP d) + 2) * 32 ∧ (2 * sm_tn (rP d)) * 32 ≤ sm_ky rP xW d := by
      by_cases z : xW d = 0
      · rw [sm_kyz z]; omega
      · rw [sm_kyo z]; omega
    rw [pc, pd]
    refine br_c (fun w => h0 ?_) (fun w => h1 ?_)
    · rw [nI_leI (by omega) (by omega)] at w; omega
    · rw [nI_leI (by omega) (by omega)] at w; omega
theorem yo_pos_l {post : Int32 → Prop} {d : Nat} (hr : rc ≤ 32) (hw : wd ≤ 8) (hn : nw ≤ 32) (hd' : d < rc) (R : sm_Rk wd rc xR xW xs xw yR ys yW yw) (Q : sm_Pt wd nw rc rP xW yW) (hp : post (nI (sm_rk (sm_ky rP xW) (sm_ky rP xW d) rc))) : ∀ e c : Nat, c + e = rc → wY_position_4 post (nI d) (nI th) (nI wd) (nI rl) (nI kl) (nI nw) (nI rc) bas hd ph ou st pt be re ta iR se ck iW tw bk rT rS rB rP yR ys yW yw (e + 1) (nI (sm_rk (sm_ky rP xW) (sm_ky rP xW d) c)) (nI c) := by
  intro e
  induction e with
  | zero =>
    intro c hc
    have : c = rc := by omega
    subst this
    exact br_t (nI_le (Nat.le_refl _) (by omega)) hp
  | succ e ih =>
    intro c hc
    have k := ih (c + 1) (by omega)
    rw [sm_rk_s] at k
    refine br_f (nI_ge (by omega) (by omega)) ?_
    refine yo_bf hr hw hn (by omega) hd' R Q (fun l => ?_) (fun l => ?_)
    · rw [if_pos l] at k
      exact br_f sm_10 (nm_r (nI_1 _) (nm_r (nI_1 c) k))
    · rw [if_neg l] at k
      exact br_t rfl (nm_r (nI_1 c) k)
theorem yo_pos {post : Int32 → Prop} {d : Nat} (hr : rc ≤ 32) (hw : wd ≤ 8) (hn : nw ≤ 32) (hd' : d < rc) (R : sm_Rk wd rc xR xW xs xw yR ys yW yw) (Q : sm_Pt wd nw rc rP xW yW) (hp : post (nI (sm_rk (sm_ky rP xW) (sm_ky rP xW d) rc))) : wpY_position post (nI th, nI wd, nI rl, nI kl, nI nw, nI rc, bas, hd, ph, ou, st, pt, be, re, ta, iR, se, ck, iW, tw, bk, rT, rS, rB, rP, yR, ys, yW, yw) (nI d) := by
  unfold wpY_position
  exact Exists.intro (rc + 1) (yo_pos_l hr hw hn hd' R Q hp rc 0 (by omega))
theorem yo_in_l {post : Int32 → Prop} {x : Int32} (hr : rc ≤ 32) (hw : wd ≤ 8) (hn : nw ≤ 32) (R : sm_Rk wd rc xR xW xs xw yR ys yW yw) (Q : sm_Pt wd nw rc rP xW yW) (h1 : ∀ c, c < rc → nI (sm_rk (sm_ky rP xW) (sm_ky rP xW c) rc) = x → post (nI c)) (h0 : (∀ c, c < rc → ¬ nI (sm_rk (sm_ky rP xW) (sm_ky rP xW c) rc) = x) → post (-1)) : ∀ e c : Nat, c + e = rc → (∀ d, d < c → ¬ nI (sm_rk (sm_ky rP xW) (sm_ky rP xW d) rc) = x) → wY_inOrder_2 post x (nI th) (nI wd) (nI rl) (nI kl) (nI nw) (nI rc) bas hd ph ou st pt be re ta iR se ck iW tw bk rT rS rB rP yR ys yW yw (e + 1) (nI c) := by
  intro e
  induction e with
  | zero =>
    intro c hc g
    have : c = rc := by omega
    subst this
    exact br_t (nI_le (Nat.le_refl _) (by omega)) (h0 g)
  | succ e ih =>
    intro c hc g
    refine br_f (nI_ge (by omega) (by omega)) ?_
    refine yo_pos hr hw hn (by omega) R Q ?_
    refine br_c (fun z => h1 c (by omega) z) (fun z => nm_r (nI_1 c) (ih (c + 1) (by omega) fun d hd' => ?_))
    rcases Nat.lt_or_ge d c with l | l
    · exact g d l
    · rw [show d = c by omega]; exact z
theorem yo_in {post : Int32 → Prop} {x : Int32} (hr : rc ≤ 32) (hw : wd ≤ 8) (hn : nw ≤ 32) (R : sm_Rk wd rc xR xW xs xw yR ys yW yw) (Q : sm_Pt wd nw rc rP xW yW) (h1 : ∀ c, c < rc → nI (sm_rk (sm_ky rP xW) (sm_ky rP xW c) rc) = x → post (nI c)) (h0 : (∀ c, c < rc → ¬ nI (sm_rk (sm_ky rP xW) (sm_ky rP xW c) rc) = x) → post (-1)) : wpY_inOrder post (nI th, nI wd, nI rl, nI kl, nI nw, nI rc, bas, hd, ph, ou, st, pt, be, re, ta, iR, se, ck, iW, tw, bk, rT, rS, rB, rP, yR, ys, yW, yw) x := by
  unfold wpY_inOrder
  exact Exists.intro (rc + 1) (yo_in_l hr hw hn R Q h1 h0 rc 0 (by omega) fun d hd' => absurd hd' (Nat.not_lt_zero d))
/-! the serial value -/
theorem sm_po {c : Nat} (hr : rc ≤ 32) (O : sm_Od (sm_ky rP xW) rc od po) (hc : c < rc) : sm_tn (po c) = sm_rk (sm_ky rP xW) (sm_ky rP xW c) rc := by
  have := sm_rk_le (sm_ky rP xW) (sm_ky rP xW c) rc
  rw [(O.1 c hc).1, sm_tnN (by omega)]
theorem sm_rk_u {c d : Nat} (hr : rc ≤ 32) (hc : c < rc) (hd' : d < rc) (e : sm_rk (sm_ky rP xW) (sm_ky rP xW c) rc = sm_rk (sm_ky rP xW) (sm_ky rP xW d) rc) : c = d :=
  sm_rk_ij (fun _ _ hc hd h => sm_ky_ij (by omega) (by omega) h) hc hd' e
theorem sm_wne {a c : Nat} (hw : wd ≤ 8) (ha : a < wd) (hc : c < rc) (R : sm_Rk wd rc xR xW xs xw yR ys yW yw) (z : ¬ yW (c * 8 + a) = 0) : ¬ xW c = 0 := by
  obtain ⟨r1, r2, r3, r4⟩ := R c hc
  intro e
  exact z ((sm_MK00 r2).mp e a (by omega))
theorem sm_rk_w {a c d : Nat} (hr : rc ≤ 32) (hw : wd ≤ 8) (ha : a < wd) (R : sm_Rk wd rc xR xW xs xw yR ys yW yw) (Q : sm_Pt wd nw rc rP xW yW) (hc : c < rc) (hd' : d < rc) (zc : ¬ yW (c * 8 + a) = 0) (zd : ¬ yW (d * 8 + a) = 0) (l : c < d) : sm_rk (sm_ky rP xW) (sm_ky rP xW c) rc < sm_rk (sm_ky rP xW) (sm_ky rP xW d) rc := by
  refine sm_rk_lt (K := sm_ky rP xW) rc hc ?_
  have := Q.2.2 a ha c d l hd' zc zd
  rw [sm_kyo (sm_wne hw ha hc R zc), sm_kyo (sm_wne hw ha hd' R zd)]
  omega
theorem sm_Tp {a k : Nat} (hr : rc ≤ 32) (hw : wd ≤ 8) (ha : a < wd) (hC : sm_Cn wd rc yW ch cl) (R : sm_Rk wd rc xR xW xs xw yR ys yW yw) (Q : sm_Pt wd nw rc rP xW yW) (O : sm_Od (sm_ky rP xW) rc od po) : ∃ n, sm_Th (fun i => sm_tn (po (sm_C ch a i)) < k) (sm_cn yW a rc) n := by
  refine sm_Th_ex _ fun i j ij hj g => ?_
  obtain ⟨c, c1, c2, c3, c4, c5⟩ := sm_C_ex (i := i) hC hr ha (by omega)
  obtain ⟨d, d1, d2, d3, d4, d5⟩ := sm_C_ex (i := j) hC hr ha (by omega)
  have g : sm_tn (po (sm_C ch a j)) < k := g
  show sm_tn (po (sm_C ch a i)) < k
  rw [d5, sm_po hr O d1] at g
  rw [c5, sm_po hr O c1]
  rcases Nat.lt_trichotomy c d with l | l | l
  · have := sm_rk_w hr hw ha R Q c1 d1 c2 d2 l; omega
  · rw [l]; exact g
  · have := sm_cn_lt l d2; omega
theorem yo_ser_l {post : Int32 → Prop} {a k : Nat} (hr : rc ≤ 32) (hw : wd ≤ 8) (hn : nw ≤ 32) (ha : a < wd) (hk : k ≤ rc) (hC : sm_Cn wd rc yW ch cl) (R : sm_Rk wd rc xR xW xs xw yR ys yW yw) (Q : sm_Pt wd nw rc rP xW yW) (O : sm_Od (sm_ky rP xW) rc od po) (hp : ∀ m, sm_Th (fun i => sm_tn (po (sm_C ch a i)) < k) (sm_cn yW a rc) m → post (sm_vl bas xw ch a m)) : ∀ (e i m : Nat), i + e = k → sm_Th (fun j => sm_tn (po (sm_C ch a j)) < i) (sm_cn yW a rc) m → wY_serialValue_32 post (nI k) (nI a) (nI th) (nI wd) (nI rl) (nI kl) (nI nw) (nI rc) bas hd ph ou st pt be re ta iR se ck iW tw bk rT rS rB rP yR ys yW yw (e + 1) (sm_vl bas xw ch a m) (nI i) := by
  intro e
  induction e with
  | zero =>
    intro i m hi T
    have : i = k := by omega
    subst this
    exact br_t (nI_le (Nat.le_refl _) (by omega)) (hp m T)
  | succ e ih =>
    intro i m hi T
    refine br_f (nI_ge (by omega) (by omega)) ?_
    refine yo_in hr hw hn R Q (fun c hc ec => ?_) (fun no => ?_)
    · have hrk := sm_rk_le (sm_ky rP xW) (sm_ky rP xW c) rc
      have er : sm_rk (sm_ky rP xW) (sm_ky rP xW c) rc = i := sm_im ec (by omega) (by omega)
      have e1 : (nI c * 8 + nI a).toNatClampNeg = c * 8 + a := sm_cl (sm_ix c a) (by omega)
      refine br_f (nI_pos (by omega)) (And.intro (sm_in (sm_ix c a) (by omega) (by omega)) ?_)
      rw [e1]
      refine br_c (fun z => nm_r (nI_1 i) (ih (i + 1) m (by omega) ?_)) (fun z => And.intro (sm_in (sm_ix c a) (by omega) (by omega)) ?_)
      · refine ⟨T.1, fun j hj => ?_, fun j h1 h2 h3 => ?_⟩
        · have : sm_tn (po (sm_C ch a j)) < i := T.2.1 j hj
          show sm_tn (po (sm_C ch a j)) < i + 1
          omega
        · have g : ¬ sm_tn (po (sm_C ch a j)) < i := T.2.2 j h1 h2
          have h3 : sm_tn (po (sm_C ch a j)) < i + 1 := h3
          obtain ⟨d, d1, d2, d3, d4, d5⟩ := sm_C_ex (i := j) hC hr ha h2
          rw [d5, sm_po hr O d1] at g h3
          have : d = c := sm_rk_u (rP := rP) (xW := xW) hr d1 hc (by omega)
          rw [this] at d2
          exact d2 z
      · have hC0 := sm_C_of hC hr ha hc z
        have hlt := sm_cn_lt (f := yW) (a := a) hc z
        have em : m = sm_cn yW a c := by
          rcases Nat.lt_trichotomy m (sm_cn yW a c) with l | l | l
          · have g : ¬ sm_tn (po (sm_C ch a m)) < i := T.2.2 m (Nat.le_refl _) (by omega)
            obtain ⟨d, d1, d2, d3, d4, d5⟩ := sm_C_ex (i := m) hC hr ha (by omega)
            rw [d5, sm_po hr O d1] at g
            rcases Nat.lt_trichotomy d c with l2 | l2 | l2
            · have := sm_rk_w hr hw ha R Q d1 hc d2 z l2; omega
            · rw [l2] at d3; omega
            · have := sm_cn_lt l2 z; omega
          · exact l
          · have g : sm_tn (po (sm_C ch a (sm_cn yW a c))) < i := T.2.1 _ l
            rw [hC0, sm_po hr O hc] at g
            omega
        have ev : sm_vl bas xw ch a (m + 1) = yw (c * 8 + a) := by
          show xw (sm_C ch a m * 8 + a) = _
          rw [em, hC0, ((R c hc).2.2.2 a ha).2, if_neg z]
        refine nm_r (e' := sm_vl bas xw ch a (m + 1)) (by rw [ev]) (nm_r (nI_1 i) (ih (i + 1) (m + 1) (by omega) ⟨by omega, fun j hj => ?_, fun j h1 h2 h3 => ?_⟩))
        · show sm_tn (po (sm_C ch a j)) < i + 1
          rcases Nat.lt_or_ge j m with l | l
          · have : sm_tn (po (sm_C ch a j)) < i := T.2.1 j l
            omega
          · rw [show j = sm_cn yW a c by omega, hC0, sm_po hr O hc]; omega
        · have g : ¬ sm_tn (po (sm_C ch a j)) < i := T.2.2 j (by omega) h2
          have h3 : sm_tn (po (sm_C ch a j)) < i + 1 := h3
          obtain ⟨d, d1, d2, d3, d4, d5⟩ := sm_C_ex (i := j) hC hr ha h2
          rw [d5, sm_po hr O d1] at g h3
          have : d = c := sm_rk_u (rP := rP) (xW := xW) hr d1 hc (by omega)
          rw [this] at d3
          omega
    · obtain ⟨c, hc, ec⟩ := O.2 i (by omega)
      exact absurd (by rw [ec]) (no c hc)
end
end
section
section
variable {th wd rl kl nw rc : Nat} {lw me bas ph ou st pt be re ta ld rm wm hm km bm se tw rT rS rB rP xR xW xs xw od po ch cl hd iR ck iW bk yR ys yW yw : Nat → Int32}
/-! insertion into the order -/
def sm_OI (K : Nat → Nat) (c i : Nat) (od od' po' : Nat → Int32) : Prop := (∀ j, j < i → od' j = od j) ∧ (∀ j, i ≤ j → j < c → od' (j + 1) = od j) ∧ (∀ d, d < c → po' d = nI (sm_rk K (K d) c + (if i ≤ sm_rk K (K d) c then 1 else 0)))
theorem sm_OI_0 {K : Nat → Nat} {c : Nat} {od po : Nat → Int32} (O : sm_Od K c od po) : sm_OI K c c od od po := by
  refine ⟨fun j _ => rfl, fun j h1 h2 => by omega, fun d hd => ?_⟩
  rw [(O.1 d hd).1, if_neg (by have := sm_Od_lt (K := K) hd; omega), Nat.add_zero]
theorem sm_OI_s {K : Nat → Nat} {c i d : Nat} {od po od' po' : Nat → Int32} (ij : ∀ c' d', c' < c → d' < c → K c' = K d' → c' = d') (O : sm_Od K c od po) (I : sm_OI K c (i + 1) od od' po') (hd : d < c) (er : sm_rk K (K d) c = i) : sm_OI K c i od (upd od' (i + 1) (nI d)) (upd po' d (nI (i + 1))) := by
  refine ⟨fun j hj => ?_, fun j h1 h2 => ?_, fun e he => ?_⟩
  · rw [sm_un (by omega)]; exact I.1 j (by omega)
  · rcases Nat.lt_or_ge i j with l | l
    · rw [sm_un (by omega)]; exact I.2.1 j (by omega) h2
    · have : j = i := by omega
      subst this
      rw [sm_us, ← er, (O.1 d hd).2]
  · by_cases e' : e = d
    · subst e'
      rw [sm_us, er, if_pos (Nat.le_refl _)]
    · rw [sm_un e', I.2.2 e he]
      have ne : sm_rk K (K e) c ≠ i := fun k => e' (sm_rk_ij ij he hd (k.trans er.symm))
      by_cases l : i + 1 ≤ sm_rk K (K e) c
      · rw [if_pos l, if_pos (by omega)]
      · rw [if_neg l, if_neg (by omega)]
theorem sm_OI_e {K : Nat → Nat} {c : Nat} {od po od' po' : Nat → Int32} (ne : ∀ d, d < c → K c ≠ K d) (O : sm_Od K c od po) (I : sm_OI K c (sm_rk K (K c) c) od od' po') : sm_Od K (c + 1) (upd od' (sm_rk K (K c) c) (nI c)) (upd po' c (nI (sm_rk K (K c) c))) := by
  have hr : ∀ d, d < c → sm_rk K (K d) (c + 1) = sm_rk K (K d) c + (if sm_rk K (K c) c ≤ sm_rk K (K d) c then 1 else 0) := by
    intro d hd
    rw [sm_rk_s]
    have := sm_rk_b (K := K) hd (ne d hd)
    by_cases l : K c < K d
    · rw [if_pos l, if_pos (this.mp l)]
    · rw [if_neg l, if_neg fun k => l (this.mpr k)]
  have hc : sm_rk K (K c) (c + 1) = sm_rk K (K c) c := by rw [sm_rk_s, if_neg (Nat.lt_irrefl _)]; rfl
  have hb := sm_rk_le K (K c) c
  refine ⟨fun d hd => ?_, fun i hi => ?_⟩
  · rcases Nat.lt_or_ge d c with l | l
    · have hl := sm_Od_lt (K := K) l
      rw [hr d l, sm_un (by omega), I.2.2 d l]
      refine ⟨rfl, ?_⟩
      by_cases g : sm_rk K (K c) c ≤ sm_rk K (K d) c
      · rw [if_pos g, sm_un (by omega), I.2.1 _ g hl]; exact (O.1 d l).2
      · rw [if_neg g, Nat.add_zero, sm_un (by omega), I.1 _ (by omega)]; exact (O.1 d l).2
    · have : d = c := by omega
      subst this
      rw [hc, sm_us, sm_us]
      exact ⟨rfl, rfl⟩
  · rcases Nat.lt_trichotomy i (sm_rk K (K c) c) with l | l | l
    · obtain ⟨d, hd, e⟩ := O.2 i (by omega)
      exact ⟨d, by omega, by rw [hr d hd, if_neg (by omega)]; exact e⟩
    · exact ⟨c, by omega, by rw [hc, l]⟩
    · obtain ⟨d, hd, e⟩ := O.2 (i - 1) (by omega)
      exact ⟨d, by omega, by rw [hr d hd, if_pos (by omega)]; omega⟩
theorem xa_ins_l {post : SX → Prop} {c : Nat} (hc : c < 32) (hP : ∀ d, d ≤ c → rP d = nI (sm_tn (rP d)) ∧ sm_tn (rP d) ≤ 32) (O : sm_Od (sm_ky rP xW) c od po) (hp : ∀ od' po', sm_Od (sm_ky rP xW) (c + 1) od' po' → post (nI th, nI wd, nI rl, nI kl, nI nw, nI rc, lw, me, bas, ph, ou, st, pt, be, re, ta, ld, rm, wm, hm, km, bm, se, tw, rT, rS, rB, rP, xR, xW, xs, xw, od', po', ch, cl)) : ∀ (i : Nat) (od' po' : Nat → Int32), i ≤ c → sm_rk (sm_ky rP xW) (sm_ky rP xW c) c ≤ i → sm_OI (sm_ky rP xW) c i od od' po' → wX_insertInOrder_4 post (nI c) (nI th) (nI wd) (nI rl) (nI kl) (nI nw) (nI rc) (i + 1) (nI i) (nI i) lw me bas ph ou st pt be re ta ld rm wm hm km bm se tw rT rS rB rP xR xW xs xw od' po' ch cl := by
  have ne : ∀ d, d < c → sm_ky rP xW c ≠ sm_ky rP xW d := fun d hd e => by
    have := sm_ky_ij (by omega) (by omega) e
    omega
  have fin : ∀ (i : Nat) (od' po' : Nat → Int32), i = sm_rk (sm_ky rP xW) (sm_ky rP xW c) c → sm_OI (sm_ky rP xW) c i od od' po' → wX_insertInOrder_60 post (nI c) (nI i) (nI th) (nI wd) (nI rl) (nI kl) (nI nw) (nI rc) lw me bas ph ou st pt be re ta ld rm wm hm km bm se tw rT rS rB rP xR xW xs xw od' po' ch cl := by
    intro i od' po' e I
    have := sm_rk_le (sm_ky rP xW) (sm_ky rP xW c) c
    subst e
    unfold wX_insertInOrder_60
    exact sm_st (by omega) (by omega) (sm_st (by omega) (by omega) (hp _ _ (sm_OI_e ne O I)))
  intro i
  induction i with
  | zero =>
    intro od' po' hi hr I
    exact br_t (by decide) (fin 0 od' po' (by omega) I)
  | succ i ih =>
    intro od' po' hi hr I
    obtain ⟨d, hd', er⟩ := O.2 i (by omega)
    have eo : od' i = nI d := by rw [I.1 i (by omega), ← er]; exact (O.1 d hd').2
    have ei : (nI (i + 1) - 1).toNatClampNeg = i := by rw [nI_pred]; exact nI_clamp (by omega)
    have hv : vp_in (nI (i + 1) - 1) 32 := by rw [nI_pred]; exact vp_in_nI (by omega) (by omega)
    have kb := sm_rk_b (K := sm_ky rP xW) hd' (ne d hd')
    refine br_f (nI_nle (by omega) (by omega)) (And.intro hv ?_)
    rw [ei, eo]
    refine xo_cb hc (by omega) (hP c (Nat.le_refl _)) (hP d (by omega)) (fun l => ?_) (fun l => ?_)
    · refine br_f sm_10 (And.intro hv (nm_e ?_))
      refine sm_st (by omega) (by omega) (sm_st (by omega) (by omega) (nm_r (nI_pred i) (nm_r (pk_m1 i) (ih _ _ (by omega) ?_ ?_))))
      · rw [← er]; exact kb.mp l
      · exact sm_OI_s (fun a b ha hb e => sm_ky_ij (by omega) (by omega) e) O I hd' er
    · refine br_t rfl (fin (i + 1) od' po' ?_ I)
      have : ¬ sm_rk (sm_ky rP xW) (sm_ky rP xW c) c ≤ i := fun k => l (kb.mpr (by omega))
      omega
theorem xa_ins {post : SX → Prop} {c : Nat} (hc : c < 32) (hP : ∀ d, d ≤ c → rP d = nI (sm_tn (rP d)) ∧ sm_tn (rP d) ≤ 32) (O : sm_Od (sm_ky rP xW) c od po) (hp : ∀ od' po', sm_Od (sm_ky rP xW) (c + 1) od' po' → post (nI th, nI wd, nI rl, nI kl, nI nw, nI rc, lw, me, bas, ph, ou, st, pt, be, re, ta, ld, rm, wm, hm, km, bm, se, tw, rT, rS, rB, rP, xR, xW, xs, xw, od', po', ch, cl)) : wpX_insertInOrder post (nI th, nI wd, nI rl, nI kl, nI nw, nI rc, lw, me, bas, ph, ou, st, pt, be, re, ta, ld, rm, wm, hm, km, bm, se, tw, rT, rS, rB, rP, xR, xW, xs, xw, od, po, ch, cl) (nI c) := by
  unfold wpX_insertInOrder
  exact Exists.intro (c + 1) (xa_ins_l hc hP O hp c od po (Nat.le_refl _) (sm_rk_le _ _ _) (sm_OI_0 O))
/-! the cells of a new record, component -/
def sm_AI (wd rc t i : Nat) (se tw iR iW yW xs xw ch xs' xw' ch' cl' : Nat → Int32) : Prop :=
  (∀ j, j < rc * 8 → xs' j = xs j ∧ xw' j = xw j) ∧ (∀ a, a < i → xs' (rc * 8 + a) = (if iR (t * 8 + a) = 0 then 0 else se (t * 8 + a)) ∧ xw' (rc * 8 + a) = (if iW (t * 8 + a) = 0 then 0 else tw (t * 8 + a))) ∧ (∀ a, a < wd → cl' a = nI (sm_cn yW a rc + (if a < i ∧ ¬ iW (t * 8 + a) = 0 then 1 else 0)) ∧ (∀ j, j < sm_cn yW a rc → ch' (a * 32 + j) = ch (a * 32 + j)) ∧ (a < i → ¬ iW (t * 8 + a) = 0 → ch' (a * 32 + sm_cn yW a rc) = nI rc))
theorem sm_AI_0 {t : Nat} (hC : sm_Cn wd rc yW ch cl) : sm_AI wd rc t 0 se tw iR iW yW xs xw ch xs xw ch cl := by
  refine ⟨fun j _ => ⟨rfl, rfl⟩, fun a ha => absurd ha (Nat.not_lt_zero a), fun a ha => ⟨?_, fun j _ => rfl, fun h => absurd h (Nat.not_lt_zero a)⟩⟩
  rw [if_neg (fun h => absurd h.1 (Nat.not_lt_zero a))]; exact (hC a ha).1
theorem sm_AI_z {t i : Nat} {xs' xw' ch' cl' : Nat → Int32} {v : Int32} (hi : i < wd) (I : sm_AI wd rc t i se tw iR iW yW xs xw ch xs' xw' ch' cl') (ev : v = (if iR (t * 8 + i) = 0 then 0 else se (t * 8 + i))) (z : iW (t * 8 + i) = 0) : sm_AI wd rc t (i + 1) se tw iR iW yW xs xw ch (upd xs' (rc * 8 + i) v) (upd xw' (rc * 8 + i) 0) ch' cl' := by
  refine ⟨fun j hj => ?_, fun a ha => ?_, fun a ha => ?_⟩
  · rw [sm_un (by omega), sm_un (by omega)]; exact I.1 j hj
  · rcases Nat.lt_or_ge a i with l | l
    · rw [sm_un (by omega), sm_un (by omega)]; exact I.2.1 a l
    · have : a = i := by omega
      subst this
      rw [sm_us, sm_us, if_pos z]; exact ⟨ev, rfl⟩
  · obtain ⟨k1, k2, k3⟩ := I.2.2 a ha
    refine ⟨?_, k2, fun h1 h2 => ?_⟩
    · rw [k1]
      by_cases h : a < i ∧ ¬ iW (t * 8 + a) = 0
      · rw [if_pos h, if_pos ⟨by omega, h.2⟩]
      · rw [if_neg h, if_neg]
        rintro ⟨h1, h2⟩
        have : a ≠ i := fun e => h2 (e ▸ z)
        exact h ⟨by omega, h2⟩
    · have : a ≠ i := fun e => h2 (e ▸ z)
      exact k3 (by omega) h2
theorem sm_AI_o {t i : Nat} {xs' xw' ch' cl' : Nat → Int32} {v : Int32} (hi : i < wd) (hr : rc < 32) (I : sm_AI wd rc t i se tw iR iW yW xs xw ch xs' xw' ch' cl') (ev : v = (if iR (t * 8 + i) = 0 then 0 else se (t * 8 + i))) (z : ¬ iW (t * 8 + i) = 0) : sm_AI wd rc t (i + 1) se tw iR iW yW xs xw ch (upd xs' (rc * 8 + i) v) (upd (upd xw' (rc * 8 + i) 0) (rc * 8 + i) (tw (t * 8 + i))) (upd ch' (i * 32 + sm_cn yW i rc) (nI rc)) (upd cl' i (nI (sm_cn yW i rc + 1))) := by
  rw [sm_uu]
  have hL : ∀ a, sm_cn yW a rc < 32 := fun a => by have := sm_cn_le yW a rc; omega
  refine ⟨fun j hj => ?_, fun a ha => ?_, fun a ha => ?_⟩
  · rw [sm_un (by omega), sm_un (by omega)]; exact I.1 j hj
  · rcases Nat.lt_or_ge a i with l | l
    · rw [sm_un (by omega), sm_un (by omega)]; exact I.2.1 a l
    · have : a = i := by omega
      subst this
      rw [sm_us, sm_us, if_neg z]; exact ⟨ev, rfl⟩
  · obtain ⟨k1, k2, k3⟩ := I.2.2 a ha
    have hLa := hL a
    have hLi := hL i
    by_cases e : a = i
    · subst e
      refine ⟨?_, fun j hj => ?_, fun h1 h2 => ?_⟩
      · rw [sm_us, if_pos ⟨by omega, z⟩]
      · rw [sm_un (by omega)]; exact k2 j hj
      · rw [sm_us]
    · refine ⟨?_, fun j hj => ?_, fun h1 h2 => ?_⟩
      · rw [sm_un e, k1]
        by_cases h : a < i ∧ ¬ iW (t * 8 + a) = 0
        · rw [if_pos h, if_pos ⟨by omega, h.2⟩]
        · rw [if_neg h, if_neg]
          rintro ⟨h1, h2⟩
          exact h ⟨by omega, h2⟩
      · rw [sm_un (by omega)]; exact k2 j hj
      · rw [sm_un (by omega)]; exact k3 (by omega) h2
theorem xa_139 {post : SX → Prop} {J : Int32 → (Nat → Int32) → (Nat → Int32) → (Nat → Int32) → (Nat → Int32) → (Nat → Int32) → (Nat → Int32) → (Nat → Int32) → (Nat → Int32) → (Nat → Int32) → (Nat → Int32) → (Nat → Int32) → (Nat → Int32) → (Nat → Int32) → (Nat → Int32) → (Nat → Int32) → (Nat → Int32) → (Nat → Int32) → (Nat → Int32) → (Nat → Int32) → (Nat → Int32) → (Nat → Int32) → (Nat → Int32) → (Nat → Int32) → (Nat → Int32) → (Nat → Int32) → (Nat → Int32) → (Nat → Int32) → (Nat → Int32) → (Nat → Int32) → (Nat → Int32) → Prop} {t i : Nat} {v : Int32} {xs' xw' ch' cl' : Nat → Int32} (ht : t < 4) (hw : wd ≤ 8) (hr : rc < 32) (hi : i < wd) (hM : sm_MK (wm t) (sm_rw iW t)) (I : sm_AI wd rc t i se tw iR iW yW xs xw ch xs' xw' ch' cl') (ev : v = (if iR (t * 8 + i) = 0 then 0 else se (t * 8 + i))) (hJ : ∀ xs' xw' ch' cl', sm_AI wd rc t (i + 1) se tw iR iW yW xs xw ch xs' xw' ch' cl' → J (nI (i + 1)) lw me bas ph ou st pt be re ta ld rm wm hm km bm se tw rT rS rB rP xR xW xs' xw' od po ch' cl') : wX_addRecord_139 post J (nI t) (nI rc) (nI i) (nI (rc * 8 + i)) (nI (t * 8 + i)) v (nI (rc * 8 + i)) (nI th) (nI wd) (nI rl) (nI kl) (nI nw) (nI (rc + 1)) lw me bas ph ou st pt be re ta ld rm wm hm km bm se tw rT rS rB rP xR xW xs' xw' od po ch' cl' := by
  unfold wX_addRecord_139
  have hL := sm_cn_le yW i rc
  refine sm_st (by omega) (by omega) (sm_st (by omega) (by omega) (And.intro (vp_in_nI ht (by omega)) ?_))
  rw [nI_clamp (n := t) (by omega)]
  refine xh_has (rc := rc + 1) hM (by omega) (fun z => ?_) (fun z => ?_)
  · exact br_t rfl (nm_r (nI_1 i) (hJ _ _ _ _ (sm_AI_z hi I ev z)))
  · have ec : cl' (nI i).toNatClampNeg = nI (sm_cn yW i rc) := by
      rw [nI_clamp (by omega), (I.2.2 i hi).1, if_neg (fun h => absurd h.1 (Nat.lt_irrefl _)), Nat.add_zero]
    refine br_f sm_10 (And.intro (vp_in_nI (by omega) (by omega)) (sm_sv (by omega) (by omega) (by rw [nI_clamp (by omega)]) (And.intro (vp_in_nI (by omega) (by omega)) ?_)))
    rw [ec]
    refine sm_si (sm_ix32 i _) (by omega) (by omega) rfl (And.intro (vp_in_nI (by omega) (by omega)) (sm_sv (by omega) (by omega) (nI_1 _) (nm_r (nI_1 i) (hJ _ _ _ _ ?_))))
    exact sm_AI_o hi hr I ev z
theorem xa_84 {post : SX → Prop} {t : Nat} (ht : t < 4) (hw : wd ≤ 8) (hr : rc < 32) (hM1 : sm_MK (rm t) (sm_rw iR t)) (hM : sm_MK (wm t) (sm_rw iW t)) (hP : ∀ d, d ≤ rc → rP d = nI (sm_tn (rP d)) ∧ sm_tn (rP d) ≤ 32) (O : sm_Od (sm_ky rP xW) rc od po) (hp : ∀ xs' xw' ch' cl' od' po', sm_AI wd rc t wd se tw iR iW yW xs xw ch xs' xw' ch' cl' → sm_Od (sm_ky rP xW) (rc + 1) od' po' → post (nI th, nI wd, nI rl, nI kl, nI nw, nI (rc + 1), lw, me, bas, ph, ou, st, pt, be, re, ta, ld, rm, wm, hm, km, bm, se, tw, rT, rS, rB, rP, xR, xW, xs', xw', od', po', ch', cl')) : ∀ (d i : Nat) (xs' xw' ch' cl' : Nat → Int32), i + d = wd → sm_AI wd rc t i se tw iR iW yW xs xw ch xs' xw' ch' cl' → wX_addRecord_84 post (nI t) (nI rc) (nI th) (nI wd) (nI rl) (nI kl) (nI nw) (nI (rc + 1)) (d + 1) (nI i) lw me bas ph ou st pt be re ta ld rm wm hm km bm se tw rT rS rB rP xR xW xs' xw' od po ch' cl' := by
  intro d
  induction d with
  | zero =>
    intro i xs' xw' ch' cl' hi I
    have : i = wd := by omega
    subst this
    refine br_t (nI_le (Nat.le_refl _) (by omega)) ?_
    exact xa_ins (rc := rc + 1) hr hP O fun od' po' O' => hp xs' xw' ch' cl' od' po' I O'
  | succ d ih =>
    intro i xs' xw' ch' cl' hi I
    refine br_f (nI_ge (by omega) (by omega)) (nm_r (sm_ix rc i) (nm_r (sm_ix t i) (And.intro (vp_in_nI ht (by omega)) ?_)))
    rw [nI_clamp (n := t) (by omega)]
    refine xh_has (rc := rc + 1) hM1 (by omega) (fun z => ?_) (fun z => ?_)
    · refine br_t rfl ?_
      exact xa_139 ht hw hr (by omega) hM I (if_pos z).symm fun xs' xw' ch' cl' I' => ih (i + 1) xs' xw' ch' cl' (by omega) I'
    · refine br_f sm_10 (And.intro (vp_in_nI (by omega) (by omega)) ?_)
      rw [nI_clamp (n := t * 8 + i) (by omega)]
      exact xa_139 ht hw hr (by omega) hM I (if_neg z).symm fun xs' xw' ch' cl' I' => ih (i + 1) xs' xw' ch' cl' (by omega) I'
theorem xa_add {post : SX → Prop} {t : Nat} (ht : t < 4) (hw : wd ≤ 8) (hr : rc < 32) (hM1 : sm_MK (rm t) (sm_rw iR t)) (hM : sm_MK (wm t) (sm_rw iW t)) (hC : sm_Cn wd rc yW ch cl) (hP : ∀ d, d < rc → rP d = nI (sm_tn (rP d)) ∧ sm_tn (rP d) ≤ 32) (hP2 : pt t = nI (sm_tn (pt t)) ∧ sm_tn (pt t) ≤ 32) (O : sm_Od (sm_ky rP xW) rc od po) (hp : ∀ xs' xw' ch' cl' od' po', sm_AI wd rc t wd se tw iR iW yW xs xw ch xs' xw' ch' cl' → sm_Od (sm_ky (upd rP rc (pt t)) (upd xW rc (wm t))) (rc + 1) od' po' → post (nI th, nI wd, nI rl, nI kl, nI nw, nI (rc + 1), lw, me, bas, ph, ou, st, pt, be, re, ta, ld, rm, wm, hm, km, bm, se, tw, upd rT rc (nI t), upd rS rc (st t), upd rB rc (be t), upd rP rc (pt t), upd xR rc (rm t), upd xW rc (wm t), xs', xw', od', po', ch', cl')) : wpX_addRecord post (nI th, nI wd, nI rl, nI kl, nI nw, nI rc, lw, me, bas, ph, ou, st, pt, be, re, ta, ld, rm, wm, hm, km, bm, se, tw, rT, rS, rB, rP, xR, xW, xs, xw, od, po, ch, cl) (nI t) := by
  unfold wpX_addRecord
  have e : (nI t).toNatClampNeg = t := nI_clamp (by omega)
  have hv : vp_in (nI t) 4 := vp_in_nI ht (by omega)
  refine nm_r (nI_1 rc) (sm_st hr (by omega) (And.intro hv (sm_sv hr (by omega) (by rw [e]) (And.intro hv (sm_sv hr (by omega) (by rw [e]) (And.intro hv (sm_sv hr (by omega) (by rw [e]) (And.intro hv (sm_sv hr (by omega) (by rw [e]) (And.intro hv (sm_sv hr (by omega) (by rw [e]) (Exists.intro (wd + 1) ?_))))))))))))
  have ky : ∀ c, c < rc → sm_ky (upd rP rc (pt t)) (upd xW rc (wm t)) c = sm_ky rP xW c := fun c hc => by
    unfold sm_ky
    rw [sm_un (by omega), sm_un (by omega)]
  have O' : sm_Od (sm_ky (upd rP rc (pt t)) (upd xW rc (wm t))) rc od po := by
    refine ⟨fun c hc => ?_, fun i hi => ?_⟩
    · rw [ky c hc, sm_rk_c rc ky]; exact O.1 c hc
    · obtain ⟨c, hc, e⟩ := O.2 i hi
      exact ⟨c, hc, by rw [ky c hc, sm_rk_c rc ky]; exact e⟩
  refine xa_84 ht hw hr hM1 hM (fun d hd' => ?_) O' hp wd 0 xs xw ch cl (by omega) (sm_AI_0 hC)
  rcases Nat.lt_or_ge d rc with l | l
  · rw [sm_un (by omega)]; exact hP d l
  · rw [show d = rc by omega, sm_us]; exact hP2
end
end
section
section
variable {th wd rl kl nw rc : Nat} {lw me bas ph ou st pt be re ta ld rm wm hm km bm se tw rT rS rB rP xR xW xs xw od po ch cl hd iR ck iW bk yR ys yW yw : Nat → Int32}
/-! the cells of a new record, reference -/
def sm_BI (rc t i : Nat) (se tw iR iW yR ys yW yw yR' ys' yW' yw' : Nat → Int32) : Prop :=
  (∀ j, j < rc * 8 → yR' j = yR j ∧ ys' j = ys j ∧ yW' j = yW j ∧ yw' j = yw j) ∧ (∀ a, a < i → yR' (rc * 8 + a) = iR (t * 8 + a) ∧ ys' (rc * 8 + a) = se (t * 8 + a) ∧ yW' (rc * 8 + a) = iW (t * 8 + a) ∧ yw' (rc * 8 + a) = tw (t * 8 + a))
theorem sm_nb {x : Int32} (h : x = 0 ∨ x = 1) : vp_nar .boolean x = x := by
  rcases h with rfl | rfl
  · exact sm_vb0
  · exact sm_vb1
theorem ya_57 {post : SY → Prop} {t : Nat} (ht : t < 4) (hr : rc < 32) (h01 : ∀ a, a < 8 → (iR (t * 8 + a) = 0 ∨ iR (t * 8 + a) = 1) ∧ (iW (t * 8 + a) = 0 ∨ iW (t * 8 + a) = 1)) (hp : ∀ yR' ys' yW' yw', sm_BI rc t 8 se tw iR iW yR ys yW yw yR' ys' yW' yw' → post (nI th, nI wd, nI rl, nI kl, nI nw, nI (rc + 1), bas, hd, ph, upd ou t 1, st, pt, be, re, ta, iR, se, ck, iW, tw, bk, rT, rS, rB, rP, yR', ys', yW', yw')) : ∀ (d i : Nat) (yR' ys' yW' yw' : Nat → Int32), i + d = 8 → sm_BI rc t i se tw iR iW yR ys yW yw yR' ys' yW' yw' → wY_addRecord_57 post (nI t) (nI th) (nI wd) (nI rl) (nI kl) (nI nw) (nI rc) (d + 1) (nI i) bas hd ph ou st pt be re ta iR se ck iW tw bk rT rS rB rP yR' ys' yW' yw' := by
  intro d
  induction d with
  | zero =>
    intro i yR' ys' yW' yw' hi I
    have : i = 8 := by omega
    subst this
    exact br_t (by decide) (nm_r (nI_1 rc) (sm_st ht (by omega) (hp _ _ _ _ I)))
  | succ d ih =>
    intro i yR' ys' yW' yw' hi I
    have e1 : (nI t * 8 + nI i).toNatClampNeg = t * 8 + i := sm_cl (sm_ix t i) (by omega)
    have hv : vp_in (nI t * 8 + nI i) 32 := sm_in (sm_ix t i) (by omega) (by omega)
    have h := h01 i (by omega)
    refine br_f (nI_ge (b := 8) (by omega) (by omega)) ?_
    rw [e1]
    refine And.intro hv (sm_si (sm_ix rc i) (by omega) (by omega) (sm_nb h.1) (And.intro hv (sm_si (sm_ix rc i) (by omega) (by omega) rfl (And.intro hv (sm_si (sm_ix rc i) (by omega) (by omega) (sm_nb h.2) (And.intro hv (sm_si (sm_ix rc i) (by omega) (by omega) rfl (nm_r (nI_1 i) (ih (i + 1) _ _ _ _ (by omega) ⟨fun j hj => ?_, fun a ha => ?_⟩)))))))))
    · rw [sm_un (by omega), sm_un (by omega), sm_un (by omega), sm_un (by omega)]; exact I.1 j hj
    · rcases Nat.lt_or_ge a i with l | l
      · rw [sm_un (by omega), sm_un (by omega), sm_un (by omega), sm_un (by omega)]; exact I.2 a l
      · rw [show a = i by omega, sm_us, sm_us, sm_us, sm_us]; exact ⟨rfl, rfl, rfl, rfl⟩
theorem ya_add {post : SY → Prop} {t : Nat} (ht : t < 4) (hr : rc < 32) (h01 : ∀ a, a < 8 → (iR (t * 8 + a) = 0 ∨ iR (t * 8 + a) = 1) ∧ (iW (t * 8 + a) = 0 ∨ iW (t * 8 + a) = 1)) (hp : ∀ yR' ys' yW' yw', sm_BI rc t 8 se tw iR iW yR ys yW yw yR' ys' yW' yw' → post (nI th, nI wd, nI rl, nI kl, nI nw, nI (rc + 1), bas, hd, ph, upd ou t 1, st, pt, be, re, ta, iR, se, ck, iW, tw, bk, upd rT rc (nI t), upd rS rc (st t), upd rB rc (be t), upd rP rc (pt t), yR', ys', yW', yw')) : wpY_addRecord post (nI th, nI wd, nI rl, nI kl, nI nw, nI rc, bas, hd, ph, ou, st, pt, be, re, ta, iR, se, ck, iW, tw, bk, rT, rS, rB, rP, yR, ys, yW, yw) (nI t) := by
  unfold wpY_addRecord
  have e : (nI t).toNatClampNeg = t := nI_clamp (by omega)
  have hv : vp_in (nI t) 4 := vp_in_nI ht (by omega)
  refine sm_st hr (by omega) (And.intro hv (sm_sv hr (by omega) (by rw [e]) (And.intro hv (sm_sv hr (by omega) (by rw [e]) (And.intro hv (sm_sv hr (by omega) (by rw [e]) (Exists.intro 9 ?_)))))))
  exact ya_57 ht hr h01 hp 8 0 yR ys yW yw (by omega) ⟨fun j _ => ⟨rfl, rfl, rfl, rfl⟩, fun a ha => absurd ha (Nat.not_lt_zero a)⟩
theorem sm_FR_add {t : Nat} {xs' xw' od' po' ch' cl' yR' ys' yW' yw' : Nat → Int32} (hw : wd ≤ 8) (hr : rc < 32) (F : sm_FR wd nw rc rP xR xW xs xw od po ch cl yR ys yW yw) (hM1 : sm_MK (rm t) (sm_rw iR t)) (hM : sm_MK (wm t) (sm_rw iW t)) (hz : ∀ a, wd ≤ a → a < 8 → iR (t * 8 + a) = 0 ∧ iW (t * 8 + a) = 0) (A : sm_AI wd rc t wd se tw iR iW yW xs xw ch xs' xw' ch' cl') (B : sm_BI rc t 8 se tw iR iW yR ys yW yw yR' ys' yW' yw') (O : sm_Od (sm_ky (upd rP rc (pt t)) (upd xW rc (wm t))) (rc + 1) od' po') (hp1 : pt t = nI (sm_tn (pt t))) (hp2 : sm_tn (pt t) ≤ nw) (hp3 : ¬ wm t = 0 → 1 ≤ sm_tn (pt t) ∧ ∀ c, c < rc → ¬ xW c = 0 → sm_tn (rP c) ≠ sm_tn (pt t)) (hp4 : ∀ a, a < wd → ¬ iW (t * 8 + a) = 0 → ∀ c, c < rc → ¬ yW (c * 8 + a) = 0 → sm_tn (rP c) < sm_tn (pt t)) : sm_FR wd nw (rc + 1) (upd rP rc (pt t)) (upd xR rc (rm t)) (upd xW rc (wm t)) xs' xw' od' po' ch' cl' yR' ys' yW' yw' := by
  obtain ⟨R, C, Q, _⟩ := F
  have low : ∀ c, c < rc → ∀ a, a < 8 → c * 8 + a < rc * 8 := fun c hc a ha => by omega
  have eW : ∀ c, c < rc → ∀ a, a < 8 → yW' (c * 8 + a) = yW (c * 8 + a) := fun c hc a ha => (B.1 _ (low c hc a ha)).2.2.1
  have eN : ∀ a, a < 8 → yW' (rc * 8 + a) = iW (t * 8 + a) := fun a ha => (B.2 a ha).2.2.1
  refine ⟨fun c hc => ?_, fun a ha => ?_, ⟨fun c hc => ?_, fun c d hc hd' z1 z2 e => ?_, fun a ha c d hcd hd' z1 z2 => ?_⟩, O⟩
  · rcases Nat.lt_or_ge c rc with l | l
    · obtain ⟨r1, r2, r3, r4⟩ := R c l
      rw [sm_un (by omega), sm_un (by omega)]
      refine ⟨sm_MKc r1 fun i hi => ?_, sm_MKc r2 fun i hi => ?_, fun a h1 h2 => ?_, fun a ha => ?_⟩
      · unfold sm_rw; rw [(B.1 _ (low c l i hi)).1]
      · unfold sm_rw; rw [eW c l i hi]
      · rw [(B.1 _ (low c l a h2)).1, eW c l a h2]; exact r3 a h1 h2
      · have b := B.1 _ (low c l a (by omega))
        have a' := A.1 _ (low c l a (by omega))
        rw [b.1, b.2.1, b.2.2.1, b.2.2.2, a'.1, a'.2]; exact r4 a ha
    · have : c = rc := by omega
      subst this
      rw [sm_us, sm_us]
      refine ⟨sm_MKc hM1 fun i hi => ?_, sm_MKc hM fun i hi => ?_, fun a h1 h2 => ?_, fun a ha => ?_⟩
      · unfold sm_rw; rw [(B.2 i hi).1]
      · unfold sm_rw; rw [eN i hi]
      · rw [(B.2 a h2).1, eN a h2]; exact hz a h1 h2
      · have b := B.2 a (by omega)
        have a' := A.2.1 a ha
        rw [b.1, b.2.1, b.2.2.1, b.2.2.2]; exact a'
  · obtain ⟨k1, k2, k3⟩ := A.2.2 a ha
    have ec : ∀ n, n ≤ rc → sm_cn yW' a n = sm_cn yW a n := fun n hn => sm_cn_c n fun c hc => eW c (by omega) a (by omega)
    refine ⟨?_, fun c hc z => ?_⟩
    · rw [k1, sm_cn_s, ec rc (Nat.le_refl _), eN a (by omega)]
      by_cases z : iW (t * 8 + a) = 0
      · rw [if_pos z, if_neg (fun h => h.2 z)]
      · rw [if_neg z, if_pos ⟨ha, z⟩]
    · rcases Nat.lt_or_ge c rc with l | l
      · rw [eW c l a (by omega)] at z
        rw [ec c (by omega), k2 _ (sm_cn_lt l z)]; exact (C a ha).2 c l z
      · have : c = rc := by omega
        subst this
        rw [eN a (by omega)] at z
        rw [ec c (Nat.le_refl _)]; exact k3 ha z
  · rcases Nat.lt_or_ge c rc with l | l
    · rw [sm_un (by omega), sm_un (by omega)]; exact Q.1 c l
    · have : c = rc := by omega
      subst this
      rw [sm_us, sm_us]; exact ⟨hp1, hp2, fun z => (hp3 z).1⟩
  · rcases Nat.lt_or_ge c rc with l | l
    · rw [sm_un (by omega)] at z1 e
      rcases Nat.lt_or_ge d rc with m | m
      · rw [sm_un (by omega)] at z2
        rw [sm_un (by omega)] at e
        exact Q.2.1 c d l m z1 z2 e
      · have : d = rc := by omega
        subst this
        rw [sm_us] at z2 e
        exact absurd e ((hp3 z2).2 c l z1)
    · have : c = rc := by omega
      subst this
      rw [sm_us] at z1 e
      rcases Nat.lt_or_ge d c with m | m
      · rw [sm_un (by omega)] at z2 e
        exact absurd e.symm ((hp3 z1).2 d m z2)
      · omega
  · have l : c < rc := by omega
    rw [eW c l a (by omega)] at z1
    rw [sm_un (j := c) (by omega)]
    rcases Nat.lt_or_ge d rc with m | m
    · rw [eW d m a (by omega)] at z2
      rw [sm_un (j := d) (by omega)]; exact Q.2.2 a ha c d hcd m z1 z2
    · have : d = rc := by omega
      subst this
      rw [eN a (by omega)] at z2
      rw [sm_us]; exact hp4 a ha z2 c l z1
theorem sm_S_add {t a : Nat} {yR' ys' yW' yw' : Nat → Int32} (ha : a < 8) (B : sm_BI rc t 8 se tw iR iW yR ys yW yw yR' ys' yW' yw') : sm_S (rc + 1) yW' (upd rP rc (pt t)) a = if iW (t * 8 + a) = 0 then sm_S rc yW rP a else sm_tn (pt t) := by
  have e : sm_sp yW' (upd rP rc (pt t)) a rc = sm_sp yW rP a rc := sm_sp_c rc (fun c hc => (B.1 _ (by omega)).2.2.1) (fun c hc => sm_un (by omega))
  show (if yW' (rc * 8 + a) = 0 then sm_sp yW' (upd rP rc (pt t)) a rc else sm_tn (upd rP rc (pt t) rc)) = _
  rw [e, (B.2 a ha).2.2.1, sm_us]
  rfl
theorem sm_V_add {t a : Nat} {yR' ys' yW' yw' : Nat → Int32} (ha : a < 8) (B : sm_BI rc t 8 se tw iR iW yR ys yW yw yR' ys' yW' yw') : sm_V (rc + 1) bas yW' yw' a = if iW (t * 8 + a) = 0 then sm_V rc bas yW yw a else tw (t * 8 + a) := by
  have e : sm_lv bas yW' yw' a rc = sm_lv bas yW yw a rc := sm_lv_c rc (fun c hc => (B.1 _ (by omega)).2.2.1) (fun c hc => (B.1 _ (by omega)).2.2.2)
  show (if yW' (rc * 8 + a) = 0 then sm_lv bas yW' yw' a rc else yw' (rc * 8 + a)) = _
  rw [e, (B.2 a ha).2.2.1, (B.2 a ha).2.2.2]
  rfl
end
end
section
section
def i_Rel (_ : Nat) (u : SX) (v : SY) : Prop := ∃ (th wd rl kl nw rc : Nat) (lw me bas ph ou st pt be re ta ld rm wm hm km bm se tw rT rS rB rP xR xW xs xw od po ch cl hd iR ck iW bk yR ys yW yw : Nat → Int32), u = (nI th, nI wd, nI rl, nI kl, nI nw, nI rc, lw, me, bas, ph, ou, st, pt, be, re, ta, ld, rm, wm, hm, km, bm, se, tw, rT, rS, rB, rP, xR, xW, xs, xw, od, po, ch, cl) ∧ v = (nI th, nI wd, nI rl, nI kl, nI nw, nI rc, bas, hd, ph, ou, st, pt, be, re, ta, iR, se, ck, iW, tw, bk, rT, rS, rB, rP, yR, ys, yW, yw) ∧ sm_F th wd rl kl nw rc lw me bas ph ou st pt be re ta ld rm wm hm km bm se tw rT rS rB rP xR xW xs xw od po ch cl hd iR ck iW bk yR ys yW yw
theorem i_up {k : Nat} {u : SX} {v : SY} (h : i_Rel k u v) : i_Rel (k + 4) u v := h
theorem zz_el {k : Nat} {u : SX} {v : SY} {P : SX → SY → Prop} (h : ∀ (th wd rl kl nw rc : Nat) (lw me bas ph ou st pt be re ta ld rm wm hm km bm se tw rT rS rB rP xR xW xs xw od po ch cl hd iR ck iW bk yR ys yW yw : Nat → Int32), sm_F th wd rl kl nw rc lw me bas ph ou st pt be re ta ld rm wm hm km bm se tw rT rS rB rP xR xW xs xw od po ch cl hd iR ck iW bk yR ys yW yw → P (nI th, nI wd, nI rl, nI kl, nI nw, nI rc, lw, me, bas, ph, ou, st, pt, be, re, ta, ld, rm, wm, hm, km, bm, se, tw, rT, rS, rB, rP, xR, xW, xs, xw, od, po, ch, cl) (nI th, nI wd, nI rl, nI kl, nI nw, nI rc, bas, hd, ph, ou, st, pt, be, re, ta, iR, se, ck, iW, tw, bk, rT, rS, rB, rP, yR, ys, yW, yw)) (I : i_Rel k u v) : P u v :=
  Exists.elim I fun th I => Exists.elim I fun wd I => Exists.elim I fun rl I => Exists.elim I fun kl I => Exists.elim I fun nw I => Exists.elim I fun rc I => Exists.elim I fun lw I => Exists.elim I fun me I => Exists.elim I fun bas I => Exists.elim I fun ph I => Exists.elim I fun ou I => Exists.elim I fun st I => Exists.elim I fun pt I => Exists.elim I fun be I => Exists.elim I fun re I => Exists.elim I fun ta I => Exists.elim I fun ld I => Exists.elim I fun rm I => Exists.elim I fun wm I => Exists.elim I fun hm I => Exists.elim I fun km I => Exists.elim I fun bm I => Exists.elim I fun se I => Exists.elim I fun tw I => Exists.elim I fun rT I => Exists.elim I fun rS I => Exists.elim I fun rB I => Exists.elim I fun rP I => Exists.elim I fun xR I => Exists.elim I fun xW I => Exists.elim I fun xs I => Exists.elim I fun xw I => Exists.elim I fun od I => Exists.elim I fun po I => Exists.elim I fun ch I => Exists.elim I fun cl I => Exists.elim I fun hd I => Exists.elim I fun iR I => Exists.elim I fun ck I => Exists.elim I fun iW I => Exists.elim I fun bk I => Exists.elim I fun yR I => Exists.elim I fun ys I => Exists.elim I fun yW I => Exists.elim I fun yw I =>  by
    obtain ⟨hu, hv, F⟩ := I
    subst hu
    subst hv
    exact h th wd rl kl nw rc lw me bas ph ou st pt be re ta ld rm wm hm km bm se tw rT rS rB rP xR xW xs xw od po ch cl hd iR ck iW bk yR ys yW yw F
theorem zz_in {k : Nat} {th wd rl kl nw rc : Nat} {lw me bas ph ou st pt be re ta ld rm wm hm km bm se tw rT rS rB rP xR xW xs xw od po ch cl hd iR ck iW bk yR ys yW yw : Nat → Int32} (F : sm_F th wd rl kl nw rc lw me bas ph ou st pt be re ta ld rm wm hm km bm se tw rT rS rB rP xR xW xs xw od po ch cl hd iR ck iW bk yR ys yW yw) : i_Rel k (nI th, nI wd, nI rl, nI kl, nI nw, nI rc, lw, me, bas, ph, ou, st, pt, be, re, ta, ld, rm, wm, hm, km, bm, se, tw, rT, rS, rB, rP, xR, xW, xs, xw, od, po, ch, cl) (nI th, nI wd, nI rl, nI kl, nI nw, nI rc, bas, hd, ph, ou, st, pt, be, re, ta, iR, se, ck, iW, tw, bk, rT, rS, rB, rP, yR, ys, yW, yw) := ⟨th, wd, rl, kl, nw, rc, lw, me, bas, ph, ou, st, pt, be, re, ta, ld, rm, wm, hm, km, bm, se, tw, rT, rS, rB, rP, xR, xW, xs, xw, od, po, ch, cl, hd, iR, ck, iW, bk, yR, ys, yW, yw, rfl, rfl, F⟩
end
end
section
section
variable {th wd rl kl nw rc : Nat} {lw me bas ph ou st pt be re ta ld rm wm hm km bm se tw rT rS rB rP xR xW xs xw od po ch cl hd iR ck iW bk yR ys yW yw : Nat → Int32}
theorem sm_hP (hn : nw ≤ 32) (Q : sm_Pt wd nw rc rP xW yW) : ∀ c, c < rc → rP c = nI (sm_tn (rP c)) ∧ sm_tn (rP c) ≤ 32 := fun c hc => ⟨(Q.1 c hc).1, Nat.le_trans (Q.1 c hc).2.1 hn⟩
theorem sm_hv (R : sm_Rk wd rc xR xW xs xw yR ys yW yw) : ∀ c, c < rc → ∀ a, a < wd → ¬ yW (c * 8 + a) = 0 → xw (c * 8 + a) = yw (c * 8 + a) := fun c hc a ha z => by
  rw [((R c hc).2.2.2 a ha).2, if_neg z]
theorem gg_clock {q : Prop} (F : sm_F th wd rl kl nw rc lw me bas ph ou st pt be re ta ld rm wm hm km bm se tw rT rS rB rP xR xW xs xw od po ch cl hd iR ck iW bk yR ys yW yw) (hq : q) : wpX_clock (fun r => wpY_clock (fun r' => r' = r ∧ q) (nI th, nI wd, nI rl, nI kl, nI nw, nI rc, bas, hd, ph, ou, st, pt, be, re, ta, iR, se, ck, iW, tw, bk, rT, rS, rB, rP, yR, ys, yW, yw)) (nI th, nI wd, nI rl, nI kl, nI nw, nI rc, lw, me, bas, ph, ou, st, pt, be, re, ta, ld, rm, wm, hm, km, bm, se, tw, rT, rS, rB, rP, xR, xW, xs, xw, od, po, ch, cl) := And.intro rfl hq
theorem gg_records {q : Prop} (F : sm_F th wd rl kl nw rc lw me bas ph ou st pt be re ta ld rm wm hm km bm se tw rT rS rB rP xR xW xs xw od po ch cl hd iR ck iW bk yR ys yW yw) (hq : q) : wpX_records (fun r => wpY_records (fun r' => r' = r ∧ q) (nI th, nI wd, nI rl, nI kl, nI nw, nI rc, bas, hd, ph, ou, st, pt, be, re, ta, iR, se, ck, iW, tw, bk, rT, rS, rB, rP, yR, ys, yW, yw)) (nI th, nI wd, nI rl, nI kl, nI nw, nI rc, lw, me, bas, ph, ou, st, pt, be, re, ta, ld, rm, wm, hm, km, bm, se, tw, rT, rS, rB, rP, xR, xW, xs, xw, od, po, ch, cl) := And.intro rfl hq
theorem gg_holder {q : Prop} (F : sm_F th wd rl kl nw rc lw me bas ph ou st pt be re ta ld rm wm hm km bm se tw rT rS rB rP xR xW xs xw od po ch cl hd iR ck iW bk yR ys yW yw) (hq : q) (v1 : Int32) : wpX_holder (fun r => wpY_holder (fun r' => r' = r ∧ q) (nI th, nI wd, nI rl, nI kl, nI nw, nI rc, bas, hd, ph, ou, st, pt, be, re, ta, iR, se, ck, iW, tw, bk, rT, rS, rB, rP, yR, ys, yW, yw) v1) (nI th, nI wd, nI rl, nI kl, nI nw, nI rc, lw, me, bas, ph, ou, st, pt, be, re, ta, ld, rm, wm, hm, km, bm, se, tw, rT, rS, rB, rP, xR, xW, xs, xw, od, po, ch, cl) v1 := by
  obtain ⟨⟨n1, n2, n3, n4, n5, n6, n7, n8, n9, n10⟩, ⟨R, C, Q, O⟩, T, H, Ww, Pp, Dd⟩ := F
  unfold wpX_holder
  rcases pk_ix v1 (n := wd) (by omega) with h | h | ⟨a, ha, rfl⟩
  · refine xh_W0 (Or.inl h) (br_t rfl ?_)
    unfold wpY_holder
    exact yh_W0 (Or.inl h) (br_f sm_10 (And.intro rfl hq))
  · refine xh_W0 (Or.inr h) (br_t rfl ?_)
    unfold wpY_holder
    exact yh_W0 (Or.inr h) (br_f sm_10 (And.intro rfl hq))
  · obtain ⟨v, o, w1, w2, w3, w4, w5, w6, w7⟩ := Ww a ha
    refine xh_W ha n4 (br_f sm_10 ?_)
    refine xh_own (by omega) w3 w1 w2 ?_
    unfold wpY_holder
    refine yh_W ha n4 (br_t rfl (And.intro (vp_in_nI (by omega) (by omega)) ?_))
    rw [nI_clamp (by omega)]
    exact And.intro w4 hq
theorem sm_free {a : Nat} (H : sm_HH th wd ph hm hd iW) (h4 : th ≤ 4) (ha : a < 8) : hd a = -1 ∨ ∃ s, s < th ∧ a < wd ∧ hd a = nI s ∧ ¬ hd a < 0 := by
  rcases H.1 a ha with h | ⟨s, h1, h2, h3⟩
  · exact Or.inl h
  · exact Or.inr ⟨s, h1, h2, h3, by rw [h3]; exact nI_pos (by omega)⟩
theorem sm_o0 {o : Nat} (ho : o ≤ 4) (h : (-1 : Int32) = nI o - 1) : o = 0 := by
  have : o = 0 ∨ o = 1 ∨ o = 2 ∨ o = 3 ∨ o = 4 := by omega
  rcases this with rfl | rfl | rfl | rfl | rfl
  · rfl
  all_goals exact absurd h (by decide)
theorem sm_os {o s : Nat} (ho : o ≤ 4) (hs : s < 4) (h : nI s = nI o - 1) : o = s + 1 := by
  cases o with
  | zero => exact absurd (h.trans (by decide : nI 0 - 1 = (-1 : Int32))) (sm_ne1 (by omega))
  | succ o =>
    rw [nI_pred] at h
    rw [sm_im h (by omega) (by omega)]
theorem sm_h1 (h1 : ∀ c, c < rc → ¬ xW c = 0 → 1 ≤ sm_tn (rP c)) (hw : wd ≤ 8) (R : sm_Rk wd rc xR xW xs xw yR ys yW yw) {a : Nat} (ha : a < wd) : ∀ c, c < rc → ¬ yW (c * 8 + a) = 0 → 1 ≤ sm_tn (rP c) := fun c hc z => h1 c hc (sm_wne hw ha hc R z)
theorem gg_stamp {q : Prop} (F : sm_F th wd rl kl nw rc lw me bas ph ou st pt be re ta ld rm wm hm km bm se tw rT rS rB rP xR xW xs xw od po ch cl hd iR ck iW bk yR ys yW yw) (hq : q) (v1 : Int32) : wpX_stamp (fun r => wpY_stamp (fun r' => r' = r ∧ q) (nI th, nI wd, nI rl, nI kl, nI nw, nI rc, bas, hd, ph, ou, st, pt, be, re, ta, iR, se, ck, iW, tw, bk, rT, rS, rB, rP, yR, ys, yW, yw) v1) (nI th, nI wd, nI rl, nI kl, nI nw, nI rc, lw, me, bas, ph, ou, st, pt, be, re, ta, ld, rm, wm, hm, km, bm, se, tw, rT, rS, rB, rP, xR, xW, xs, xw, od, po, ch, cl) v1 := by
  obtain ⟨⟨n1, n2, n3, n4, n5, n6, n7, n8, n9, n10⟩, ⟨R, C, Q, O⟩, T, H, Ww, Pp, Dd⟩ := F
  unfold wpX_stamp
  rcases pk_ix v1 (n := wd) (by omega) with h | h | ⟨a, ha, rfl⟩
  · refine xh_W0 (Or.inl h) (br_t rfl ?_)
    unfold wpY_stamp
    exact yh_W0 (Or.inl h) (br_f sm_10 (And.intro rfl hq))
  · refine xh_W0 (Or.inr h) (br_t rfl ?_)
    unfold wpY_stamp
    exact yh_W0 (Or.inr h) (br_f sm_10 (And.intro rfl hq))
  · obtain ⟨v, o, w1, w2, w3, w4, w5, w6, w7⟩ := Ww a ha
    refine xh_W ha n4 (br_f sm_10 ?_)
    refine xh_own (by omega) w3 w1 w2 ?_
    have ea : (nI a).toNatClampNeg = a := nI_clamp (by omega)
    rw [← w4]
    rcases sm_free H n2 (by omega : a < 8) with h | ⟨s, h1, h2, h3, h4⟩
    · have ev : v = sm_S rc yW rP a := w5 fun s hs e => absurd (e.symm.trans h) (sm_ne1 (by omega))
      refine br_t (by rw [h]; exact sm_m1) (xh_ver (by omega) w3 w1 w2 ?_)
      unfold wpY_stamp
      refine yh_W ha n4 (br_t rfl (And.intro (vp_in_nI (by omega) (by omega)) (br_t (by rw [ea, h]; exact sm_m1) ?_)))
      refine yh_stamp (by omega) (by omega) (sm_hP (by omega) Q) (sm_h1 (fun c hc => (Q.1 c hc).2.2) n4 R ha) (Q.2.2 a ha) ?_
      exact And.intro (by rw [ev]; rfl) hq
    · refine br_f h4 ?_
      unfold wpY_stamp
      exact yh_W ha n4 (br_t rfl (And.intro (vp_in_nI (by omega) (by omega)) (br_f (by rw [ea]; exact h4) (And.intro rfl hq))))
theorem gg_valueAt {q : Prop} (F : sm_F th wd rl kl nw rc lw me bas ph ou st pt be re ta ld rm wm hm km bm se tw rT rS rB rP xR xW xs xw od po ch cl hd iR ck iW bk yR ys yW yw) (hq : q) (v1 v2 : Int32) : wpX_valueAt (fun r => wpY_valueAt (fun r' => r' = r ∧ q) (nI th, nI wd, nI rl, nI kl, nI nw, nI rc, bas, hd, ph, ou, st, pt, be, re, ta, iR, se, ck, iW, tw, bk, rT, rS, rB, rP, yR, ys, yW, yw) v1 v2) (nI th, nI wd, nI rl, nI kl, nI nw, nI rc, lw, me, bas, ph, ou, st, pt, be, re, ta, ld, rm, wm, hm, km, bm, se, tw, rT, rS, rB, rP, xR, xW, xs, xw, od, po, ch, cl) v1 v2 := by
  obtain ⟨⟨n1, n2, n3, n4, n5, n6, n7, n8, n9, n10⟩, ⟨R, C, Q, O⟩, T, H, Ww, Pp, Dd⟩ := F
  unfold wpX_valueAt wpY_valueAt
  rcases pk_ix v1 (n := nw + 1) (by omega) with h | h | ⟨k, hk, rfl⟩
  · exact br_t h (br_t h (And.intro rfl hq))
  · have h0 : ¬ v1 < 0 := fun z => by
      have := Int32.lt_of_le_of_lt h z
      exact nI_pos (by omega) this
    have hl : nI nw < v1 := Int32.lt_of_lt_of_le (nI_lt (by omega) (by omega)) h
    exact br_f h0 (br_t hl (br_f h0 (br_t hl (And.intro rfl hq))))
  · have h0 : ¬ nI k < 0 := nI_pos (by omega)
    have hl : ¬ nI nw < nI k := nI_nlt (by omega) (by omega)
    refine br_f h0 (br_f hl ?_)
    rcases pk_ix v2 (n := wd) (by omega) with h | h | ⟨a, ha, rfl⟩
    · exact xh_W0 (Or.inl h) (br_t rfl (br_f h0 (br_f hl (yh_W0 (Or.inl h) (br_f sm_10 (And.intro rfl hq))))))
    · exact xh_W0 (Or.inr h) (br_t rfl (br_f h0 (br_f hl (yh_W0 (Or.inr h) (br_f sm_10 (And.intro rfl hq))))))
    · refine xh_W ha n4 (br_f sm_10 ?_)
      refine xg_tv (yW := yW) (yw := yw) ha n4 (by omega) (by omega) C (sm_hP (by omega) Q) (Q.2.2 a ha) (fun c hc => sm_hv R c hc a ha) ?_
      refine br_f h0 (br_f hl (yh_W ha n4 (br_t rfl ?_)))
      exact yh_val (by omega) (by omega) (by omega) (sm_hP (by omega) Q) (Q.2.2 a ha) (And.intro rfl hq)
theorem gg_agrees {q : Prop} (F : sm_F th wd rl kl nw rc lw me bas ph ou st pt be re ta ld rm wm hm km bm se tw rT rS rB rP xR xW xs xw od po ch cl hd iR ck iW bk yR ys yW yw) (hq : q) (v1 v2 : Int32) : wpX_agrees (fun r => wpY_agrees (fun r' => r' = r ∧ q) (nI th, nI wd, nI rl, nI kl, nI nw, nI rc, bas, hd, ph, ou, st, pt, be, re, ta, iR, se, ck, iW, tw, bk, rT, rS, rB, rP, yR, ys, yW, yw) v1 v2) (nI th, nI wd, nI rl, nI kl, nI nw, nI rc, lw, me, bas, ph, ou, st, pt, be, re, ta, ld, rm, wm, hm, km, bm, se, tw, rT, rS, rB, rP, xR, xW, xs, xw, od, po, ch, cl) v1 v2 := by
  obtain ⟨⟨n1, n2, n3, n4, n5, n6, n7, n8, n9, n10⟩, ⟨R, C, Q, O⟩, T, H, Ww, Pp, Dd⟩ := F
  unfold wpX_agrees
  rcases pk_ix v1 (n := th) (by omega) with h | h | ⟨t, ht, rfl⟩
  · refine xh_T0 (Or.inl h) (br_t rfl ?_)
    unfold wpY_agrees
    exact yh_T0 (Or.inl h) (br_f sm_10 (And.intro rfl hq))
  · refine xh_T0 (Or.inr h) (br_t rfl ?_)
    unfold wpY_agrees
    exact yh_T0 (Or.inr h) (br_f sm_10 (And.intro rfl hq))
  · refine xh_T ht n2 (br_f sm_10 ?_)
    rcases pk_ix v2 (n := nw + 1) (by omega) with h | h | ⟨k, hk, rfl⟩
    · refine br_t h ?_
      unfold wpY_agrees
      exact yh_T ht n2 (br_t rfl (br_t h (And.intro rfl hq)))
    · have h0 : ¬ v2 < 0 := fun z => by
        have := Int32.lt_of_le_of_lt h z
        exact nI_pos (by omega) this
      have hl : ¬ v2 ≤ nI nw := Int32.not_le.mpr (Int32.lt_of_lt_of_le (nI_lt (by omega) (by omega)) h)
      refine br_f h0 (br_f hl ?_)
      unfold wpY_agrees
      exact yh_T ht n2 (br_t rfl (br_f h0 (br_f hl (And.intro rfl hq))))
    · refine br_f (nI_pos (by omega)) (br_t (nI_le (by omega) (by omega)) (Exists.intro (wd + 1) ?_))
      refine xg_ag_l (yW := yW) (yw := yw) (by omega) n4 (by omega) (by omega) (T t ht).2.2.2.2.1 C (sm_hP (by omega) Q) Q.2.2 (sm_hv R) wd 0 (by omega) (fun g => ?_) (fun g => ?_)
      · exact yg_ag ht n2 n4 (by omega) (by omega) (by omega) (sm_hP (by omega) Q) Q.2.2 (fun _ => And.intro rfl hq) (fun g' => absurd g g')
      · exact yg_ag ht n2 n4 (by omega) (by omega) (by omega) (sm_hP (by omega) Q) Q.2.2 (fun g' => absurd g' g) (fun _ => And.intro rfl hq)
theorem gg_firstFit {q : Prop} (F : sm_F th wd rl kl nw rc lw me bas ph ou st pt be re ta ld rm wm hm km bm se tw rT rS rB rP xR xW xs xw od po ch cl hd iR ck iW bk yR ys yW yw) (hq : q) (v1 : Int32) : wpX_firstFit (fun r => wpY_firstFit (fun r' => r' = r ∧ q) (nI th, nI wd, nI rl, nI kl, nI nw, nI rc, bas, hd, ph, ou, st, pt, be, re, ta, iR, se, ck, iW, tw, bk, rT, rS, rB, rP, yR, ys, yW, yw) v1) (nI th, nI wd, nI rl, nI kl, nI nw, nI rc, lw, me, bas, ph, ou, st, pt, be, re, ta, ld, rm, wm, hm, km, bm, se, tw, rT, rS, rB, rP, xR, xW, xs, xw, od, po, ch, cl) v1 := by
  obtain ⟨⟨n1, n2, n3, n4, n5, n6, n7, n8, n9, n10⟩, ⟨R, C, Q, O⟩, T, H, Ww, Pp, Dd⟩ := F
  unfold wpX_firstFit
  rcases pk_ix v1 (n := th) (by omega) with h | h | ⟨t, ht, rfl⟩
  · refine xh_T0 (Or.inl h) (br_t rfl ?_)
    unfold wpY_firstFit
    exact yh_T0 (Or.inl h) (br_f sm_10 (And.intro rfl hq))
  · refine xh_T0 (Or.inr h) (br_t rfl ?_)
    unfold wpY_firstFit
    exact yh_T0 (Or.inr h) (br_f sm_10 (And.intro rfl hq))
  · refine xh_T ht n2 (br_f sm_10 ?_)
    refine xg_fit (iR := iR) (yW := yW) (yw := yw) (by omega) n4 (by omega) (by omega) (T t ht).2.2.2.2.1 C (fun c hc => ⟨(Q.1 c hc).1, (Q.1 c hc).2.1⟩) Q.2.2 (sm_hv R) fun w hb => ?_
    have Y : ∀ post : Int32 → Prop, (∀ k, 0 ≤ k → k ≤ nw → sm_ag wd rc t k 0 bas se iR rP yW yw → (∀ j, 0 ≤ j → j < k → ¬ sm_ag wd rc t j 0 bas se iR rP yW yw) → post (nI k)) → ((∀ k, 0 ≤ k → k ≤ nw → ¬ sm_ag wd rc t k 0 bas se iR rP yW yw) → post (-1)) → wpY_firstFit post (nI th, nI wd, nI rl, nI kl, nI nw, nI rc, bas, hd, ph, ou, st, pt, be, re, ta, iR, se, ck, iW, tw, bk, rT, rS, rB, rP, yR, ys, yW, yw) (nI t) := fun post h1 h0 => by
      unfold wpY_firstFit
      exact yh_T ht n2 (br_t rfl (Exists.intro (nw + 1 + 1) (yg_ff_l ht n2 n4 (by omega) (by omega) (sm_hP (by omega) Q) Q.2.2 (nw + 1) 0 (by omega) h1 h0)))
    refine Exists.intro (nw + 1 + 1) (xg_ff_l (by omega) hb (nw + 1) 0 (by omega) (fun k g1 g2 g3 g4 => ?_) (fun g => ?_))
    · refine Y _ (fun j j1 j2 j3 j4 => ?_) (fun no => absurd g3 (no k g1 g2))
      have : j = k := by
        rcases Nat.lt_trichotomy j k with l | l | l
        · exact absurd j3 (g4 j j1 l)
        · exact l
        · exact absurd g3 (j4 k g1 l)
      exact And.intro (by rw [this]) hq
    · exact Y _ (fun j j1 j2 j3 j4 => absurd j3 (g j j1 j2)) (fun _ => And.intro rfl hq)
theorem gg_lastFit {q : Prop} (F : sm_F th wd rl kl nw rc lw me bas ph ou st pt be re ta ld rm wm hm km bm se tw rT rS rB rP xR xW xs xw od po ch cl hd iR ck iW bk yR ys yW yw) (hq : q) (v1 : Int32) : wpX_lastFit (fun r => wpY_lastFit (fun r' => r' = r ∧ q) (nI th, nI wd, nI rl, nI kl, nI nw, nI rc, bas, hd, ph, ou, st, pt, be, re, ta, iR, se, ck, iW, tw, bk, rT, rS, rB, rP, yR, ys, yW, yw) v1) (nI th, nI wd, nI rl, nI kl, nI nw, nI rc, lw, me, bas, ph, ou, st, pt, be, re, ta, ld, rm, wm, hm, km, bm, se, tw, rT, rS, rB, rP, xR, xW, xs, xw, od, po, ch, cl) v1 := by
  obtain ⟨⟨n1, n2, n3, n4, n5, n6, n7, n8, n9, n10⟩, ⟨R, C, Q, O⟩, T, H, Ww, Pp, Dd⟩ := F
  unfold wpX_lastFit
  rcases pk_ix v1 (n := th) (by omega) with h | h | ⟨t, ht, rfl⟩
  · refine xh_T0 (Or.inl h) (br_t rfl ?_)
    unfold wpY_lastFit
    exact yh_T0 (Or.inl h) (br_f sm_10 (And.intro rfl hq))
  · refine xh_T0 (Or.inr h) (br_t rfl ?_)
    unfold wpY_lastFit
    exact yh_T0 (Or.inr h) (br_f sm_10 (And.intro rfl hq))
  · refine xh_T ht n2 (br_f sm_10 ?_)
    refine xg_fit (iR := iR) (yW := yW) (yw := yw) (by omega) n4 (by omega) (by omega) (T t ht).2.2.2.2.1 C (fun c hc => ⟨(Q.1 c hc).1, (Q.1 c hc).2.1⟩) Q.2.2 (sm_hv R) fun w hb => ?_
    have Y : ∀ post : Int32 → Prop, (∀ k, k < nw + 1 → sm_ag wd rc t k 0 bas se iR rP yW yw → (∀ j, k < j → j < nw + 1 → ¬ sm_ag wd rc t j 0 bas se iR rP yW yw) → post (nI k)) → ((∀ k, k < nw + 1 → ¬ sm_ag wd rc t k 0 bas se iR rP yW yw) → post (-1)) → wpY_lastFit post (nI th, nI wd, nI rl, nI kl, nI nw, nI rc, bas, hd, ph, ou, st, pt, be, re, ta, iR, se, ck, iW, tw, bk, rT, rS, rB, rP, yR, ys, yW, yw) (nI t) := fun post h1 h0 => by
      unfold wpY_lastFit
      have k := yg_lf_l (th := th) (rl := rl) (kl := kl) (hd := hd) (ph := ph) (ou := ou) (st := st) (pt := pt) (be := be) (re := re) (ta := ta) (ck := ck) (iW := iW) (tw := tw) (bk := bk) (rT := rT) (rS := rS) (rB := rB) (yR := yR) (ys := ys) ht n2 n4 (by omega) (by omega) (sm_hP (by omega) Q) Q.2.2 (nw + 1) (Nat.le_refl _) h1 h0
      rw [nI_pred] at k
      exact yh_T ht n2 (br_t rfl (Exists.intro (nw + 1 + 1) k))
    have kx : ∀ post : Int32 → Prop, (∀ k, k < nw + 1 → sm_ag wd rc t k 0 bas se iR rP yW yw → (∀ j, k < j → j < nw + 1 → ¬ sm_ag wd rc t j 0 bas se iR rP yW yw) → post (nI k)) → ((∀ k, k < nw + 1 → ¬ sm_ag wd rc t k 0 bas se iR rP yW yw) → post (-1)) → wX_lastFit_22 post w (nI th) (nI wd) (nI rl) (nI kl) (nI nw) (nI rc) lw me bas ph ou st pt be re ta ld rm wm hm km bm se tw rT rS rB rP xR xW xs xw od po ch cl (nw + 1 + 1) (nI nw) := fun post h1 h0 => by
      have k := xg_lf_l (th := th) (wd := wd) (rl := rl) (kl := kl) (rc := rc) (lw := lw) (me := me) (bas := bas) (ph := ph) (ou := ou) (st := st) (pt := pt) (be := be) (re := re) (ta := ta) (ld := ld) (rm := rm) (wm := wm) (hm := hm) (km := km) (bm := bm) (se := se) (tw := tw) (rT := rT) (rS := rS) (rB := rB) (rP := rP) (xR := xR) (xW := xW) (xs := xs) (xw := xw) (od := od) (po := po) (ch := ch) (cl := cl) (by omega) hb (nw + 1) (Nat.le_refl _) h1 h0
      rw [nI_pred] at k
      exact k
    refine Exists.intro (nw + 1 + 1) (kx _ (fun k g2 g3 g4 => ?_) (fun g => ?_))
    · refine Y _ (fun j j2 j3 j4 => ?_) (fun no => absurd g3 (no k g2))
      have : j = k := by
        rcases Nat.lt_trichotomy j k with l | l | l
        · exact absurd g3 (j4 k l g2)
        · exact l
        · exact absurd j3 (g4 j l j2)
      exact And.intro (by rw [this]) hq
    · exact Y _ (fun j j2 j3 j4 => absurd j3 (g j j2)) (fun _ => And.intro rfl hq)
theorem gg_inOrder {q : Prop} (F : sm_F th wd rl kl nw rc lw me bas ph ou st pt be re ta ld rm wm hm km bm se tw rT rS rB rP xR xW xs xw od po ch cl hd iR ck iW bk yR ys yW yw) (hq : q) (v1 : Int32) : wpX_inOrder (fun r => wpY_inOrder (fun r' => r' = r ∧ q) (nI th, nI wd, nI rl, nI kl, nI nw, nI rc, bas, hd, ph, ou, st, pt, be, re, ta, iR, se, ck, iW, tw, bk, rT, rS, rB, rP, yR, ys, yW, yw) v1) (nI th, nI wd, nI rl, nI kl, nI nw, nI rc, lw, me, bas, ph, ou, st, pt, be, re, ta, ld, rm, wm, hm, km, bm, se, tw, rT, rS, rB, rP, xR, xW, xs, xw, od, po, ch, cl) v1 := by
  obtain ⟨⟨n1, n2, n3, n4, n5, n6, n7, n8, n9, n10⟩, ⟨R, C, Q, O⟩, T, H, Ww, Pp, Dd⟩ := F
  unfold wpX_inOrder
  rcases pk_ix v1 (n := rc) (by omega) with h | h | ⟨i, hi, rfl⟩
  · refine xh_R0 (Or.inl h) (br_t rfl ?_)
    refine yo_in (by omega) n4 (by omega) R Q (fun c hc e => ?_) (fun _ => And.intro rfl hq)
    have := sm_rk_le (sm_ky rP xW) (sm_ky rP xW c) rc
    rw [← e] at h
    exact absurd h (nI_pos (by omega))
  · refine xh_R0 (Or.inr h) (br_t rfl ?_)
    refine yo_in (by omega) n4 (by omega) R Q (fun c hc e => ?_) (fun _ => And.intro rfl hq)
    have := sm_Od_lt (K := sm_ky rP xW) hc
    rw [← e, nI_leI (by omega) (by omega)] at h
    omega
  · obtain ⟨c, hc, e⟩ := O.2 i hi
    refine xh_R hi (by omega) (br_f sm_10 (And.intro (vp_in_nI (by omega) (by omega)) ?_))
    have eo : od (nI i).toNatClampNeg = nI c := by rw [nI_clamp (by omega), ← e]; exact (O.1 c hc).2
    rw [eo]
    refine yo_in (by omega) n4 (by omega) R Q (fun d hd' e' => ?_) (fun no => absurd (by rw [e]) (no c hc))
    have := sm_Od_lt (K := sm_ky rP xW) hd'
    have e' := sm_im e' (by omega) (by omega)
    exact And.intro (by rw [sm_rk_u (rP := rP) (xW := xW) (by omega) hd' hc (e'.trans e.symm)]) hq
theorem gg_serialValue {q : Prop} (F : sm_F th wd rl kl nw rc lw me bas ph ou st pt be re ta ld rm wm hm km bm se tw rT rS rB rP xR xW xs xw od po ch cl hd iR ck iW bk yR ys yW yw) (hq : q) (v1 v2 : Int32) : wpX_serialValue (fun r => wpY_serialValue (fun r' => r' = r ∧ q) (nI th, nI wd, nI rl, nI kl, nI nw, nI rc, bas, hd, ph, ou, st, pt, be, re, ta, iR, se, ck, iW, tw, bk, rT, rS, rB, rP, yR, ys, yW, yw) v1 v2) (nI th, nI wd, nI rl, nI kl, nI nw, nI rc, lw, me, bas, ph, ou, st, pt, be, re, ta, ld, rm, wm, hm, km, bm, se, tw, rT, rS, rB, rP, xR, xW, xs, xw, od, po, ch, cl) v1 v2 := by
  obtain ⟨⟨n1, n2, n3, n4, n5, n6, n7, n8, n9, n10⟩, ⟨R, C, Q, O⟩, T, H, Ww, Pp, Dd⟩ := F
  unfold wpX_serialValue wpY_serialValue
  rcases pk_ix v1 (n := rc + 1) (by omega) with h | h | ⟨k, hk, rfl⟩
  · exact br_t h (br_t h (And.intro rfl hq))
  · have h0 : ¬ v1 < 0 := fun z => by
      have := Int32.lt_of_le_of_lt h z
      exact nI_pos (by omega) this
    have hl : nI rc < v1 := Int32.lt_of_lt_of_le (nI_lt (by omega) (by omega)) h
    exact br_f h0 (br_t hl (br_f h0 (br_t hl (And.intro rfl hq))))
  · have h0 : ¬ nI k < 0 := nI_pos (by omega)
    have hl : ¬ nI rc < nI k := nI_nlt (by omega) (by omega)
    refine br_f h0 (br_f hl ?_)
    rcases pk_ix v2 (n := wd) (by omega) with h | h | ⟨a, ha, rfl⟩
    · exact xh_W0 (Or.inl h) (br_t rfl (br_f h0 (br_f hl (yh_W0 (Or.inl h) (br_f sm_10 (And.intro rfl hq))))))
    · exact xh_W0 (Or.inr h) (br_t rfl (br_f h0 (br_f hl (yh_W0 (Or.inr h) (br_f sm_10 (And.intro rfl hq))))))
    · refine xh_W ha n4 (br_f sm_10 ?_)
      obtain ⟨n, Tn⟩ := sm_Tp (k := k) (by omega) n4 ha C R Q O
      refine xg_vp (yW := yW) ha n4 (by omega) (by omega) C (fun c hc => ?_) Tn ?_
      · have := sm_rk_le (sm_ky rP xW) (sm_ky rP xW c) rc
        rw [sm_po (by omega) O hc]
        exact ⟨(O.1 c hc).1, by omega⟩
      refine xg_va (yW := yW) ha n4 (by omega) C Tn.1 ?_
      refine br_f h0 (br_f hl (yh_W ha n4 (br_t rfl (And.intro (vp_in_nI (by omega) (by omega)) (nm_r (e' := sm_vl bas xw ch a 0) ?_ (Exists.intro (k + 1) ?_))))))
      · rw [nI_clamp (by omega)]; rfl
      · refine yo_ser_l (by omega) n4 (by omega) ha (by omega) C R Q O (fun m Tm => And.intro ?_ hq) k 0 0 (by omega) ⟨Nat.zero_le _, fun i hi => absurd hi (Nat.not_lt_zero i), fun i _ _ => Nat.not_lt_zero _⟩
        rw [sm_Th_u Tm Tn]
end
end
section
section
variable {th wd rl kl nw rc : Nat} {lw me bas ph ou st pt be re ta ld rm wm hm km bm se tw rT rS rB rP xR xW xs xw od po ch cl hd iR ck iW bk yR ys yW yw : Nat → Int32}
theorem yr_show0 {post : Int32 → Prop} {p1 p2 p3 p4 : Int32} (h00 : p1 = 0 → p3 = 0 → post 0) (h01 : p1 = 0 → ¬ p3 = 0 → post 2) (h10 : ¬ p1 = 0 → p3 = 0 → post 1) (h11 : ¬ p1 = 0 → ¬ p3 = 0 → post 3) : wpY_show post (nI th, nI wd, nI rl, nI kl, nI nw, nI rc, bas, hd, ph, ou, st, pt, be, re, ta, iR, se, ck, iW, tw, bk, rT, rS, rB, rP, yR, ys, yW, yw) 0 p1 p2 p3 p4 := by
  unfold wpY_show
  refine br_t rfl (br_c (fun z => ?_) (fun z => ?_))
  · exact br_c (fun w => h00 z w) (fun w => h01 z w)
  · exact br_c (fun w => h10 z w) (fun w => h11 z w)
theorem yr_show1 {post : Int32 → Prop} {p1 p2 p3 p4 : Int32} (h0 : p1 = 0 → post 0) (h1 : ¬ p1 = 0 → post p2) : wpY_show post (nI th, nI wd, nI rl, nI kl, nI nw, nI rc, bas, hd, ph, ou, st, pt, be, re, ta, iR, se, ck, iW, tw, bk, rT, rS, rB, rP, yR, ys, yW, yw) 1 p1 p2 p3 p4 := by
  unfold wpY_show
  exact br_f (by decide) (br_t rfl (br_c h0 h1))
theorem yr_show2 {post : Int32 → Prop} {p1 p2 p3 p4 : Int32} (h0 : p3 = 0 → post 0) (h1 : ¬ p3 = 0 → post p4) : wpY_show post (nI th, nI wd, nI rl, nI kl, nI nw, nI rc, bas, hd, ph, ou, st, pt, be, re, ta, iR, se, ck, iW, tw, bk, rT, rS, rB, rP, yR, ys, yW, yw) 2 p1 p2 p3 p4 := by
  unfold wpY_show
  exact br_f (by decide) (br_f (by decide) (br_t rfl (br_c h0 h1)))
theorem yr_showE {post : Int32 → Prop} {p0 p1 p2 p3 p4 : Int32} (h0 : ¬ p0 = 0) (h1 : ¬ p0 = 1) (h2 : ¬ p0 = 2) (h : post (-1)) : wpY_show post (nI th, nI wd, nI rl, nI kl, nI nw, nI rc, bas, hd, ph, ou, st, pt, be, re, ta, iR, se, ck, iW, tw, bk, rT, rS, rB, rP, yR, ys, yW, yw) p0 p1 p2 p3 p4 := by
  unfold wpY_show
  exact br_f h0 (br_f h1 (br_f h2 h))
theorem xr_role {post : Int32 → Prop} {r1 r2 : Int32} (h00 : r1 = 0 → r2 = 0 → post 0) (h01 : r1 = 0 → ¬ r2 = 0 → post 2) (h10 : ¬ r1 = 0 → r2 = 0 → post 1) (h11 : ¬ r1 = 0 → ¬ r2 = 0 → post 3) : wpX_role post (nI th, nI wd, nI rl, nI kl, nI nw, nI rc, lw, me, bas, ph, ou, st, pt, be, re, ta, ld, rm, wm, hm, km, bm, se, tw, rT, rS, rB, rP, xR, xW, xs, xw, od, po, ch, cl) r1 r2 := by
  unfold wpX_role
  refine br_c (fun z => ?_) (fun z => nm_e ?_)
  · exact br_c (fun w => h00 z w) (fun w => nm_e (h01 z w))
  · exact br_c (fun w => h10 z w) (fun w => nm_e (h11 z w))
theorem gg_recordInfo {q : Prop} (F : sm_F th wd rl kl nw rc lw me bas ph ou st pt be re ta ld rm wm hm km bm se tw rT rS rB rP xR xW xs xw od po ch cl hd iR ck iW bk yR ys yW yw) (hq : q) (v1 v2 : Int32) : wpX_recordInfo (fun r => wpY_recordInfo (fun r' => r' = r ∧ q) (nI th, nI wd, nI rl, nI kl, nI nw, nI rc, bas, hd, ph, ou, st, pt, be, re, ta, iR, se, ck, iW, tw, bk, rT, rS, rB, rP, yR, ys, yW, yw) v1 v2) (nI th, nI wd, nI rl, nI kl, nI nw, nI rc, lw, me, bas, ph, ou, st, pt, be, re, ta, ld, rm, wm, hm, km, bm, se, tw, rT, rS, rB, rP, xR, xW, xs, xw, od, po, ch, cl) v1 v2 := by
  obtain ⟨⟨n1, n2, n3, n4, n5, n6, n7, n8, n9, n10⟩, ⟨R, C, Q, O⟩, T, H, Ww, Pp, Dd⟩ := F
  unfold wpX_recordInfo wpY_recordInfo
  rcases pk_ix v1 (n := rc) (by omega) with h | h | ⟨c, hc, rfl⟩
  · exact xh_R0 (Or.inl h) (br_t rfl (br_t h (And.intro rfl hq)))
  · exact xh_R0 (Or.inr h) (br_t rfl (br_c (fun _ => And.intro rfl hq) (fun _ => br_f (Int32.not_lt.mpr h) (And.intro rfl hq))))
  · refine xh_R hc (by omega) (br_f sm_10 ?_)
    have g0 : ¬ nI c < 0 := nI_pos (by omega)
    have g1 : nI c < nI rc := nI_lt hc (by omega)
    have hv : vp_in (nI c) 32 := vp_in_nI (by omega) (by omega)
    by_cases h0 : v2 = 0
    · subst h0
      exact br_f (by decide) (br_f (by decide) (br_t rfl (And.intro hv (br_f g0 (br_t g1 (br_t rfl (And.intro hv (And.intro rfl hq))))))))
    by_cases h1 : v2 = 1
    · subst h1
      exact br_f (by decide) (br_f (by decide) (br_f (by decide) (br_t rfl (And.intro hv (br_f g0 (br_t g1 (br_f (by decide) (br_t rfl (And.intro hv (And.intro rfl hq))))))))))
    by_cases h2 : v2 = 2
    · subst h2
      refine br_f (by decide) (br_f (by decide) (br_f (by decide) (br_f (by decide) (br_t rfl (And.intro hv ?_)))))
      rw [nI_clamp (by omega)]
      refine br_c (fun z => br_f g0 (br_t g1 (br_f (by decide) (br_f (by decide) (br_t rfl ?_))))) (fun z => br_f g0 (br_t g1 (br_f (by decide) (br_f (by decide) (br_t rfl ?_)))))
      · exact yo_wr (by omega) n4 hc R (fun _ => br_t rfl (And.intro rfl hq)) (fun k => absurd z k)
      · exact yo_wr (by omega) n4 hc R (fun k => absurd k z) (fun _ => br_f sm_10 (And.intro rfl hq))
    by_cases h3 : v2 = 3
    · subst h3
      exact br_f (by decide) (br_f (by decide) (br_f (by decide) (br_f (by decide) (br_f (by decide) (br_t rfl (And.intro hv (br_f g0 (br_t g1 (br_f (by decide) (br_f (by decide) (br_f (by decide) (br_t rfl (And.intro hv (And.intro rfl hq))))))))))))))
    by_cases h4 : v2 = 4
    · subst h4
      exact br_f (by decide) (br_f (by decide) (br_f (by decide) (br_f (by decide) (br_f (by decide) (br_f (by decide) (br_t rfl (And.intro hv (br_f g0 (br_t g1 (br_f (by decide) (br_f (by decide) (br_f (by decide) (br_f (by decide) (br_t rfl (And.intro hv (And.intro rfl hq))))))))))))))))
    by_cases h5 : v2 = 5
    · subst h5
      refine br_f (by decide) (br_f (by decide) (br_f (by decide) (br_f (by decide) (br_f (by decide) (br_f (by decide) (br_f (by decide) (br_t rfl (And.intro hv (br_f g0 (br_t g1 (br_f (by decide) (br_f (by decide) (br_f (by decide) (br_f (by decide) (br_f (by decide) (br_t rfl ?_))))))))))))))))
      refine yo_pos (by omega) n4 (by omega) hc R Q (And.intro ?_ hq)
      rw [nI_clamp (n := c) (by omega)]; exact (O.1 c hc).1.symm
    exact br_c (fun _ => br_f g0 (br_t g1 (br_f h0 (br_f h1 (br_f h2 (br_f h3 (br_f h4 (br_f h5 (And.intro rfl hq))))))))) (fun _ => br_c (fun _ => br_f g0 (br_t g1 (br_f h0 (br_f h1 (br_f h2 (br_f h3 (br_f h4 (br_f h5 (And.intro rfl hq))))))))) (fun _ => br_f h0 (br_f h1 (br_f h2 (br_f h3 (br_f h4 (br_f h5 (trivial))))))))
theorem gg_recordCell {q : Prop} (F : sm_F th wd rl kl nw rc lw me bas ph ou st pt be re ta ld rm wm hm km bm se tw rT rS rB rP xR xW xs xw od po ch cl hd iR ck iW bk yR ys yW yw) (hq : q) (v1 v2 v3 : Int32) : wpX_recordCell (fun r => wpY_recordCell (fun r' => r' = r ∧ q) (nI th, nI wd, nI rl, nI kl, nI nw, nI rc, bas, hd, ph, ou, st, pt, be, re, ta, iR, se, ck, iW, tw, bk, rT, rS, rB, rP, yR, ys, yW, yw) v1 v2 v3) (nI th, nI wd, nI rl, nI kl, nI nw, nI rc, lw, me, bas, ph, ou, st, pt, be, re, ta, ld, rm, wm, hm, km, bm, se, tw, rT, rS, rB, rP, xR, xW, xs, xw, od, po, ch, cl) v1 v2 v3 := by
  obtain ⟨⟨n1, n2, n3, n4, n5, n6, n7, n8, n9, n10⟩, ⟨R, C, Q, O⟩, T, H, Ww, Pp, Dd⟩ := F
  unfold wpX_recordCell wpY_recordCell
  rcases pk_ix v1 (n := rc) (by omega) with h | h | ⟨c, hc, rfl⟩
  · exact xh_R0 (Or.inl h) (br_t rfl (br_t h (And.intro rfl hq)))
  · exact xh_R0 (Or.inr h) (br_t rfl (br_c (fun _ => And.intro rfl hq) (fun _ => br_t h (And.intro rfl hq))))
  · refine xh_R hc (by omega) (br_f sm_10 ?_)
    have g0 : ¬ nI c < 0 := nI_pos (by omega)
    have g1 : ¬ nI rc ≤ nI c := nI_ge hc (by omega)
    have hv : vp_in (nI c) 32 := vp_in_nI (by omega) (by omega)
    have ec : (nI c).toNatClampNeg = c := nI_clamp (by omega)
    rcases pk_ix v2 (n := wd) (by omega) with h | h | ⟨a, ha, rfl⟩
    · exact xh_W0 (Or.inl h) (br_t rfl (br_f g0 (br_f g1 (yh_W0 (Or.inl h) (br_f sm_10 (And.intro rfl hq))))))
    · exact xh_W0 (Or.inr h) (br_t rfl (br_f g0 (br_f g1 (yh_W0 (Or.inr h) (br_f sm_10 (And.intro rfl hq))))))
    · refine xh_W ha n4 (br_f sm_10 ?_)
      have hw : vp_in (nI c * 8 + nI a) 256 := sm_in (sm_ix c a) (by omega) (by omega)
      have e1 : (nI c * 8 + nI a).toNatClampNeg = c * 8 + a := sm_cl (sm_ix c a) (by omega)
      rw [e1]
      obtain ⟨r1, r2, r3, r4⟩ := R c hc
      obtain ⟨r5, r6⟩ := r4 a ha
      by_cases h0 : v3 = 0
      · subst h0
        refine br_f (by decide) (br_f (by decide) (br_t rfl (And.intro hv ?_)))
        rw [ec]
        have Y : ∀ p : Int32 → Prop, (yR (c * 8 + a) = 0 → yW (c * 8 + a) = 0 → p 0) → (yR (c * 8 + a) = 0 → ¬ yW (c * 8 + a) = 0 → p 2) → (¬ yR (c * 8 + a) = 0 → yW (c * 8 + a) = 0 → p 1) → (¬ yR (c * 8 + a) = 0 → ¬ yW (c * 8 + a) = 0 → p 3) → wpY_show p (nI th, nI wd, nI rl, nI kl, nI nw, nI rc, bas, hd, ph, ou, st, pt, be, re, ta, iR, se, ck, iW, tw, bk, rT, rS, rB, rP, yR, ys, yW, yw) 0 (yR (c * 8 + a)) (ys (c * 8 + a)) (yW (c * 8 + a)) (yw (c * 8 + a)) := fun p a b c d => yr_show0 a b c d
        refine xh_has r1 (by omega) (fun z => And.intro hv ?_) (fun z => And.intro hv ?_)
        · refine xh_has r2 (by omega) (fun w => ?_) (fun w => ?_)
          · refine xr_role (fun _ _ => ?_) (fun _ k => absurd rfl k) (fun k _ => absurd rfl k) (fun k _ => absurd rfl k)
            exact br_f g0 (br_f g1 (yh_W ha n4 (br_t rfl (And.intro hw (And.intro hw (And.intro hw (And.intro hw (Y _ (fun _ _ => And.intro rfl hq) (fun _ k => absurd w k) (fun k _ => absurd z k) (fun k _ => absurd z k)))))))))
          · refine xr_role (fun _ k => absurd k sm_10) (fun _ _ => ?_) (fun k _ => absurd rfl k) (fun k _ => absurd rfl k)
            exact br_f g0 (br_f g1 (yh_W ha n4 (br_t rfl (And.intro hw (And.intro hw (And.intro hw (And.intro hw (Y _ (fun _ k => absurd k w) (fun _ _ => And.intro rfl hq) (fun k _ => absurd z k) (fun k _ => absurd z k)))))))))
        · refine xh_has r2 (by omega) (fun w => ?_) (fun w => ?_)
          · refine xr_role (fun k _ => absurd k sm_10) (fun k _ => absurd k sm_10) (fun _ _ => ?_) (fun _ k => absurd rfl k)
            exact br_f g0 (br_f g1 (yh_W ha n4 (br_t rfl (And.intro hw (And.intro hw (And.intro hw (And.intro hw (Y _ (fun k _ => absurd k z) (fun k _ => absurd k z) (fun _ _ => And.intro rfl hq) (fun _ k => absurd w k)))))))))
          · refine xr_role (fun k _ => absurd k sm_10) (fun k _ => absurd k sm_10) (fun _ k => absurd k sm_10) (fun _ _ => ?_)
            exact br_f g0 (br_f g1 (yh_W ha n4 (br_t rfl (And.intro hw (And.intro hw (And.intro hw (And.intro hw (Y _ (fun k _ => absurd k z) (fun k _ => absurd k z) (fun _ k => absurd k w) (fun _ _ => And.intro rfl hq)))))))))
      · by_cases h1 : v3 = 1
        · subst h1
          refine br_f (by decide) (br_f (by decide) (br_f (by decide) (br_t rfl (And.intro hw ?_))))
          refine br_f g0 (br_f g1 (yh_W ha n4 (br_t rfl (And.intro hw (And.intro hw (And.intro hw (And.intro hw (yr_show1 (fun z => And.intro ?_ hq) (fun z => And.intro ?_ hq)))))))))
          · rw [r5, if_pos z]
          · rw [r5, if_neg z]
        · by_cases h2 : v3 = 2
          · subst h2
            refine br_f (by decide) (br_f (by decide) (br_f (by decide) (br_f (by decide) (br_t rfl (And.intro hw ?_)))))
            refine br_f g0 (br_f g1 (yh_W ha n4 (br_t rfl (And.intro hw (And.intro hw (And.intro hw (And.intro hw (yr_show2 (fun z => And.intro ?_ hq) (fun z => And.intro ?_ hq)))))))))
            · rw [r6, if_pos z]
            · rw [r6, if_neg z]
          · refine br_c (fun _ => ?_) (fun _ => br_c (fun _ => ?_) (fun _ => br_f h0 (br_f h1 (br_f h2 trivial))))
            · exact br_f g0 (br_f g1 (yh_W ha n4 (br_t rfl (And.intro hw (And.intro hw (And.intro hw (And.intro hw (yr_showE h0 h1 h2 (And.intro rfl hq)))))))))
            · exact br_f g0 (br_f g1 (yh_W ha n4 (br_t rfl (And.intro hw (And.intro hw (And.intro hw (And.intro hw (yr_showE h0 h1 h2 (And.intro rfl hq)))))))))
theorem gg_cell {q : Prop} (F : sm_F th wd rl kl nw rc lw me bas ph ou st pt be re ta ld rm wm hm km bm se tw rT rS rB rP xR xW xs xw od po ch cl hd iR ck iW bk yR ys yW yw) (hq : q) (v1 v2 v3 : Int32) : wpX_cell (fun r => wpY_cell (fun r' => r' = r ∧ q) (nI th, nI wd, nI rl, nI kl, nI nw, nI rc, bas, hd, ph, ou, st, pt, be, re, ta, iR, se, ck, iW, tw, bk, rT, rS, rB, rP, yR, ys, yW, yw) v1 v2 v3) (nI th, nI wd, nI rl, nI kl, nI nw, nI rc, lw, me, bas, ph, ou, st, pt, be, re, ta, ld, rm, wm, hm, km, bm, se, tw, rT, rS, rB, rP, xR, xW, xs, xw, od, po, ch, cl) v1 v2 v3 := by
  obtain ⟨⟨n1, n2, n3, n4, n5, n6, n7, n8, n9, n10⟩, ⟨R, C, Q, O⟩, T, H, Ww, Pp, Dd⟩ := F
  unfold wpX_cell
  rcases pk_ix v1 (n := th) (by omega) with h | h | ⟨t, ht, rfl⟩
  · refine xh_T0 (Or.inl h) (br_t rfl ?_)
    unfold wpY_cell
    exact yh_T0 (Or.inl h) (br_f sm_10 (And.intro rfl hq))
  · refine xh_T0 (Or.inr h) (br_t rfl ?_)
    unfold wpY_cell
    exact yh_T0 (Or.inr h) (br_f sm_10 (And.intro rfl hq))
  · refine xh_T ht n2 (br_f sm_10 ?_)
    have hv : vp_in (nI t) 4 := vp_in_nI (by omega) (by omega)
    have et : (nI t).toNatClampNeg = t := nI_clamp (by omega)
    rcases pk_ix v2 (n := wd) (by omega) with h | h | ⟨a, ha, rfl⟩
    · refine xh_W0 (Or.inl h) (br_t rfl ?_)
      unfold wpY_cell
      exact yh_T ht n2 (br_t rfl (yh_W0 (Or.inl h) (br_f sm_10 (And.intro rfl hq))))
    · refine xh_W0 (Or.inr h) (br_t rfl ?_)
      unfold wpY_cell
      exact yh_T ht n2 (br_t rfl (yh_W0 (Or.inr h) (br_f sm_10 (And.intro rfl hq))))
    · refine xh_W ha n4 (br_f sm_10 (And.intro hv ?_))
      have hw : vp_in (nI t * 8 + nI a) 32 := sm_in (sm_ix t a) (by omega) (by omega)
      have e1 : (nI t * 8 + nI a).toNatClampNeg = t * 8 + a := sm_cl (sm_ix t a) (by omega)
      rw [e1, et]
      obtain ⟨t1, t2, t3, t4, t5, t6, t7⟩ := T t ht
      have Y : ∀ (p : Int32 → Prop) (v3 : Int32), wpY_show p (nI th, nI wd, nI rl, nI kl, nI nw, nI rc, bas, hd, ph, ou, st, pt, be, re, ta, iR, se, ck, iW, tw, bk, rT, rS, rB, rP, yR, ys, yW, yw) v3 (iR (t * 8 + a)) (se (t * 8 + a)) (iW (t * 8 + a)) (tw (t * 8 + a)) → wpY_cell p (nI th, nI wd, nI rl, nI kl, nI nw, nI rc, bas, hd, ph, ou, st, pt, be, re, ta, iR, se, ck, iW, tw, bk, rT, rS, rB, rP, yR, ys, yW, yw) (nI t) (nI a) v3 := fun p v3 k => by
        unfold wpY_cell
        refine yh_T ht n2 (br_t rfl (yh_W ha n4 (br_t rfl (And.intro hw (And.intro hw (And.intro hw (And.intro hw ?_)))))))
        rw [e1]
        exact k
      refine xh_has t5 (by omega) (fun z => And.intro hv ?_) (fun z => And.intro hv ?_)
      · refine xh_has t6 (by omega) (fun w => ?_) (fun w => ?_)
        · by_cases h0 : v3 = 0
          · subst h0
            refine br_f (by decide) (br_f (by decide) (br_t rfl (xr_role (fun _ _ => ?_) (fun _ k => absurd rfl k) (fun k _ => absurd rfl k) (fun k _ => absurd rfl k))))
            exact Y _ _ (yr_show0 (fun _ _ => And.intro rfl hq) (fun _ k => absurd w k) (fun k _ => absurd z k) (fun k _ => absurd z k))
          · by_cases h1 : v3 = 1
            · subst h1
              exact br_f (by decide) (br_f (by decide) (br_f (by decide) (br_t rfl (br_t rfl (Y _ _ (yr_show1 (fun _ => And.intro rfl hq) (fun k => absurd z k)))))))
            · by_cases h2 : v3 = 2
              · subst h2
                exact br_f (by decide) (br_f (by decide) (br_f (by decide) (br_f (by decide) (br_t rfl (br_t rfl (Y _ _ (yr_show2 (fun _ => And.intro rfl hq) (fun k => absurd w k))))))))
              · exact br_c (fun _ => Y _ _ (yr_showE h0 h1 h2 (And.intro rfl hq))) (fun _ => br_c (fun _ => Y _ _ (yr_showE h0 h1 h2 (And.intro rfl hq))) (fun _ => br_f h0 (br_f h1 (br_f h2 trivial))))
        · by_cases h0 : v3 = 0
          · subst h0
            refine br_f (by decide) (br_f (by decide) (br_t rfl (xr_role (fun _ k => absurd k sm_10) (fun _ _ => ?_) (fun k _ => absurd rfl k) (fun k _ => absurd rfl k))))
            exact Y _ _ (yr_show0 (fun _ k => absurd k w) (fun _ _ => And.intro rfl hq) (fun k _ => absurd z k) (fun k _ => absurd z k))
          · by_cases h1 : v3 = 1
            · subst h1
              exact br_f (by decide) (br_f (by decide) (br_f (by decide) (br_t rfl (br_t rfl (Y _ _ (yr_show1 (fun _ => And.intro rfl hq) (fun k => absurd z k)))))))
            · by_cases h2 : v3 = 2
              · subst h2
                exact br_f (by decide) (br_f (by decide) (br_f (by decide) (br_f (by decide) (br_t rfl (br_f sm_10 (And.intro hw (Y _ _ (yr_show2 (fun k => absurd k w) (fun _ => And.intro rfl hq)))))))))
              · exact br_c (fun _ => Y _ _ (yr_showE h0 h1 h2 (And.intro rfl hq))) (fun _ => br_c (fun _ => Y _ _ (yr_showE h0 h1 h2 (And.intro rfl hq))) (fun _ => br_f h0 (br_f h1 (br_f h2 trivial))))
      · refine xh_has t6 (by omega) (fun w => ?_) (fun w => ?_)
        · by_cases h0 : v3 = 0
          · subst h0
            refine br_f (by decide) (br_f (by decide) (br_t rfl (xr_role (fun k _ => absurd k sm_10) (fun k _ => absurd k sm_10) (fun _ _ => ?_) (fun _ k => absurd rfl k))))
            exact Y _ _ (yr_show0 (fun k _ => absurd k z) (fun k _ => absurd k z) (fun _ _ => And.intro rfl hq) (fun _ k => absurd w k))
          · by_cases h1 : v3 = 1
            · subst h1
              exact br_f (by decide) (br_f (by decide) (br_f (by decide) (br_t rfl (br_f sm_10 (And.intro hw (Y _ _ (yr_show1 (fun k => absurd k z) (fun _ => And.intro rfl hq))))))))
            · by_cases h2 : v3 = 2
              · subst h2
                exact br_f (by decide) (br_f (by decide) (br_f (by decide) (br_f (by decide) (br_t rfl (br_t rfl (Y _ _ (yr_show2 (fun _ => And.intro rfl hq) (fun k => absurd w k))))))))
              · exact br_c (fun _ => Y _ _ (yr_showE h0 h1 h2 (And.intro rfl hq))) (fun _ => br_c (fun _ => Y _ _ (yr_showE h0 h1 h2 (And.intro rfl hq))) (fun _ => br_f h0 (br_f h1 (br_f h2 trivial))))
        · by_cases h0 : v3 = 0
          · subst h0
            refine br_f (by decide) (br_f (by decide) (br_t rfl (xr_role (fun k _ => absurd k sm_10) (fun k _ => absurd k sm_10) (fun _ k => absurd k sm_10) (fun _ _ => ?_))))
            exact Y _ _ (yr_show0 (fun k _ => absurd k z) (fun k _ => absurd k z) (fun _ k => absurd k w) (fun _ _ => And.intro rfl hq))
          · by_cases h1 : v3 = 1
            · subst h1
              exact br_f (by decide) (br_f (by decide) (br_f (by decide) (br_t rfl (br_f sm_10 (And.intro hw (Y _ _ (yr_show1 (fun k => absurd k z) (fun _ => And.intro rfl hq))))))))
            · by_cases h2 : v3 = 2
              · subst h2
                exact br_f (by decide) (br_f (by decide) (br_f (by decide) (br_f (by decide) (br_t rfl (br_f sm_10 (And.intro hw (Y _ _ (yr_show2 (fun k => absurd k w) (fun _ => And.intro rfl hq)))))))))
              · exact br_c (fun _ => Y _ _ (yr_showE h0 h1 h2 (And.intro rfl hq))) (fun _ => br_c (fun _ => Y _ _ (yr_showE h0 h1 h2 (And.intro rfl hq))) (fun _ => br_f h0 (br_f h1 (br_f h2 trivial))))
/-- steps left, as numbers -/
def sm_lf (q n w r : Nat) : Nat := if q = 2 then 2 else if q = 3 then 1 else if q = 4 then n + 1 + r + 1 + w + w else if q = 5 then 1 + r + 1 + w + w else if q = 6 then n + 1 + w + w else if q = 7 then 1 + w + w else if q = 8 then n + w else n
theorem sm_ct_sz {f : Nat → Int32} {n : Nat} (z : f n = 0) : sm_ct f (n + 1) = sm_ct f n := by
  show sm_ct f n + (if f n = 0 then 0 else 1) = _
  rw [if_pos z]; rfl
theorem sm_ct_so {f : Nat → Int32} {n : Nat} (z : ¬ f n = 0) : sm_ct f (n + 1) = sm_ct f n + 1 := by
  show sm_ct f n + (if f n = 0 then 0 else 1) = _
  rw [if_neg z]
theorem sm_1a (a : Nat) : 1 + nI a = nI (1 + a) := nI_add 1 a
theorem yl_end {post : Int32 → Prop} {q n w r : Nat} (hq : q ≤ 10) (hp : post (nI (sm_lf q n w r))) : (nI q = 2 → post 2) ∧ (¬ nI q = 2 → (nI q = 3 → post 1) ∧ (¬ nI q = 3 → (nI q = 4 → post (((((nI n + 1) + nI r) + 1) + nI w) + nI w)) ∧ (¬ nI q = 4 → (nI q = 5 → post ((((1 + nI r) + 1) + nI w) + nI w)) ∧ (¬ nI q = 5 → (nI q = 6 → post (((nI n + 1) + nI w) + nI w)) ∧ (¬ nI q = 6 → (nI q = 7 → post ((1 + nI w) + nI w)) ∧ (¬ nI q = 7 → (nI q = 8 → post (nI n + nI w)) ∧ (¬ nI q = 8 → post (nI n)))))))) := by
  simp only [sm_1a, nI_1, nI_add]
  have : q = 0 ∨ q = 1 ∨ q = 2 ∨ q = 3 ∨ q = 4 ∨ q = 5 ∨ q = 6 ∨ q = 7 ∨ q = 8 ∨ q = 9 ∨ q = 10 := by omega
  rcases this with rfl | rfl | rfl | rfl | rfl | rfl | rfl | rfl | rfl | rfl | rfl
  · exact br_f (by decide) (br_f (by decide) (br_f (by decide) (br_f (by decide) (br_f (by decide) (br_f (by decide) (br_f (by decide) (hp)))))))
  · exact br_f (by decide) (br_f (by decide) (br_f (by decide) (br_f (by decide) (br_f (by decide) (br_f (by decide) (br_f (by decide) (hp)))))))
  · exact br_t rfl hp
  · exact br_f (by decide) (br_t rfl hp)
  · exact br_f (by decide) (br_f (by decide) (br_t rfl hp))
  · exact br_f (by decide) (br_f (by decide) (br_f (by decide) (br_t rfl hp)))
  · exact br_f (by decide) (br_f (by decide) (br_f (by decide) (br_f (by decide) (br_t rfl hp))))
  · exact br_f (by decide) (br_f (by decide) (br_f (by decide) (br_f (by decide) (br_f (by decide) (br_t rfl hp)))))
  · exact br_f (by decide) (br_f (by decide) (br_f (by decide) (br_f (by decide) (br_f (by decide) (br_f (by decide) (br_t rfl hp))))))
  · exact br_f (by decide) (br_f (by decide) (br_f (by decide) (br_f (by decide) (br_f (by decide) (br_f (by decide) (br_f (by decide) (hp)))))))
  · exact br_f (by decide) (br_f (by decide) (br_f (by decide) (br_f (by decide) (br_f (by decide) (br_f (by decide) (br_f (by decide) (hp)))))))
theorem xl_end {post : Int32 → Prop} {q n w r h k b : Nat} (hq : q ≤ 10) (e4 : q = 4 → w = n + h) (e6 : q = 6 → r = n + k) (e8 : q = 8 → w = n + b) (e9 : 9 ≤ q → n = h) (e0 : q ≤ 1 → n = 0) (hp : post (nI (sm_lf q n w r))) : (nI q < 2 → post 0) ∧ (¬ nI q < 2 → (10 < nI q → post 0) ∧ (¬ 10 < nI q → (nI q = 2 → post 2) ∧ (¬ nI q = 2 → (nI q = 3 → post 1) ∧ (¬ nI q = 3 → (nI q = 4 → post ((((((nI w - nI h) + 1) + nI r) + 1) + nI w) + nI w)) ∧ (¬ nI q = 4 → (nI q = 5 → post ((((1 + nI r) + 1) + nI w) + nI w)) ∧ (¬ nI q = 5 → (nI q = 6 → post ((((nI r - nI k) + 1) + nI w) + nI w)) ∧ (¬ nI q = 6 → (nI q = 7 → post ((1 + nI w) + nI w)) ∧ (¬ nI q = 7 → (nI q = 8 → post ((nI w - nI b) + nI w)) ∧ (¬ nI q = 8 → (nI q = 9 → post (nI h)) ∧ (¬ nI q = 9 → (nI q = 10 → post (nI h)) ∧ (¬ nI q = 10 → True))))))))))) := by
  have : q = 0 ∨ q = 1 ∨ q = 2 ∨ q = 3 ∨ q = 4 ∨ q = 5 ∨ q = 6 ∨ q = 7 ∨ q = 8 ∨ q = 9 ∨ q = 10 := by omega
  rcases this with rfl | rfl | rfl | rfl | rfl | rfl | rfl | rfl | rfl | rfl | rfl
  · have e := e0 (by omega)
    subst e
    exact br_t (by decide) hp
  · have e := e0 (by omega)
    subst e
    exact br_t (by decide) hp
  · simp only [sm_1a, nI_1, nI_add]
    exact br_f (by decide) (br_f (by decide) (br_t rfl hp))
  · simp only [sm_1a, nI_1, nI_add]
    exact br_f (by decide) (br_f (by decide) (br_f (by decide) (br_t rfl hp)))
  · have e := pk_sub (a := w) (b := h) (by have := e4 rfl; omega)
    rw [show w - h = n by have := e4 rfl; omega] at e
    simp only [e, sm_1a, nI_1, nI_add]
    exact br_f (by decide) (br_f (by decide) (br_f (by decide) (br_f (by decide) (br_t rfl hp))))
  · simp only [sm_1a, nI_1, nI_add]
    exact br_f (by decide) (br_f (by decide) (br_f (by decide) (br_f (by decide) (br_f (by decide) (br_t rfl hp)))))
  · have e := pk_sub (a := r) (b := k) (by have := e6 rfl; omega)
    rw [show r - k = n by have := e6 rfl; omega] at e
    simp only [e, sm_1a, nI_1, nI_add]
    exact br_f (by decide) (br_f (by decide) (br_f (by decide) (br_f (by decide) (br_f (by decide) (br_f (by decide) (br_t rfl hp))))))
  · simp only [sm_1a, nI_1, nI_add]
    exact br_f (by decide) (br_f (by decide) (br_f (by decide) (br_f (by decide) (br_f (by decide) (br_f (by decide) (br_f (by decide) (br_t rfl hp)))))))
  · have e := pk_sub (a := w) (b := b) (by have := e8 rfl; omega)
    rw [show w - b = n by have := e8 rfl; omega] at e
    simp only [e, sm_1a, nI_1, nI_add]
    exact br_f (by decide) (br_f (by decide) (br_f (by decide) (br_f (by decide) (br_f (by decide) (br_f (by decide) (br_f (by decide) (br_f (by decide) (br_t rfl hp))))))))
  · have e := e9 (by omega)
    subst e
    exact br_f (by decide) (br_f (by decide) (br_f (by decide) (br_f (by decide) (br_f (by decide) (br_f (by decide) (br_f (by decide) (br_f (by decide) (br_f (by decide) (br_t rfl hp)))))))))
  · have e := e9 (by omega)
    subst e
    exact br_f (by decide) (br_f (by decide) (br_f (by decide) (br_f (by decide) (br_f (by decide) (br_f (by decide) (br_f (by decide) (br_f (by decide) (br_f (by decide) (br_f (by decide) (br_t rfl hp))))))))))
theorem yl_25 {post : Int32 → Prop} {t q n : Nat} (ht : t < 4) (hq : q ≤ 10) (hp : post (nI (sm_lf q n (sm_ct (sm_rw iW t) 8) (sm_ct (sm_rw iR t) 8)))) : ∀ d a : Nat, a + d = 8 → wY_left_25 post (nI t) (nI q) (nI n) (nI th) (nI wd) (nI rl) (nI kl) (nI nw) (nI rc) bas hd ph ou st pt be re ta iR se ck iW tw bk rT rS rB rP yR ys yW yw (d + 1) (nI (sm_ct (sm_rw iW t) a)) (nI (sm_ct (sm_rw iR t) a)) (nI (t * 8 + a)) := by
  intro d
  induction d with
  | zero =>
    intro a ha
    have : a = 8 := by omega
    subst this
    refine br_t ?_ (yl_end hq hp)
    rw [sm_t8]
    show nI (t * 8) + nI 8 ≤ _
    rw [nI_add]; exact nI_le (Nat.le_refl _) (by omega)
  | succ d ih =>
    intro a ha
    have k := ih (a + 1) (by omega)
    have ea : (nI (t * 8 + a)).toNatClampNeg = t * 8 + a := nI_clamp (by omega)
    have hv : vp_in (nI (t * 8 + a)) 32 := vp_in_nI (by omega) (by omega)
    have s1 : nI (t * 8 + a) + 1 = nI (t * 8 + (a + 1)) := nI_1 _
    refine br_f ?_ (And.intro hv ?_)
    · rw [sm_t8]
      show ¬ nI (t * 8) + nI 8 ≤ _
      rw [nI_add]; exact nI_ge (by omega) (by omega)
    rw [ea]
    refine br_c (fun z => ?_) (fun z => nm_r (nI_1 _) ?_)
    · rw [sm_ct_sz (f := sm_rw iW t) z] at k
      unfold wY_left_50
      refine And.intro hv ?_
      rw [ea]
      refine br_c (fun w => nm_r s1 ?_) (fun w => nm_r (nI_1 _) (nm_r s1 ?_))
      · rw [sm_ct_sz (f := sm_rw iR t) w] at k
        exact k
      · rw [sm_ct_so (f := sm_rw iR t) w] at k
        exact k
    · rw [sm_ct_so (f := sm_rw iW t) z] at k
      unfold wY_left_50
      refine And.intro hv ?_
      rw [ea]
      refine br_c (fun w => nm_r s1 ?_) (fun w => nm_r (nI_1 _) (nm_r s1 ?_))
      · rw [sm_ct_sz (f := sm_rw iR t) w] at k
        exact k
      · rw [sm_ct_so (f := sm_rw iR t) w] at k
        exact k
/-- what is pending in a phase -/
def sm_pg (q t : Nat) (hd iR ck iW bk : Nat → Int32) (a : Nat) : Int32 := if q = 4 then (if iW (t * 8 + a) = 0 then 0 else if hd a = nI t then 0 else 1) else if q = 6 then (if iR (t * 8 + a) = 0 then 0 else if ck (t * 8 + a) = 0 then 1 else 0) else if q = 8 then (if iW (t * 8 + a) = 0 then 0 else if bk (t * 8 + a) = 0 then 1 else 0) else if 9 ≤ q then (if hd a = nI t then 1 else 0) else 0
theorem yl_pg {post : Int32 → Prop} {t a q : Nat} (ht : t < 4) (ha : a < 8) (hq : q ≤ 10) (eq : ph t = nI q) (h : post (sm_pg q t hd iR ck iW bk a)) : wpY_pending post (nI th, nI wd, nI rl, nI kl, nI nw, nI rc, bas, hd, ph, ou, st, pt, be, re, ta, iR, se, ck, iW, tw, bk, rT, rS, rB, rP, yR, ys, yW, yw) (nI t) (nI a) := by
  unfold sm_pg at h
  have : q = 0 ∨ q = 1 ∨ q = 2 ∨ q = 3 ∨ q = 4 ∨ q = 5 ∨ q = 6 ∨ q = 7 ∨ q = 8 ∨ q = 9 ∨ q = 10 := by omega
  rcases this with rfl | rfl | rfl | rfl | rfl | rfl | rfl | rfl | rfl | rfl | rfl
  · exact yh_p0 ht eq (by omega) (by omega) h
  · exact yh_p0 ht eq (by omega) (by omega) h
  · exact yh_p0 ht eq (by omega) (by omega) h
  · exact yh_p0 ht eq (by omega) (by omega) h
  · exact yh_p4 ht ha eq h
  · exact yh_p0 ht eq (by omega) (by omega) h
  · exact yh_p6 ht ha eq h
  · exact yh_p0 ht eq (by omega) (by omega) h
  · exact yh_p8 ht ha eq h
  · exact yh_p9 ht ha (Or.inl eq) h
  · exact yh_p9 ht ha (Or.inr eq) h
theorem yl_left {post : Int32 → Prop} {t : Nat} (F : sm_F th wd rl kl nw rc lw me bas ph ou st pt be re ta ld rm wm hm km bm se tw rT rS rB rP xR xW xs xw od po ch cl hd iR ck iW bk yR ys yW yw) (ht : t < th) (hp : post (nI (sm_lf (sm_tn (ph t)) (sm_ct (sm_pg (sm_tn (ph t)) t hd iR ck iW bk) wd) (sm_ct (sm_rw iW t) wd) (sm_ct (sm_rw iR t) wd)))) : wpY_left post (nI th, nI wd, nI rl, nI kl, nI nw, nI rc, bas, hd, ph, ou, st, pt, be, re, ta, iR, se, ck, iW, tw, bk, rT, rS, rB, rP, yR, ys, yW, yw) (nI t) := by
  obtain ⟨⟨n1, n2, n3, n4, n5, n6, n7, n8, n9, n10⟩, ⟨R, C, Q, O⟩, T, H, Ww, Pp, Dd⟩ := F
  obtain ⟨t1, t2, t3, t4, t5, t6, t7, t8, t9⟩ := T t ht
  unfold wpY_left
  refine And.intro (vp_in_nI (by omega) (by omega)) (nm_r (e' := nI (sm_tn (ph t))) ?_ ?_)
  · rw [nI_clamp (by omega)]; exact t1
  refine yh_todo (g := sm_pg (sm_tn (ph t)) t hd iR ck iW bk) (fun a ha post hp => yl_pg (by omega) (by omega) t2 t1 hp) n4 ?_
  refine nm_r (sm_t8 t) (Exists.intro 9 ?_)
  refine yl_25 (by omega) t2 ?_ 8 0 (by omega)
  rw [sm_ct_x 8 n4 (fun i h1 h2 => (t8 i h1 h2).2), sm_ct_x 8 n4 (fun i h1 h2 => (t8 i h1 h2).1)]
  exact hp
theorem xl_any_l {post : Int32 → Prop} {x : Int32} (hw : wd ≤ 8) (hp : ∀ n, post (nI n)) : ∀ d i n : Nat, i + d = wd → wX_countWords_4 post x (nI th) (nI wd) (nI rl) (nI kl) (nI nw) (nI rc) lw me bas ph ou st pt be re ta ld rm wm hm km bm se tw rT rS rB rP xR xW xs xw od po ch cl (d + 1) (nI n) (nI i) := by
  intro d
  induction d with
  | zero =>
    intro i n hi
    have : i = wd := by omega
    subst this
    exact br_t (nI_le (Nat.le_refl _) (by omega)) (hp n)
  | succ d ih =>
    intro i n hi
    refine br_f (nI_ge (by omega) (by omega)) ?_
    unfold wpX_has
    refine br_c (fun _ => ?_) (fun _ => ?_)
    · exact br_t rfl (nm_r (nI_1 i) (ih (i + 1) n (by omega)))
    · exact br_f sm_10 (nm_r (nI_1 n) (nm_r (nI_1 i) (ih (i + 1) (n + 1) (by omega))))
theorem xl_any {post : Int32 → Prop} {x : Int32} (hw : wd ≤ 8) (hp : ∀ n, post (nI n)) : wpX_countWords post (nI th, nI wd, nI rl, nI kl, nI nw, nI rc, lw, me, bas, ph, ou, st, pt, be, re, ta, ld, rm, wm, hm, km, bm, se, tw, rT, rS, rB, rP, xR, xW, xs, xw, od, po, ch, cl) x := by
  unfold wpX_countWords
  exact Exists.intro (wd + 1) (xl_any_l hw hp wd 0 0 (by omega))
theorem xl_left {post : Int32 → Prop} {t : Nat} (F : sm_F th wd rl kl nw rc lw me bas ph ou st pt be re ta ld rm wm hm km bm se tw rT rS rB rP xR xW xs xw od po ch cl hd iR ck iW bk yR ys yW yw) (ht : t < th) (hp : post (nI (sm_lf (sm_tn (ph t)) (sm_ct (sm_pg (sm_tn (ph t)) t hd iR ck iW bk) wd) (sm_ct (sm_rw iW t) wd) (sm_ct (sm_rw iR t) wd)))) : wpX_stepsLeft post (nI th, nI wd, nI rl, nI kl, nI nw, nI rc, lw, me, bas, ph, ou, st, pt, be, re, ta, ld, rm, wm, hm, km, bm, se, tw, rT, rS, rB, rP, xR, xW, xs, xw, od, po, ch, cl) (nI t) := by
  obtain ⟨⟨n1, n2, n3, n4, n5, n6, n7, n8, n9, n10⟩, ⟨R, C, Q, O⟩, T, H, Ww, Pp, Dd⟩ := F
  obtain ⟨t1, t2, t3, t4, t5, t6, t7, t8, t9, t10, t11, t12, t13⟩ := T t ht
  obtain ⟨h1, h2, h3, h4, h5, h6⟩ := H.2 t ht
  unfold wpX_stepsLeft
  have et : (nI t).toNatClampNeg = t := nI_clamp (by omega)
  have hv : vp_in (nI t) 4 := vp_in_nI (by omega) (by omega)
  rw [et]
  generalize hq : sm_tn (ph t) = q at *
  refine And.intro hv (xh_count t6 n4 (And.intro hv (xh_count t5 n4 (And.intro hv (xh_count h1 n4 (And.intro hv ?_))))))
  have e4 : q = 4 → sm_ct (sm_rw iW t) wd = sm_ct (sm_pg q t hd iR ck iW bk) wd + sm_ct (sm_hw hd t) wd := fun e => by
    refine sm_ct_d wd fun a ha => ?_
    have hh := h3 (by omega) (by omega) a (by omega)
    unfold sm_pg
    rw [if_pos e]
    show (if iW (t * 8 + a) = 0 then 0 else 1) = _
    have hh : hd a = nI t → ¬ iW (t * 8 + a) = 0 := hh
    by_cases z : iW (t * 8 + a) = 0
    · have nh : ¬ hd a = nI t := fun k => hh k z
      rw [sm_hw0 nh, if_pos z, if_pos z]; decide
    · by_cases w : hd a = nI t
      · rw [sm_hw1 w, if_neg z, if_neg z, if_pos w]; decide
      · rw [sm_hw0 w, if_neg z, if_neg z, if_neg w]; decide
  have e9 : 9 ≤ q → sm_ct (sm_pg q t hd iR ck iW bk) wd = sm_ct (sm_hw hd t) wd := fun e => by
    refine sm_ct_c wd fun a ha => ?_
    unfold sm_pg
    rw [if_neg (by omega), if_neg (by omega), if_neg (by omega), if_pos e]
    exact Iff.rfl
  have e0 : q ≤ 1 → sm_ct (sm_pg q t hd iR ck iW bk) wd = 0 := fun e => by
    refine (sm_ct_0 wd).mpr fun a ha => ?_
    unfold sm_pg
    rw [if_neg (by omega), if_neg (by omega), if_neg (by omega), if_neg (by omega)]
  by_cases l4 : 4 ≤ q
  · obtain ⟨m1, m2, m3⟩ := t9 l4
    refine xh_count m1 n4 (And.intro hv (xh_count m2 n4 (And.intro hv (nm_r t1 ?_))))
    refine xl_end t2 e4 (fun e => ?_) (fun e => ?_) e9 e0 hp
    · refine sm_ct_d wd fun a ha => ?_
      unfold sm_pg
      rw [if_neg (show ¬ q = 4 by omega), if_pos e]
      have hh : ¬ ck (t * 8 + a) = 0 → ¬ iR (t * 8 + a) = 0 := (m3 a (by omega)).1
      show (if iR (t * 8 + a) = 0 then 0 else 1) = _ + (if ck (t * 8 + a) = 0 then 0 else 1)
      by_cases z : iR (t * 8 + a) = 0
      · have nh : ck (t * 8 + a) = 0 := Classical.byContradiction fun k => hh k z
        rw [if_pos z, if_pos z, if_pos nh]; decide
      · by_cases w : ck (t * 8 + a) = 0
        · rw [if_neg z, if_neg z, if_pos w, if_pos w]; decide
        · rw [if_neg z, if_neg z, if_neg w, if_neg w]; decide
    · refine sm_ct_d wd fun a ha => ?_
      unfold sm_pg
      rw [if_neg (show ¬ q = 4 by omega), if_neg (show ¬ q = 6 by omega), if_pos e]
      have hh : ¬ bk (t * 8 + a) = 0 → ¬ iW (t * 8 + a) = 0 := (m3 a (by omega)).2
      show (if iW (t * 8 + a) = 0 then 0 else 1) = _ + (if bk (t * 8 + a) = 0 then 0 else 1)
      by_cases z : iW (t * 8 + a) = 0
      · have nh : bk (t * 8 + a) = 0 := Classical.byContradiction fun k => hh k z
        rw [if_pos z, if_pos z, if_pos nh]; decide
      · by_cases w : bk (t * 8 + a) = 0
        · rw [if_neg z, if_neg z, if_pos w, if_pos w]; decide
        · rw [if_neg z, if_neg z, if_neg w, if_neg w]; decide
  · refine xl_any n4 fun k => And.intro hv (xl_any n4 fun b => And.intro hv (nm_r t1 ?_))
    exact xl_end t2 e4 (fun e => absurd e (by omega)) (fun e => absurd e (by omega)) e9 e0 hp
theorem gg_threadInfo {q : Prop} (F : sm_F th wd rl kl nw rc lw me bas ph ou st pt be re ta ld rm wm hm km bm se tw rT rS rB rP xR xW xs xw od po ch cl hd iR ck iW bk yR ys yW yw) (hq : q) (v1 v2 : Int32) : wpX_threadInfo (fun r => wpY_threadInfo (fun r' => r' = r ∧ q) (nI th, nI wd, nI rl, nI kl, nI nw, nI rc, bas, hd, ph, ou, st, pt, be, re, ta, iR, se, ck, iW, tw, bk, rT, rS, rB, rP, yR, ys, yW, yw) v1 v2) (nI th, nI wd, nI rl, nI kl, nI nw, nI rc, lw, me, bas, ph, ou, st, pt, be, re, ta, ld, rm, wm, hm, km, bm, se, tw, rT, rS, rB, rP, xR, xW, xs, xw, od, po, ch, cl) v1 v2 := by
  have F' := F
  obtain ⟨⟨n1, n2, n3, n4, n5, n6, n7, n8, n9, n10⟩, ⟨R, C, Q, O⟩, T, H, Ww, Pp, Dd⟩ := F
  unfold wpX_threadInfo
  rcases pk_ix v1 (n := th) (by omega) with h | h | ⟨t, ht, rfl⟩
  · refine xh_T0 (Or.inl h) (br_t rfl ?_)
    unfold wpY_threadInfo
    exact yh_T0 (Or.inl h) (br_f sm_10 (And.intro rfl hq))
  · refine xh_T0 (Or.inr h) (br_t rfl ?_)
    unfold wpY_threadInfo
    exact yh_T0 (Or.inr h) (br_f sm_10 (And.intro rfl hq))
  · refine xh_T ht n2 (br_f sm_10 ?_)
    have hv : vp_in (nI t) 4 := vp_in_nI (by omega) (by omega)
    by_cases h0 : v2 = 0
    · subst h0
      refine br_f (by decide) (br_f (by decide) (br_t rfl (And.intro hv ?_)))
      unfold wpY_threadInfo
      exact yh_T ht n2 (br_t rfl (br_t rfl (And.intro hv (And.intro rfl hq))))
    by_cases h1 : v2 = 1
    · subst h1
      refine br_f (by decide) (br_f (by decide) (br_f (by decide) (br_t rfl (And.intro hv ?_))))
      unfold wpY_threadInfo
      exact yh_T ht n2 (br_t rfl (br_f (by decide) (br_t rfl (And.intro hv (And.intro rfl hq)))))
    by_cases h2 : v2 = 2
    · subst h2
      refine br_f (by decide) (br_f (by decide) (br_f (by decide) (br_f (by decide) (br_t rfl (And.intro hv ?_)))))
      unfold wpY_threadInfo
      exact yh_T ht n2 (br_t rfl (br_f (by decide) (br_f (by decide) (br_t rfl (And.intro hv (And.intro rfl hq))))))
    by_cases h3 : v2 = 3
    · subst h3
      refine br_f (by decide) (br_f (by decide) (br_f (by decide) (br_f (by decide) (br_f (by decide) (br_t rfl (And.intro hv ?_))))))
      unfold wpY_threadInfo
      exact yh_T ht n2 (br_t rfl (br_f (by decide) (br_f (by decide) (br_f (by decide) (br_t rfl (And.intro hv (And.intro rfl hq)))))))
    by_cases h4 : v2 = 4
    · subst h4
      refine br_f (by decide) (br_f (by decide) (br_f (by decide) (br_f (by decide) (br_f (by decide) (br_f (by decide) (br_t rfl (And.intro hv ?_)))))))
      unfold wpY_threadInfo
      exact yh_T ht n2 (br_t rfl (br_f (by decide) (br_f (by decide) (br_f (by decide) (br_f (by decide) (br_t rfl (And.intro hv (And.intro rfl hq))))))))
    by_cases h5 : v2 = 5
    · subst h5
      refine br_f (by decide) (br_f (by decide) (br_f (by decide) (br_f (by decide) (br_f (by decide) (br_f (by decide) (br_f (by decide) (br_t rfl (And.intro hv ?_))))))))
      unfold wpY_threadInfo
      exact yh_T ht n2 (br_t rfl (br_f (by decide) (br_f (by decide) (br_f (by decide) (br_f (by decide) (br_f (by decide) (br_t rfl (And.intro hv (And.intro rfl hq)))))))))
    by_cases h6 : v2 = 6
    · subst h6
      refine br_f (by decide) (br_f (by decide) (br_f (by decide) (br_f (by decide) (br_f (by decide) (br_f (by decide) (br_f (by decide) (br_f (by decide) (br_t rfl (And.intro hv ?_)))))))))
      unfold wpY_threadInfo
      exact yh_T ht n2 (br_t rfl (br_f (by decide) (br_f (by decide) (br_f (by decide) (br_f (by decide) (br_f (by decide) (br_f (by decide) (br_t rfl (And.intro hv (And.intro rfl hq))))))))))
    by_cases h7 : v2 = 7
    · subst h7
      refine br_f (by decide) (br_f (by decide) (br_f (by decide) (br_f (by decide) (br_f (by decide) (br_f (by decide) (br_f (by decide) (br_f (by decide) (br_f (by decide) (br_t rfl ?_)))))))))
      refine xl_left F' ht ?_
      unfold wpY_threadInfo
      refine yh_T ht n2 (br_t rfl (br_f (by decide) (br_f (by decide) (br_f (by decide) (br_f (by decide) (br_f (by decide) (br_f (by decide) (br_f (by decide) (br_t rfl ?_)))))))))
      exact yl_left F' ht (And.intro rfl hq)
    have Y : ∀ post : Int32 → Prop, post (-1) → wpY_threadInfo post (nI th, nI wd, nI rl, nI kl, nI nw, nI rc, bas, hd, ph, ou, st, pt, be, re, ta, iR, se, ck, iW, tw, bk, rT, rS, rB, rP, yR, ys, yW, yw) (nI t) v2 := fun post hp => by
      unfold wpY_threadInfo
      exact yh_T ht n2 (br_t rfl (br_f h0 (br_f h1 (br_f h2 (br_f h3 (br_f h4 (br_f h5 (br_f h6 (br_f h7 (hp))))))))))
    exact br_c (fun _ => Y _ (And.intro rfl hq)) (fun _ => br_c (fun _ => Y _ (And.intro rfl hq)) (fun _ => br_f h0 (br_f h1 (br_f h2 (br_f h3 (br_f h4 (br_f h5 (br_f h6 (br_f h7 (trivial))))))))))
end
end
section
section
variable {th wd rl kl nw rc : Nat} {lw me bas ph ou st pt be re ta ld rm wm hm km bm se tw rT rS rB rP xR xW xs xw od po ch cl hd iR ck iW bk yR ys yW yw : Nat → Int32}
/-! aborts and obstacles -/
theorem xh_ab {post : Int32 → SX → Prop} {t : Nat} {w p : Int32} (ht : t < 4) (hz : (hm t = 0 ∧ p = 0) ∨ (¬ hm t = 0 ∧ p = 10)) (h : post (-2) (nI th, nI wd, nI rl, nI kl, nI nw, nI rc, lw, me, bas, upd ph t p, upd ou t w, st, pt, be, re, upd ta t (-1), ld, rm, wm, hm, km, bm, se, tw, rT, rS, rB, rP, xR, xW, xs, xw, od, po, ch, cl)) : wpX_abort post (nI th, nI wd, nI rl, nI kl, nI nw, nI rc, lw, me, bas, ph, ou, st, pt, be, re, ta, ld, rm, wm, hm, km, bm, se, tw, rT, rS, rB, rP, xR, xW, xs, xw, od, po, ch, cl) (nI t) w := by
  rcases hz with ⟨z, rfl⟩ | ⟨z, rfl⟩
  · exact xh_ab0 ht z h
  · exact xh_ab1 ht z h
theorem yh_ab {post : Int32 → SY → Prop} {t : Nat} {w p : Int32} (ht : t < 4) (hw : wd ≤ 8) (hz : ((∀ a, a < wd → ¬ hd a = nI t) ∧ p = 0) ∨ ((∃ a, a < wd ∧ hd a = nI t) ∧ p = 10)) (h : post (-2) (nI th, nI wd, nI rl, nI kl, nI nw, nI rc, bas, hd, upd ph t p, upd ou t w, st, pt, be, re, upd ta t (-1), iR, se, ck, iW, tw, bk, rT, rS, rB, rP, yR, ys, yW, yw)) : wpY_abort post (nI th, nI wd, nI rl, nI kl, nI nw, nI rc, bas, hd, ph, ou, st, pt, be, re, ta, iR, se, ck, iW, tw, bk, rT, rS, rB, rP, yR, ys, yW, yw) (nI t) w := by
  rcases hz with ⟨z, rfl⟩ | ⟨z, rfl⟩
  · exact yh_ab0 ht hw z h
  · exact yh_ab1 ht hw z h
theorem sm_held {t : Nat} (h4 : th ≤ 4) (hw : wd ≤ 8) (H : sm_HH th wd ph hm hd iW) (ht : t < th) : (hm t = 0 ∧ ∀ a, a < 8 → ¬ hd a = nI t) ∨ (¬ hm t = 0 ∧ ∃ a, a < wd ∧ hd a = nI t) := by
  have M := sm_MK00 (H.2 t ht).1
  by_cases z : hm t = 0
  · exact Or.inl ⟨z, fun a ha => sm_hwz.mp (M.mp z a ha)⟩
  · refine Or.inr ⟨z, Classical.byContradiction fun no => z (M.mpr fun a ha => sm_hwz.mpr fun e => ?_)⟩
    rcases H.1 a ha with k | ⟨s, s1, s2, s3⟩
    · exact absurd (e.symm.trans k) (sm_ne1 (by omega))
    · exact no ⟨a, s2, e⟩
theorem sm_ab {t : Nat} (F : sm_F th wd rl kl nw rc lw me bas ph ou st pt be re ta ld rm wm hm km bm se tw rT rS rB rP xR xW xs xw od po ch cl hd iR ck iW bk yR ys yW yw) (ht : t < th) (hq : sm_tn (ph t) ≤ 7) (w : Int32) : ∃ p : Int32, ((hm t = 0 ∧ p = 0) ∨ (¬ hm t = 0 ∧ p = 10)) ∧ (((∀ a, a < wd → ¬ hd a = nI t) ∧ p = 0) ∨ ((∃ a, a < wd ∧ hd a = nI t) ∧ p = 10)) ∧ sm_F th wd rl kl nw rc lw me bas (upd ph t p) (upd ou t w) st pt be re (upd ta t (-1)) ld rm wm hm km bm se tw rT rS rB rP xR xW xs xw od po ch cl hd iR ck iW bk yR ys yW yw := by
  obtain ⟨N, G, FT⟩ := F
  have FT' := FT
  obtain ⟨n1, n2, n3, n4, n5, n6, n7, n8, n9, n10⟩ := N
  obtain ⟨T, H, Ww, Pp, Dd⟩ := FT
  obtain ⟨t1, t2, t3, t4, t5, t6, t7, t8, t9, t10, t11, t12, t13⟩ := T t ht
  rcases sm_held n2 n4 H ht with ⟨z, e⟩ | ⟨z, e⟩
  · refine ⟨0, Or.inl ⟨z, rfl⟩, Or.inl ⟨fun a ha => e a (by omega), rfl⟩, ⟨n1, n2, n3, n4, n5, n6, n7, n8, n9, n10⟩, G, ?_⟩
    refine sm_fr (q' := 0) ht n2 n4 FT' (fun s hs => ⟨sm_un hs, rfl, rfl, sm_un hs, rfl, rfl, rfl, rfl, rfl, rfl⟩) (fun s hs a ha => ⟨rfl, rfl, rfl, rfl, rfl⟩) sm_us (by omega) ⟨t3, t4, t5, t6, t7, t8, fun h => by omega, fun h => by omega, fun h => by omega, fun h => by omega, fun h => by omega⟩ ⟨(H.2 t ht).1, fun _ => e, fun h => by omega, fun h => by omega, fun h => by omega, fun h => by omega⟩ (by omega) (by omega) (fun h => by omega) (fun h => by omega)
  · have q4 : 4 ≤ sm_tn (ph t) := Nat.le_of_not_lt fun l => by
      obtain ⟨a, ha, k⟩ := e
      exact (H.2 t ht).2.1 l a (by omega) k
    refine ⟨10, Or.inr ⟨z, rfl⟩, Or.inr ⟨e, rfl⟩, ⟨n1, n2, n3, n4, n5, n6, n7, n8, n9, n10⟩, G, ?_⟩
    refine sm_fr (q' := 10) ht n2 n4 FT' (fun s hs => ⟨sm_un hs, rfl, rfl, sm_un hs, rfl, rfl, rfl, rfl, rfl, rfl⟩) (fun s hs a ha => ⟨rfl, rfl, rfl, rfl, rfl⟩) sm_us (by omega) ⟨t3, t4, t5, t6, t7, t8, fun _ => t9 q4, fun h => by omega, fun _ h => by omega, fun h => by omega, fun h => by omega⟩ ⟨(H.2 t ht).1, fun h => by omega, fun _ h => by omega, fun h => by omega, fun _ h => by omega, fun _ => e⟩ (by omega) (by omega) (fun _ h => by omega) (fun _ h => by omega)
/-- blocked, answered -/
theorem yb_42 {post : Int32 → SY → Prop} {t : Nat} {w p : Int32} (ht : t < 4) (hw : wd ≤ 8) (w0 : ¬ w = 0) (hz : ((∀ a, a < wd → ¬ hd a = nI t) ∧ p = 0) ∨ ((∃ a, a < wd ∧ hd a = nI t) ∧ p = 10)) (h : post 1 (nI th, nI wd, nI rl, nI kl, nI nw, nI rc, bas, hd, upd ph t p, upd ou t w, st, pt, be, re, upd ta t (-1), iR, se, ck, iW, tw, bk, rT, rS, rB, rP, yR, ys, yW, yw)) : wY_blocked_42 post (nI t) w (nI th) (nI wd) (nI rl) (nI kl) (nI nw) (nI rc) bas hd ph ou st pt be re ta iR se ck iW tw bk rT rS rB rP yR ys yW yw := by
  unfold wY_blocked_42
  refine br_f w0 (yh_ab ht hw hz ?_)
  exact br_f w0 h
theorem sm_obs {t a : Nat} (F : sm_F th wd rl kl nw rc lw me bas ph ou st pt be re ta ld rm wm hm km bm se tw rT rS rB rP xR xW xs xw od po ch cl hd iR ck iW bk yR ys yW yw) (ht : t < th) (ha : a < wd) (hq : sm_tn (ph t) < 8) :
    (sm_S rc yW rP a ≤ sm_tn (st t) ∧ (∀ s, s < th → hd a = nI s → s = t) ∧ (∀ post : Int32 → Prop, post 0 → wpX_obstacle post (nI th, nI wd, nI rl, nI kl, nI nw, nI rc, lw, me, bas, ph, ou, st, pt, be, re, ta, ld, rm, wm, hm, km, bm, se, tw, rT, rS, rB, rP, xR, xW, xs, xw, od, po, ch, cl) (nI t) (nI a)) ∧ (∀ post : Int32 → SY → Prop, post 0 (nI th, nI wd, nI rl, nI kl, nI nw, nI rc, bas, hd, ph, ou, st, pt, be, re, ta, iR, se, ck, iW, tw, bk, rT, rS, rB, rP, yR, ys, yW, yw) → wpY_blocked post (nI th, nI wd, nI rl, nI kl, nI nw, nI rc, bas, hd, ph, ou, st, pt, be, re, ta, iR, se, ck, iW, tw, bk, rT, rS, rB, rP, yR, ys, yW, yw) (nI t) (nI a))) ∨
    (∃ w : Int32, ¬ w = 0 ∧ (∀ post : Int32 → Prop, post w → wpX_obstacle post (nI th, nI wd, nI rl, nI kl, nI nw, nI rc, lw, me, bas, ph, ou, st, pt, be, re, ta, ld, rm, wm, hm, km, bm, se, tw, rT, rS, rB, rP, xR, xW, xs, xw, od, po, ch, cl) (nI t) (nI a)) ∧ (∀ (post : Int32 → SY → Prop) (p : Int32), (((∀ a, a < wd → ¬ hd a = nI t) ∧ p = 0) ∨ ((∃ a, a < wd ∧ hd a = nI t) ∧ p = 10)) → post 1 (nI th, nI wd, nI rl, nI kl, nI nw, nI rc, bas, hd, upd ph t p, upd ou t w, st, pt, be, re, upd ta t (-1), iR, se, ck, iW, tw, bk, rT, rS, rB, rP, yR, ys, yW, yw) → wpY_blocked post (nI th, nI wd, nI rl, nI kl, nI nw, nI rc, bas, hd, ph, ou, st, pt, be, re, ta, iR, se, ck, iW, tw, bk, rT, rS, rB, rP, yR, ys, yW, yw) (nI t) (nI a))) := by
  obtain ⟨⟨n1, n2, n3, n4, n5, n6, n7, n8, n9, n10⟩, ⟨R, C, Q, O⟩, T, H, Ww, Pp, Dd⟩ := F
  obtain ⟨v, o, w1, w2, w3, w4, w5, w6, w7⟩ := Ww a ha
  obtain ⟨t1, t2, t3, t4, _⟩ := T t ht
  have ea : (nI a).toNatClampNeg = a := nI_clamp (by omega)
  have et : (nI t).toNatClampNeg = t := nI_clamp (by omega)
  have hv : vp_in (nI a) 8 := vp_in_nI (by omega) (by omega)
  have hS : sm_S rc yW rP a ≤ 32 := sm_sp_b rc fun c hc => by have := (Q.1 c hc).2.1; omega
  have dis : ((hd a < 0 ∨ hd a = nI t) ∧ (o = 0 ∨ o = t + 1) ∧ (∀ s, s < th → hd a = nI s → s = t)) ∨ (∃ s, s < th ∧ hd a = nI s ∧ s ≠ t ∧ o = s + 1) := by
    rcases H.1 a (by omega) with k | ⟨s, s1, s2, s3⟩
    · have o0 : o = 0 := sm_o0 w2 (k.symm.trans w4)
      exact Or.inl ⟨Or.inl (by rw [k]; exact sm_m1), Or.inl o0, fun s hs e => absurd (e.symm.trans k) (sm_ne1 (by omega))⟩
    · have os : o = s + 1 := sm_os w2 (by omega) (s3.symm.trans w4)
      by_cases e : s = t
      · subst e
        exact Or.inl ⟨Or.inr s3, Or.inr os, fun r hr e => sm_ne (e.symm.trans s3) (by omega) (by omega)⟩
      · exact Or.inr ⟨s, s1, s3, e, os⟩
  rcases dis with ⟨y1, o1, s1⟩ | ⟨s, s1, s3, e, os⟩
  · have ev : v = sm_S rc yW rP a := w5 fun s hs e => by rw [s1 s hs e]; exact Or.inl hq
    have Y23 : ∀ post : Int32 → SY → Prop, wY_blocked_23 post (nI t) (nI a) (nI th) (nI wd) (nI rl) (nI kl) (nI nw) (nI rc) bas hd ph ou st pt be re ta iR se ck iW tw bk rT rS rB rP yR ys yW yw → wpY_blocked post (nI th, nI wd, nI rl, nI kl, nI nw, nI rc, bas, hd, ph, ou, st, pt, be, re, ta, iR, se, ck, iW, tw, bk, rT, rS, rB, rP, yR, ys, yW, yw) (nI t) (nI a) := fun post k => by
      unfold wpY_blocked
      refine And.intro hv ?_
      rw [ea]
      rcases y1 with y | y
      · exact br_t y k
      · exact br_f (by rw [y]; exact nI_pos (by omega)) (And.intro hv (br_t y k))
    have Yst : ∀ post : Int32 → Prop, post (nI (sm_S rc yW rP a)) → wpY_stampOf post (nI th, nI wd, nI rl, nI kl, nI nw, nI rc, bas, hd, ph, ou, st, pt, be, re, ta, iR, se, ck, iW, tw, bk, rT, rS, rB, rP, yR, ys, yW, yw) (nI a) := fun post k => yh_stamp (by omega) (by omega) (sm_hP (by omega) Q) (sm_h1 (fun c hc => (Q.1 c hc).2.2) n4 R ha) (Q.2.2 a ha) k
    by_cases l : v ≤ sm_tn (st t)
    · refine Or.inl ⟨by omega, s1, fun post hp => ?_, fun post hp => Y23 post ?_⟩
      · exact xh_obV (by omega) (by omega) w3 w1 o1 t3 (by omega) (fun _ => hp) (fun k => by omega)
      · unfold wY_blocked_23
        refine Yst _ (And.intro (vp_in_nI (by omega) (by omega)) (br_t ?_ (br_t rfl (br_t rfl hp))))
        rw [et, t3]; exact nI_le (by omega) (by omega)
    · refine Or.inr ⟨3, by decide, fun post hp => ?_, fun post p hz hp => Y23 post ?_⟩
      · exact xh_obV (by omega) (by omega) w3 w1 o1 t3 (by omega) (fun k => absurd k l) (fun _ => hp)
      · unfold wY_blocked_23
        refine Yst _ (And.intro (vp_in_nI (by omega) (by omega)) (br_f ?_ (yb_42 (by omega) n4 (by decide) hz hp)))
        rw [et, t3]; exact nI_ge (by omega) (by omega)
  · refine Or.inr ⟨2, by decide, fun post hp => ?_, fun post p hz hp => ?_⟩
    · rw [os] at w3
      exact xh_obH (by omega) (by omega) w3 w1 (by omega) e hp
    · unfold wpY_blocked
      refine And.intro hv ?_
      rw [ea]
      refine br_f (by rw [s3]; exact nI_pos (by omega)) (And.intro hv (br_f ?_ (yb_42 (by omega) n4 (by decide) hz hp)))
      rw [s3]; exact fun k => e (sm_ne k (by omega) (by omega))
/-! cancel -/
theorem aa_cancel {k' : Nat} (F : sm_F th wd rl kl nw rc lw me bas ph ou st pt be re ta ld rm wm hm km bm se tw rT rS rB rP xR xW xs xw od po ch cl hd iR ck iW bk yR ys yW yw) (v1 : Int32) : wpX_cancel (fun r u' => wpY_cancel (fun r' v' => r' = r ∧ i_Rel k' u' v') (nI th, nI wd, nI rl, nI kl, nI nw, nI rc, bas, hd, ph, ou, st, pt, be, re, ta, iR, se, ck, iW, tw, bk, rT, rS, rB, rP, yR, ys, yW, yw) v1) (nI th, nI wd, nI rl, nI kl, nI nw, nI rc, lw, me, bas, ph, ou, st, pt, be, re, ta, ld, rm, wm, hm, km, bm, se, tw, rT, rS, rB, rP, xR, xW, xs, xw, od, po, ch, cl) v1 := by
  have F' := F
  obtain ⟨⟨n1, n2, n3, n4, n5, n6, n7, n8, n9, n10⟩, ⟨R, C, Q, O⟩, T, H, Ww, Pp, Dd⟩ := F
  unfold wpX_cancel
  rcases pk_ix v1 (n := th) (by omega) with h | h | ⟨t, ht, rfl⟩
  · refine xh_T0 (Or.inl h) (br_t rfl ?_)
    unfold wpY_cancel
    exact yh_T0 (Or.inl h) (br_f sm_10 (And.intro rfl (zz_in F')))
  · refine xh_T0 (Or.inr h) (br_t rfl ?_)
    unfold wpY_cancel
    exact yh_T0 (Or.inr h) (br_f sm_10 (And.intro rfl (zz_in F')))
  · obtain ⟨t1, t2, _⟩ := T t ht
    have et : (nI t).toNatClampNeg = t := nI_clamp (by omega)
    have hv : vp_in (nI t) 4 := vp_in_nI (by omega) (by omega)
    refine xh_T ht n2 (br_f sm_10 (And.intro hv ?_))
    rw [et]
    have Y : ∀ post : Int32 → SY → Prop, ((ph t < 1 → post (-1) (nI th, nI wd, nI rl, nI kl, nI nw, nI rc, bas, hd, ph, ou, st, pt, be, re, ta, iR, se, ck, iW, tw, bk, rT, rS, rB, rP, yR, ys, yW, yw)) ∧ (¬ ph t < 1 → ((ph t ≤ 7 → wpY_abort (fun r u => match u with | (y0, y1, y2, y3, y4, y5, y6, y7, y8, y9, y10, y11, y12, y13, y14, y15, y16, y17, y18, y19, y20, y21, y22, y23, y24, y25, y26, y27, y28) => post r (y0, y1, y2, y3, y4, y5, y6, y7, y8, y9, y10, y11, y12, y13, y14, y15, y16, y17, y18, y19, y20, y21, y22, y23, y24, y25, y26, y27, y28)) (nI th, nI wd, nI rl, nI kl, nI nw, nI rc, bas, hd, ph, ou, st, pt, be, re, ta, iR, se, ck, iW, tw, bk, rT, rS, rB, rP, yR, ys, yW, yw) (nI t) 6) ∧ (¬ ph t ≤ 7 → post (-1) (nI th, nI wd, nI rl, nI kl, nI nw, nI rc, bas, hd, ph, ou, st, pt, be, re, ta, iR, se, ck, iW, tw, bk, rT, rS, rB, rP, yR, ys, yW, yw))))) → wpY_cancel post (nI th, nI wd, nI rl, nI kl, nI nw, nI rc, bas, hd, ph, ou, st, pt, be, re, ta, iR, se, ck, iW, tw, bk, rT, rS, rB, rP, yR, ys, yW, yw) (nI t) := fun post k => by
      unfold wpY_cancel
      refine yh_T ht n2 (br_t rfl (And.intro hv ?_))
      rw [et]
      exact br_c k.1 fun a => And.intro hv (k.2 a)
    refine br_c (fun z => Y _ (br_t z (And.intro rfl (zz_in F')))) (fun z => And.intro hv (br_c (fun w => ?_) (fun w => Y _ (br_f z (br_f w (And.intro rfl (zz_in F')))))))
    have q7 : sm_tn (ph t) ≤ 7 := by
      rw [t1] at w
      exact (nI_leI (b := 7) (by omega) (by omega)).mp w
    obtain ⟨p, p1, p2, p3⟩ := sm_ab F' ht q7 6
    refine xh_ab (by omega) p1 ?_
    exact Y _ (br_f z (br_t w (yh_ab (by omega) n4 p2 (And.intro rfl (zz_in p3)))))
end
end
section
section
variable {th wd rl kl nw rc : Nat} {lw me bas ph ou st pt be re ta ld rm wm hm km bm se tw rT rS rB rP xR xW xs xw od po ch cl hd iR ck iW bk yR ys yW yw : Nat → Int32}
theorem xm_fresh {post : SX → Prop} {t : Nat} (ht : t < 4) (h : post (nI th, nI wd, nI rl, nI kl, nI nw, nI rc, lw, me, bas, upd ph t 0, upd ou t 0, upd st t 0, upd pt t 0, upd be t 0, upd re t 0, upd ta t (-1), upd ld t 0, upd rm t 0, upd wm t 0, upd hm t 0, upd km t 0, upd bm t 0, se, tw, rT, rS, rB, rP, xR, xW, xs, xw, od, po, ch, cl)) : wpX_makeFresh post (nI th, nI wd, nI rl, nI kl, nI nw, nI rc, lw, me, bas, ph, ou, st, pt, be, re, ta, ld, rm, wm, hm, km, bm, se, tw, rT, rS, rB, rP, xR, xW, xs, xw, od, po, ch, cl) (nI t) := by
  unfold wpX_makeFresh
  exact sm_st ht (by omega) (sm_st ht (by omega) (sm_st ht (by omega) (sm_st ht (by omega) (sm_st ht (by omega) (sm_st ht (by omega) (sm_st ht (by omega) (sm_st ht (by omega) (sm_st ht (by omega) (sm_st ht (by omega) (sm_st ht (by omega) (sm_st ht (by omega) (sm_st ht (by omega) h))))))))))))
def sm_ZI (t i : Nat) (f f' : Nat → Int32) : Prop := (∀ j, (j < t * 8 ∨ t * 8 + 8 ≤ j) → f' j = f j) ∧ (∀ a, a < i → f' (t * 8 + a) = 0)
theorem sm_ZI_0 (t : Nat) (f : Nat → Int32) : sm_ZI t 0 f f := ⟨fun _ _ => rfl, fun a ha => absurd ha (Nat.not_lt_zero a)⟩
theorem sm_ZI_s {t i : Nat} {f f' : Nat → Int32} (hi : i < 8) (h : sm_ZI t i f f') : sm_ZI t (i + 1) f (upd f' (t * 8 + i) 0) := by
  refine ⟨fun j hj => ?_, fun a ha => ?_⟩
  · rw [sm_un (by omega)]; exact h.1 j hj
  · rcases Nat.lt_or_ge a i with l | l
    · rw [sm_un (by omega)]; exact h.2 a l
    · rw [show a = i by omega, sm_us]
theorem sm_ZI_n {t s a : Nat} {f f' : Nat → Int32} (h : sm_ZI t 8 f f') (ne : s ≠ t) (ha : a < 8) : sm_rw f' s a = sm_rw f s a := h.1 (s * 8 + a) (by omega)
theorem sm_e8 (t : Nat) : nI t * 8 + 8 = nI (t * 8 + 8) := by rw [sm_t8]; exact nI_add (t * 8) 8
theorem yc_60 {post : SY → Prop} {t : Nat} (ht : t < 4) (hp : ∀ iR' iW', sm_ZI t 8 iR iR' → sm_ZI t 8 iW iW' → post (nI th, nI wd, nI rl, nI kl, nI nw, nI rc, bas, hd, ph, ou, st, pt, be, re, ta, iR', se, ck, iW', tw, bk, rT, rS, rB, rP, yR, ys, yW, yw)) : ∀ (d i : Nat) (iR' iW' : Nat → Int32), i + d = 8 → sm_ZI t i iR iR' → sm_ZI t i iW iW' → wY_clear_60 post (nI t) (nI th) (nI wd) (nI rl) (nI kl) (nI nw) (nI rc) (d + 1) (nI (t * 8 + i)) bas hd ph ou st pt be re ta iR' se ck iW' tw bk rT rS rB rP yR ys yW yw := by
  intro d
  induction d with
  | zero =>
    intro i iR' iW' hi h1 h2
    have : i = 8 := by omega
    subst this
    exact br_t (by rw [sm_e8]; exact nI_le (Nat.le_refl _) (by omega)) (hp _ _ h1 h2)
  | succ d ih =>
    intro i iR' iW' hi h1 h2
    exact br_f (by rw [sm_e8]; exact nI_ge (by omega) (by omega)) (sm_sv (by omega) (by omega) sm_vb0 (sm_sv (by omega) (by omega) sm_vb0 (nm_r (nI_1 _) (ih (i + 1) _ _ (by omega) (sm_ZI_s (by omega) h1) (sm_ZI_s (by omega) h2)))))
theorem yc_clear {post : SY → Prop} {t : Nat} {p : Int32} (ht : t < 4) (hp : ∀ iR' iW', sm_ZI t 8 iR iR' → sm_ZI t 8 iW iW' → post (nI th, nI wd, nI rl, nI kl, nI nw, nI rc, bas, hd, upd ph t p, upd ou t 0, upd st t (nI nw), upd pt t 0, upd be t (nI rc), upd re t 0, upd ta t (-1), iR', se, ck, iW', tw, bk, rT, rS, rB, rP, yR, ys, yW, yw)) : wpY_clear post (nI th, nI wd, nI rl, nI kl, nI nw, nI rc, bas, hd, ph, ou, st, pt, be, re, ta, iR, se, ck, iW, tw, bk, rT, rS, rB, rP, yR, ys, yW, yw) (nI t) p := by
  unfold wpY_clear
  refine sm_st ht (by omega) (sm_st ht (by omega) (sm_st ht (by omega) (sm_st ht (by omega) (sm_st ht (by omega) (sm_st ht (by omega) (sm_st ht (by omega) (nm_r (sm_t8 t) (Exists.intro 9 ?_))))))))
  exact yc_60 ht hp 8 0 iR iW (by omega) (sm_ZI_0 t iR) (sm_ZI_0 t iW)
/-- a thread made new, in a phase below 2 -/
theorem sm_new {t q' : Nat} {iR' iW' : Nat → Int32} {x : Int32} {x0 : Nat} (F : sm_F th wd rl kl nw rc lw me bas ph ou st pt be re ta ld rm wm hm km bm se tw rT rS rB rP xR xW xs xw od po ch cl hd iR ck iW bk yR ys yW yw) (ht : t < th) (hq : sm_tn (ph t) = 0) (hq' : q' < 2) (hx : x = nI x0) (hx0 : x0 ≤ nw) (ou' be' re' : Nat → Int32) (z1 : sm_ZI t 8 iR iR') (z2 : sm_ZI t 8 iW iW') : sm_F th wd rl kl nw rc lw me bas (upd ph t (nI q')) ou' (upd st t x) (upd pt t 0) be' re' (upd ta t (-1)) (upd ld t 0) (upd rm t 0) (upd wm t 0) (upd hm t 0) (upd km t 0) (upd bm t 0) se tw rT rS rB rP xR xW xs xw od po ch cl hd iR' ck iW' bk yR ys yW yw := by
  obtain ⟨N, G, FT⟩ := F
  have N' := N
  obtain ⟨n1, n2, n3, n4, n5, n6, n7, n8, n9, n10⟩ := N'
  have H := FT.2.1
  refine ⟨N, G, ?_⟩
  have nh := (H.2 t ht).2.1 (by omega)
  refine sm_fr (q' := q') ht n2 n4 FT (fun s hs => ⟨sm_un hs, sm_un hs, sm_un hs, sm_un hs, sm_un hs, sm_un hs, sm_un hs, sm_un hs, sm_un hs, sm_un hs⟩) (fun s hs a ha => ⟨sm_ZI_n z1 hs ha, sm_ZI_n z2 hs ha, rfl, rfl, rfl⟩) sm_us (by omega) ?_ ?_ (by omega) (by omega) (fun h => by omega) (fun h => by omega)
  · rw [sm_us, sm_us, sm_us, sm_us, sm_us, hx]
    exact ⟨by rw [sm_tnN (by omega)], by rw [sm_tnN (by omega)]; exact hx0, sm_MK0 z1.2, sm_MK0 z2.2, fun a ha => ⟨Or.inl (z1.2 a ha), Or.inl (z2.2 a ha)⟩, fun a _ ha => ⟨z1.2 a ha, z2.2 a ha⟩, fun h => by omega, fun h => by omega, fun h => by omega, fun h => by omega, fun h => by omega⟩
  · rw [sm_us]
    exact ⟨sm_MK0 fun a ha => sm_hwz.mpr (nh a ha), fun _ => nh, fun h => by omega, fun h => by omega, fun h => by omega, fun h => by omega⟩
theorem aa_begin {k' : Nat} (F : sm_F th wd rl kl nw rc lw me bas ph ou st pt be re ta ld rm wm hm km bm se tw rT rS rB rP xR xW xs xw od po ch cl hd iR ck iW bk yR ys yW yw) (v1 : Int32) : wpX_begin (fun r u' => wpY_begin (fun r' v' => r' = r ∧ i_Rel k' u' v') (nI th, nI wd, nI rl, nI kl, nI nw, nI rc, bas, hd, ph, ou, st, pt, be, re, ta, iR, se, ck, iW, tw, bk, rT, rS, rB, rP, yR, ys, yW, yw) v1) (nI th, nI wd, nI rl, nI kl, nI nw, nI rc, lw, me, bas, ph, ou, st, pt, be, re, ta, ld, rm, wm, hm, km, bm, se, tw, rT, rS, rB, rP, xR, xW, xs, xw, od, po, ch, cl) v1 := by
  have F' := F
  obtain ⟨⟨n1, n2, n3, n4, n5, n6, n7, n8, n9, n10⟩, ⟨R, C, Q, O⟩, T, H, Ww, Pp, Dd⟩ := F
  unfold wpX_begin
  rcases pk_ix v1 (n := th) (by omega) with h | h | ⟨t, ht, rfl⟩
  · refine xh_T0 (Or.inl h) (br_t rfl ?_)
    unfold wpY_begin
    exact yh_T0 (Or.inl h) (br_f sm_10 (And.intro rfl (zz_in F')))
  · refine xh_T0 (Or.inr h) (br_t rfl ?_)
    unfold wpY_begin
    exact yh_T0 (Or.inr h) (br_f sm_10 (And.intro rfl (zz_in F')))
  · obtain ⟨t1, t2, _⟩ := T t ht
    have et : (nI t).toNatClampNeg = t := nI_clamp (by omega)
    have hv : vp_in (nI t) 4 := vp_in_nI (by omega) (by omega)
    refine xh_T ht n2 (br_f sm_10 (And.intro hv ?_))
    rw [et]
    refine br_c (fun z => ?_) (fun z => ?_)
    · refine xm_fresh (by omega) (And.intro hv (nm_r (e' := upd ph t 1) sm_uu (And.intro hv (nm_r (e' := upd st t (nI nw)) sm_uu (And.intro hv (nm_r (e' := upd be t (nI rc)) sm_uu ?_))))))
      unfold wpY_begin
      refine yh_T ht n2 (br_t rfl (And.intro hv (br_t (by rw [et]; exact z) ?_)))
      refine yc_clear (by omega) fun iR' iW' z1 z2 => And.intro hv (And.intro ?_ (zz_in ?_))
      · rw [et, sm_us]
      · exact sm_new (q' := 1) F' ht (by rw [z]; rfl) (by omega) rfl (Nat.le_refl _) _ _ _ z1 z2
    · unfold wpY_begin
      exact yh_T ht n2 (br_t rfl (And.intro hv (br_f (by rw [et]; exact z) (And.intro rfl (zz_in F')))))
theorem aa_read {k' : Nat} (F : sm_F th wd rl kl nw rc lw me bas ph ou st pt be re ta ld rm wm hm km bm se tw rT rS rB rP xR xW xs xw od po ch cl hd iR ck iW bk yR ys yW yw) (v1 v2 : Int32) : wpX_read (fun r u' => wpY_read (fun r' v' => r' = r ∧ i_Rel k' u' v') (nI th, nI wd, nI rl, nI kl, nI nw, nI rc, bas, hd, ph, ou, st, pt, be, re, ta, iR, se, ck, iW, tw, bk, rT, rS, rB, rP, yR, ys, yW, yw) v1 v2) (nI th, nI wd, nI rl, nI kl, nI nw, nI rc, lw, me, bas, ph, ou, st, pt, be, re, ta, ld, rm, wm, hm, km, bm, se, tw, rT, rS, rB, rP, xR, xW, xs, xw, od, po, ch, cl) v1 v2 := by
  have F' := F
  obtain ⟨N, G, FT⟩ := F
  have F := F'
  obtain ⟨⟨n1, n2, n3, n4, n5, n6, n7, n8, n9, n10⟩, ⟨R, C, Q, O⟩, T, H, Ww, Pp, Dd⟩ := F
  unfold wpX_read
  rcases pk_ix v1 (n := th) (by omega) with h | h | ⟨t, ht, rfl⟩
  · refine xh_O00 (Or.inl h) (br_t rfl ?_)
    unfold wpY_read
    exact yh_T0 (Or.inl h) (br_f sm_10 (And.intro rfl (zz_in F')))
  · refine xh_O00 (Or.inr h) (br_t rfl ?_)
    unfold wpY_read
    exact yh_T0 (Or.inr h) (br_f sm_10 (And.intro rfl (zz_in F')))
  · obtain ⟨t1, t2, t3, t4, t5, t6, t7, t8, t9, t10, t11, t12, t13⟩ := T t ht
    have et : (nI t).toNatClampNeg = t := nI_clamp (by omega)
    have hv : vp_in (nI t) 4 := vp_in_nI (by omega) (by omega)
    by_cases hp : ph t = 1
    · refine xh_O ht n2 hp (br_f sm_10 ?_)
      have q1 : sm_tn (ph t) = 1 := by rw [hp]; rfl
      rcases pk_ix v2 (n := wd) (by omega) with h | h | ⟨a, ha, rfl⟩
      · refine xh_W0 (Or.inl h) (br_t rfl ?_)
        unfold wpY_read
        exact yh_T ht n2 (br_t rfl (yh_W0 (Or.inl h) (br_f sm_10 (And.intro rfl (zz_in F')))))
      · refine xh_W0 (Or.inr h) (br_t rfl ?_)
        unfold wpY_read
        exact yh_T ht n2 (br_t rfl (yh_W0 (Or.inr h) (br_f sm_10 (And.intro rfl (zz_in F')))))
      · have hw : vp_in (nI t * 8 + nI a) 32 := sm_in (sm_ix t a) (by omega) (by omega)
        have e1 : (nI t * 8 + nI a).toNatClampNeg = t * 8 + a := sm_cl (sm_ix t a) (by omega)
        refine xh_W ha n4 (br_f sm_10 (And.intro hv ?_))
        rw [et]
        refine xh_has t6 (by omega) (fun z => br_t rfl ?_) (fun z => br_f sm_10 (And.intro hw (And.intro hv ?_)))
        · have Y : ∀ post : Int32 → SY → Prop, wpY_blocked (fun r u => match u with | (y0, y1, y2, y3, y4, y5, y6, y7, y8, y9, y10, y11, y12, y13, y14, y15, y16, y17, y18, y19, y20, y21, y22, y23, y24, y25, y26, y27, y28) => ((r = 0 → (vp_in (nI t) 4 ∧ ∀ z, z = upd y14 (nI t).toNatClampNeg (nI a) → (vp_in (nI t) 4 ∧ ∀ w, w = upd y8 (nI t).toNatClampNeg 2 → post 1 (y0, y1, y2, y3, y4, y5, y6, y7, w, y9, y10, y11, y12, y13, z, y15, y16, y17, y18, y19, y20, y21, y22, y23, y24, y25, y26, y27, y28)))) ∧ (¬ r = 0 → post (-2) (y0, y1, y2, y3, y4, y5, y6, y7, y8, y9, y10, y11, y12, y13, y14, y15, y16, y17, y18, y19, y20, y21, y22, y23, y24, y25, y26, y27, y28)))) (nI th, nI wd, nI rl, nI kl, nI nw, nI rc, bas, hd, ph, ou, st, pt, be, re, ta, iR, se, ck, iW, tw, bk, rT, rS, rB, rP, yR, ys, yW, yw) (nI t) (nI a) → wpY_read post (nI th, nI wd, nI rl, nI kl, nI nw, nI rc, bas, hd, ph, ou, st, pt, be, re, ta, iR, se, ck, iW, tw, bk, rT, rS, rB, rP, yR, ys, yW, yw) (nI t) (nI a) := fun post k => by
            unfold wpY_read
            refine yh_T ht n2 (br_t rfl (yh_W ha n4 (br_t rfl (And.intro hv (br_t (by rw [et]; exact hp) (And.intro hw (br_t (by rw [e1]; exact z) k)))))))
          rcases sm_obs F' ht ha (by omega) with ⟨o1, o2, o3, o4⟩ | ⟨w, o1, o2, o3⟩
          · refine o3 _ (br_t rfl (And.intro hv (nm_e (And.intro hv (nm_e (Y _ (o4 _ (br_t rfl (sm_st (by omega) (by omega) (sm_st (by omega) (by omega) (And.intro rfl (zz_in ⟨N, G, ?_⟩))))))))))))
            have nh := (H.2 t ht).2.1 (by omega)
            refine sm_fr (q' := 2) ht n2 n4 FT (fun s hs => ⟨sm_un hs, rfl, rfl, sm_un hs, rfl, rfl, rfl, rfl, rfl, rfl⟩) (fun s hs a ha => ⟨rfl, rfl, rfl, rfl, rfl⟩) sm_us (by omega) ⟨t3, t4, t5, t6, t7, t8, fun h => by omega, fun h => by omega, fun h => by omega, fun h => by omega, fun h => by omega⟩ ⟨(H.2 t ht).1, fun _ => nh, fun h => by omega, fun h => by omega, fun h => by omega, fun h => by omega⟩ (by omega) (by omega) (fun h => by omega) (fun _ _ => ⟨a, ha, sm_us, fun s hs ne e => absurd (o2 s hs e) ne, fun h => by omega⟩)
          · obtain ⟨p, p1, p2, p3⟩ := sm_ab F' ht (by omega) w
            refine o2 _ (br_f o1 (xh_ab (by omega) p1 ?_))
            exact Y _ (o3 _ p p2 (br_f sm_10 (And.intro rfl (zz_in p3))))
        · rw [e1]
          refine nm_e ?_
          unfold wpY_read
          refine yh_T ht n2 (br_t rfl (yh_W ha n4 (br_t rfl (And.intro hv (br_t (by rw [et]; exact hp) (And.intro hw (br_f (by rw [e1]; exact z) (And.intro hw (And.intro hv (nm_r (e' := upd re t (tw (t * 8 + a))) (by rw [et, e1]) ?_))))))))))
          exact And.intro rfl (zz_in F')
    · refine xh_O0 ht n2 hp (br_t rfl ?_)
      unfold wpY_read
      refine yh_T ht n2 (br_t rfl ?_)
      rcases pk_ix v2 (n := wd) (by omega) with h | h | ⟨a, ha, rfl⟩
      · exact yh_W0 (Or.inl h) (br_f sm_10 (And.intro rfl (zz_in F')))
      · exact yh_W0 (Or.inr h) (br_f sm_10 (And.intro rfl (zz_in F')))
      · exact yh_W ha n4 (br_t rfl (And.intro hv (br_f (by rw [et]; exact hp) (And.intro rfl (zz_in F')))))
/-- a word put into the write set -/
theorem sm_put {t a : Nat} {x : Int32} (F : sm_F th wd rl kl nw rc lw me bas ph ou st pt be re ta ld rm wm hm km bm se tw rT rS rB rP xR xW xs xw od po ch cl hd iR ck iW bk yR ys yW yw) (ht : t < th) (ha : a < wd) (hp : ph t = 1) : sm_F th wd rl kl nw rc lw me bas ph ou st pt be re ta ld rm (upd wm t (wm t ||| ((1 : Int32) <<< (nI a &&& 31)))) hm km bm se (upd tw (t * 8 + a) x) rT rS rB rP xR xW xs xw od po ch cl hd iR ck (upd iW (t * 8 + a) 1) bk yR ys yW yw := by
  obtain ⟨N, G, FT⟩ := F
  have N' := N
  obtain ⟨n1, n2, n3, n4, n5, n6, n7, n8, n9, n10⟩ := N'
  obtain ⟨t1, t2, t3, t4, t5, t6, t7, t8, t9, t10, t11, t12, t13⟩ := FT.1 t ht
  have q1 : sm_tn (ph t) = 1 := by rw [hp]; rfl
  have H := FT.2.1
  have nh := (H.2 t ht).2.1 (by omega)
  refine ⟨N, G, ?_⟩
  have ri : sm_rw (upd iW (t * 8 + a) 1) t a = 1 := sm_us
  have rj : ∀ b, b ≠ a → sm_rw (upd iW (t * 8 + a) 1) t b = sm_rw iW t b := fun b hb => sm_un (by omega)
  refine sm_fr (q' := 1) ht n2 n4 FT (fun s hs => ⟨rfl, rfl, rfl, rfl, rfl, rfl, sm_un hs, rfl, rfl, rfl⟩) (fun s hs b hb => ⟨rfl, sm_un (by omega), rfl, rfl, sm_un (by omega)⟩) hp (by omega) ⟨t3, t4, t5, ?_, fun b hb => ⟨(t7 b hb).1, ?_⟩, fun b h1 h2 => ⟨(t8 b h1 h2).1, ?_⟩, fun h => by omega, fun h => by omega, fun h => by omega, fun h => by omega, fun h => by omega⟩ ⟨(H.2 t ht).1, fun _ => nh, fun h => by omega, fun h => by omega, fun h => by omega, fun h => by omega⟩ (by omega) (by omega) (fun h => by omega) (fun h => by omega)
  · rw [sm_us]
    exact sm_MKs t6 (by omega) (by rw [ri]; exact sm_10) fun i hi ne => by rw [rj i ne]
  · by_cases e : b = a
    · rw [e, ri]; exact Or.inr rfl
    · rw [rj b e]; exact (t7 b hb).2
  · rw [rj b (by omega)]; exact (t8 b h1 h2).2
theorem xp_put {post : Int32 → SX → Prop} {t a : Nat} {x : Int32} (ht : t < 4) (ha : a < 8) (h : post 1 (nI th, nI wd, nI rl, nI kl, nI nw, nI rc, lw, me, bas, ph, ou, st, pt, be, re, ta, ld, rm, upd wm t (wm t ||| ((1 : Int32) <<< (nI a &&& 31))), hm, km, bm, se, upd tw (t * 8 + a) x, rT, rS, rB, rP, xR, xW, xs, xw, od, po, ch, cl)) : wpX_putWrite post (nI th, nI wd, nI rl, nI kl, nI nw, nI rc, lw, me, bas, ph, ou, st, pt, be, re, ta, ld, rm, wm, hm, km, bm, se, tw, rT, rS, rB, rP, xR, xW, xs, xw, od, po, ch, cl) (nI t) (nI a) x := by
  unfold wpX_putWrite
  exact And.intro (vp_in_nI ht (by omega)) (sm_sv ht (by omega) (by rw [nI_clamp (n := t) (by omega)]) (sm_si (sm_ix t a) (by omega) (by omega) rfl h))
theorem yp_write {post : Int32 → SY → Prop} {t a : Nat} {x : Int32} (ht : t < th) (h4 : th ≤ 4) (ha : a < wd) (h8 : wd ≤ 8) (hp : ph t = 1) (h : post 1 (nI th, nI wd, nI rl, nI kl, nI nw, nI rc, bas, hd, ph, ou, st, pt, be, re, ta, iR, se, ck, upd iW (t * 8 + a) 1, upd tw (t * 8 + a) x, bk, rT, rS, rB, rP, yR, ys, yW, yw)) : wpY_write post (nI th, nI wd, nI rl, nI kl, nI nw, nI rc, bas, hd, ph, ou, st, pt, be, re, ta, iR, se, ck, iW, tw, bk, rT, rS, rB, rP, yR, ys, yW, yw) (nI t) (nI a) x := by
  unfold wpY_write
  exact yh_T ht h4 (br_t rfl (yh_W ha h8 (br_t rfl (And.intro (vp_in_nI (by omega) (by omega)) (br_t (by rw [nI_clamp (n := t) (by omega)]; exact hp) (sm_si (sm_ix t a) (by omega) (by omega) sm_vb1 (sm_si (sm_ix t a) (by omega) (by omega) rfl h)))))))
theorem aa_write {k' : Nat} (F : sm_F th wd rl kl nw rc lw me bas ph ou st pt be re ta ld rm wm hm km bm se tw rT rS rB rP xR xW xs xw od po ch cl hd iR ck iW bk yR ys yW yw) (v1 v2 v3 : Int32) : wpX_write (fun r u' => wpY_write (fun r' v' => r' = r ∧ i_Rel k' u' v') (nI th, nI wd, nI rl, nI kl, nI nw, nI rc, bas, hd, ph, ou, st, pt, be, re, ta, iR, se, ck, iW, tw, bk, rT, rS, rB, rP, yR, ys, yW, yw) v1 v2 v3) (nI th, nI wd, nI rl, nI kl, nI nw, nI rc, lw, me, bas, ph, ou, st, pt, be, re, ta, ld, rm, wm, hm, km, bm, se, tw, rT, rS, rB, rP, xR, xW, xs, xw, od, po, ch, cl) v1 v2 v3 := by
  have F' := F
  obtain ⟨⟨n1, n2, n3, n4, n5, n6, n7, n8, n9, n10⟩, ⟨R, C, Q, O⟩, T, H, Ww, Pp, Dd⟩ := F
  unfold wpX_write
  rcases pk_ix v1 (n := th) (by omega) with h | h | ⟨t, ht, rfl⟩
  · refine xh_O00 (Or.inl h) (br_t rfl ?_)
    unfold wpY_write
    exact yh_T0 (Or.inl h) (br_f sm_10 (And.intro rfl (zz_in F')))
  · refine xh_O00 (Or.inr h) (br_t rfl ?_)
    unfold wpY_write
    exact yh_T0 (Or.inr h) (br_f sm_10 (And.intro rfl (zz_in F')))
  · have et : (nI t).toNatClampNeg = t := nI_clamp (by omega)
    have hv : vp_in (nI t) 4 := vp_in_nI (by omega) (by omega)
    by_cases hp : ph t = 1
    · refine xh_O ht n2 hp (br_f sm_10 ?_)
      rcases pk_ix v2 (n := wd) (by omega) with h | h | ⟨a, ha, rfl⟩
      · refine xh_W0 (Or.inl h) (br_t rfl ?_)
        unfold wpY_write
        exact yh_T ht n2 (br_t rfl (yh_W0 (Or.inl h) (br_f sm_10 (And.intro rfl (zz_in F')))))
      · refine xh_W0 (Or.inr h) (br_t rfl ?_)
        unfold wpY_write
        exact yh_T ht n2 (br_t rfl (yh_W0 (Or.inr h) (br_f sm_10 (And.intro rfl (zz_in F')))))
      · refine xh_W ha n4 (br_f sm_10 (xp_put (by omega) (by omega) ?_))
        exact yp_write ht n2 ha n4 hp (And.intro rfl (zz_in (sm_put F' ht ha hp)))
    · refine xh_O0 ht n2 hp (br_t rfl ?_)
      unfold wpY_write
      refine yh_T ht n2 (br_t rfl ?_)
      rcases pk_ix v2 (n := wd) (by omega) with h | h | ⟨a, ha, rfl⟩
      · exact yh_W0 (Or.inl h) (br_f sm_10 (And.intro rfl (zz_in F')))
      · exact yh_W0 (Or.inr h) (br_f sm_10 (And.intro rfl (zz_in F')))
      · exact yh_W ha n4 (br_t rfl (And.intro hv (br_f (by rw [et]; exact hp) (And.intro rfl (zz_in F')))))
theorem aa_writeSum {k' : Nat} (F : sm_F th wd rl kl nw rc lw me bas ph ou st pt be re ta ld rm wm hm km bm se tw rT rS rB rP xR xW xs xw od po ch cl hd iR ck iW bk yR ys yW yw) (v1 v2 v3 : Int32) : wpX_writeSum (fun r u' => wpY_writeSum (fun r' v' => r' = r ∧ i_Rel k' u' v') (nI th, nI wd, nI rl, nI kl, nI nw, nI rc, bas, hd, ph, ou, st, pt, be, re, ta, iR, se, ck, iW, tw, bk, rT, rS, rB, rP, yR, ys, yW, yw) v1 v2 v3) (nI th, nI wd, nI rl, nI kl, nI nw, nI rc, lw, me, bas, ph, ou, st, pt, be, re, ta, ld, rm, wm, hm, km, bm, se, tw, rT, rS, rB, rP, xR, xW, xs, xw, od, po, ch, cl) v1 v2 v3 := by
  have F' := F
  obtain ⟨⟨n1, n2, n3, n4, n5, n6, n7, n8, n9, n10⟩, ⟨R, C, Q, O⟩, T, H, Ww, Pp, Dd⟩ := F
  unfold wpX_writeSum
  rcases pk_ix v1 (n := th) (by omega) with h | h | ⟨t, ht, rfl⟩
  · refine xh_O00 (Or.inl h) (br_t rfl ?_)
    unfold wpY_writeSum
    exact yh_T0 (Or.inl h) (br_f sm_10 (And.intro rfl (zz_in F')))
  · refine xh_O00 (Or.inr h) (br_t rfl ?_)
    unfold wpY_writeSum
    exact yh_T0 (Or.inr h) (br_f sm_10 (And.intro rfl (zz_in F')))
  · have et : (nI t).toNatClampNeg = t := nI_clamp (by omega)
    have hv : vp_in (nI t) 4 := vp_in_nI (by omega) (by omega)
    have Y : ∀ post : Int32 → SY → Prop, wpY_write (fun r u => match u with | (y0, y1, y2, y3, y4, y5, y6, y7, y8, y9, y10, y11, y12, y13, y14, y15, y16, y17, y18, y19, y20, y21, y22, y23, y24, y25, y26, y27, y28) => post r (y0, y1, y2, y3, y4, y5, y6, y7, y8, y9, y10, y11, y12, y13, y14, y15, y16, y17, y18, y19, y20, y21, y22, y23, y24, y25, y26, y27, y28)) (nI th, nI wd, nI rl, nI kl, nI nw, nI rc, bas, hd, ph, ou, st, pt, be, re, ta, iR, se, ck, iW, tw, bk, rT, rS, rB, rP, yR, ys, yW, yw) (nI t) v2 (re t + v3) → wpY_writeSum post (nI th, nI wd, nI rl, nI kl, nI nw, nI rc, bas, hd, ph, ou, st, pt, be, re, ta, iR, se, ck, iW, tw, bk, rT, rS, rB, rP, yR, ys, yW, yw) (nI t) v2 v3 := fun post k => by
      unfold wpY_writeSum
      refine yh_T ht n2 (br_t rfl (And.intro hv ?_))
      rw [et]
      exact k
    by_cases hp : ph t = 1
    · refine xh_O ht n2 hp (br_f sm_10 ?_)
      rcases pk_ix v2 (n := wd) (by omega) with h | h | ⟨a, ha, rfl⟩
      · refine xh_W0 (Or.inl h) (br_t rfl (Y _ ?_))
        unfold wpY_write
        exact yh_T ht n2 (br_t rfl (yh_W0 (Or.inl h) (br_f sm_10 (And.intro rfl (zz_in F')))))
      · refine xh_W0 (Or.inr h) (br_t rfl (Y _ ?_))
        unfold wpY_write
        exact yh_T ht n2 (br_t rfl (yh_W0 (Or.inr h) (br_f sm_10 (And.intro rfl (zz_in F')))))
      · refine xh_W ha n4 (br_f sm_10 (And.intro hv ?_))
        rw [et]
        refine xp_put (by omega) (by omega) ?_
        exact Y _ (yp_write ht n2 ha n4 hp (And.intro rfl (zz_in (sm_put F' ht ha hp))))
    · refine xh_O0 ht n2 hp (br_t rfl (Y _ ?_))
      unfold wpY_write
      refine yh_T ht n2 (br_t rfl ?_)
      rcases pk_ix v2 (n := wd) (by omega) with h | h | ⟨a, ha, rfl⟩
      · exact yh_W0 (Or.inl h) (br_f sm_10 (And.intro rfl (zz_in F')))
      · exact yh_W0 (Or.inr h) (br_f sm_10 (And.intro rfl (zz_in F')))
      · exact yh_W ha n4 (br_t rfl (And.intro hv (br_f (by rw [et]; exact hp) (And.intro rfl (zz_in F')))))
end
end
section
section
variable {th wd rl kl nw rc : Nat} {lw me bas ph ou st pt be re ta ld rm wm hm km bm se tw rT rS rB rP xR xW xs xw od po ch cl hd iR ck iW bk yR ys yW yw : Nat → Int32}
/-! the steps' new states: by the frame -/
theorem sm_load {t a : Nat} (F : sm_F th wd rl kl nw rc lw me bas ph ou st pt be re ta ld rm wm hm km bm se tw rT rS rB rP xR xW xs xw od po ch cl hd iR ck iW bk yR ys yW yw) (ht : t < th) (hp : ph t = 2) (ea : ta t = nI a) (ha : a < 8) : sm_F th wd rl kl nw rc lw me bas (upd ph t 3) ou st pt be re ta (upd ld t (me a)) rm wm hm km bm se tw rT rS rB rP xR xW xs xw od po ch cl hd iR ck iW bk yR ys yW yw := by
  obtain ⟨N, G, FT⟩ := F
  have N' := N
  obtain ⟨n1, n2, n3, n4, n5, n6, n7, n8, n9, n10⟩ := N'
  obtain ⟨t1, t2, t3, t4, t5, t6, t7, t8, t9, t10, t11, t12, t13⟩ := FT.1 t ht
  have q2 : sm_tn (ph t) = 2 := by rw [hp]; rfl
  have H := FT.2.1
  have nh := (H.2 t ht).2.1 (by omega)
  obtain ⟨b, b1, b2, b3, b4⟩ := FT.2.2.2.2 t ht (by omega) (by omega)
  have : b = a := sm_im (b2.symm.trans ea) (by omega) (by omega)
  subst this
  refine ⟨N, G, ?_⟩
  refine sm_fr (q' := 3) ht n2 n4 FT (fun s hs => ⟨sm_un hs, rfl, rfl, rfl, sm_un hs, rfl, rfl, rfl, rfl, rfl⟩) (fun s hs a ha => ⟨rfl, rfl, rfl, rfl, rfl⟩) sm_us (by omega) ⟨t3, t4, t5, t6, t7, t8, fun h => by omega, fun h => by omega, fun h => by omega, fun h => by omega, fun h => by omega⟩ ⟨(H.2 t ht).1, fun _ => nh, fun h => by omega, fun h => by omega, fun h => by omega, fun h => by omega⟩ (by omega) (by omega) (fun h => by omega) (fun _ _ => ⟨b, b1, ea, fun s hs _ e => b3 s hs e, fun _ hS => ?_⟩)
  rw [sm_us]
  obtain ⟨v, o, w1, w2, w3, w4, w5, w6, w7⟩ := FT.2.2.1 b b1
  refine w6 fun s hs e g => ?_
  have k1 := (w7 s hs e).1 (by omega) (by omega)
  have k2 := b3 s hs e (by omega) (by omega)
  omega
/-- the value that a checked read sees -/
theorem sm_seen {t a : Nat} (F : sm_F th wd rl kl nw rc lw me bas ph ou st pt be re ta ld rm wm hm km bm se tw rT rS rB rP xR xW xs xw od po ch cl hd iR ck iW bk yR ys yW yw) (ht : t < th) (hp : ph t = 3) (ea : ta t = nI a) (ha : a < 8) (hS : sm_S rc yW rP a ≤ sm_tn (st t)) : a < wd ∧ ld t = sm_va bas yW yw rP a (sm_tn (st t)) rc := by
  obtain ⟨⟨n1, n2, n3, n4, n5, n6, n7, n8, n9, n10⟩, ⟨R, C, Q, O⟩, T, H, Ww, Pp, Dd⟩ := F
  have q3 : sm_tn (ph t) = 3 := by rw [hp]; rfl
  obtain ⟨b, b1, b2, b3, b4⟩ := Dd t ht (by omega) (by omega)
  have : b = a := sm_im (b2.symm.trans ea) (by omega) (by omega)
  subst this
  refine ⟨b1, ?_⟩
  rw [b4 q3 hS]
  exact (sm_va_sp (Q.2.2 b b1) hS).symm
theorem sm_rdone {t a : Nat} {x : Int32} {se' re' : Nat → Int32} (F : sm_F th wd rl kl nw rc lw me bas ph ou st pt be re ta ld rm wm hm km bm se tw rT rS rB rP xR xW xs xw od po ch cl hd iR ck iW bk yR ys yW yw) (ht : t < th) (hp : ph t = 3) (ha : a < wd) : sm_F th wd rl kl nw rc lw me bas (upd ph t 1) ou st pt be re' (upd ta t x) ld (upd rm t (rm t ||| ((1 : Int32) <<< (nI a &&& 31)))) wm hm km bm se' tw rT rS rB rP xR xW xs xw od po ch cl hd (upd iR (t * 8 + a) 1) ck iW bk yR ys yW yw := by
  obtain ⟨N, G, FT⟩ := F
  have N' := N
  obtain ⟨n1, n2, n3, n4, n5, n6, n7, n8, n9, n10⟩ := N'
  obtain ⟨t1, t2, t3, t4, t5, t6, t7, t8, t9, t10, t11, t12, t13⟩ := FT.1 t ht
  have q1 : sm_tn (ph t) = 3 := by rw [hp]; rfl
  have H := FT.2.1
  have nh := (H.2 t ht).2.1 (by omega)
  refine ⟨N, G, ?_⟩
  have ri : sm_rw (upd iR (t * 8 + a) 1) t a = 1 := sm_us
  have rj : ∀ b, b ≠ a → sm_rw (upd iR (t * 8 + a) 1) t b = sm_rw iR t b := fun b hb => sm_un (by omega)
  refine sm_fr (q' := 1) ht n2 n4 FT (fun s hs => ⟨sm_un hs, rfl, rfl, sm_un hs, rfl, sm_un hs, rfl, rfl, rfl, rfl⟩) (fun s hs b hb => ⟨sm_un (by omega), rfl, rfl, rfl, rfl⟩) sm_us (by omega) ⟨t3, t4, ?_, t6, fun b hb => ⟨?_, (t7 b hb).2⟩, fun b h1 h2 => ⟨?_, (t8 b h1 h2).2⟩, fun h => by omega, fun h => by omega, fun h => by omega, fun h => by omega, fun h => by omega⟩ ⟨(H.2 t ht).1, fun _ => nh, fun h => by omega, fun h => by omega, fun h => by omega, fun h => by omega⟩ (by omega) (by omega) (fun h => by omega) (fun h => by omega)
  · rw [sm_us]
    exact sm_MKs t5 (by omega) (by rw [ri]; exact sm_10) fun i hi ne => by rw [rj i ne]
  · by_cases e : b = a
    · rw [e, ri]; exact Or.inr rfl
    · rw [rj b e]; exact (t7 b hb).1
  · rw [rj b (by omega)]; exact (t8 b h1 h2).1
/-- a check step: word a checked; q' is 7 if that was the last -/
theorem sm_chk {t a q' : Nat} (F : sm_F th wd rl kl nw rc lw me bas ph ou st pt be re ta ld rm wm hm km bm se tw rT rS rB rP xR xW xs xw od po ch cl hd iR ck iW bk yR ys yW yw) (ht : t < th) (hp : ph t = 6) (ha : a < wd) (hr : ¬ iR (t * 8 + a) = 0) (hq' : (q' = 6 ∧ ∃ b, b < wd ∧ ¬ iR (t * 8 + b) = 0 ∧ upd ck (t * 8 + a) 1 (t * 8 + b) = 0) ∨ q' = 7) : sm_F th wd rl kl nw rc lw me bas (upd ph t (nI q')) ou st pt be re ta ld rm wm hm (upd km t (km t ||| ((1 : Int32) <<< (nI a &&& 31)))) bm se tw rT rS rB rP xR xW xs xw od po ch cl hd iR (upd ck (t * 8 + a) 1) iW bk yR ys yW yw := by
  obtain ⟨N, G, FT⟩ := F
  have N' := N
  obtain ⟨n1, n2, n3, n4, n5, n6, n7, n8, n9, n10⟩ := N'
  obtain ⟨t1, t2, t3, t4, t5, t6, t7, t8, t9, t10, t11, t12, t13⟩ := FT.1 t ht
  have q1 : sm_tn (ph t) = 6 := by rw [hp]; rfl
  have H := FT.2.1
  obtain ⟨h1, h2, h3, h4, h5, h6⟩ := H.2 t ht
  obtain ⟨m1, m2, m3⟩ := t9 (by omega)
  refine ⟨N, G, ?_⟩
  have qq : q' = 6 ∨ q' = 7 := by rcases hq' with h | h; exact Or.inl h.1; exact Or.inr h
  have q10 : 6 ≤ q' ∧ q' ≤ 7 := by omega
  have ri : sm_rw (upd ck (t * 8 + a) 1) t a = 1 := sm_us
  have rj : ∀ b, b ≠ a → sm_rw (upd ck (t * 8 + a) 1) t b = sm_rw ck t b := fun b hb => sm_un (by omega)
  have e2 : ∀ s, s ≠ t → ∀ b, b < 8 → sm_rw (upd ck (t * 8 + a) 1) s b = sm_rw ck s b := fun s hs b hb => sm_un (by omega)
  clear qq
  have hA : sm_TA wd nw q' (st t) (rm t) (wm t) (upd km t (km t ||| ((1 : Int32) <<< (nI a &&& 31))) t) (bm t) (sm_rw iR t) (sm_rw iW t) (sm_rw (upd ck (t * 8 + a) 1) t) (sm_rw bk t) := by
    refine ⟨t3, t4, t5, t6, t7, t8, fun _ => ⟨?_, m2, fun b hb => ⟨fun k => ?_, (m3 b hb).2⟩⟩, fun h => by omega, fun _ _ => t11 (by omega) (by omega), fun h => ?_, fun h => by omega⟩
    · rw [sm_us]
      exact sm_MKs m1 (by omega) (by rw [ri]; exact sm_10) fun i hi ne => by rw [rj i ne]
    · by_cases e : b = a
      · rw [e]; exact hr
      · rw [rj b e] at k; exact (m3 b hb).1 k
    · rcases hq' with k | k
      · exact k.2
      · omega
  have hH : sm_HA wd q' t (hm t) hd (sm_rw iW t) := ⟨h1, fun h => by omega, fun _ _ => h3 (by omega) (by omega), fun h => by omega, fun _ _ => h5 (by omega) (by omega), fun _ => h6 (by omega)⟩
  clear hq'
  exact sm_fr (q' := q') ht n2 n4 FT (fun s hs => ⟨sm_un hs, rfl, rfl, rfl, rfl, rfl, rfl, rfl, sm_un hs, rfl⟩) (fun s hs b hb => ⟨rfl, rfl, e2 s hs b hb, rfl, rfl⟩) sm_us (by omega) hA hH (by omega) (by omega) (fun _ _ => ⟨by omega, by omega, rfl⟩) (fun _ h => by omega)
/-- a commit of a writer -/
theorem sm_comw {t : Nat} {ck' bk' : Nat → Int32} (F : sm_F th wd rl kl nw rc lw me bas ph ou st pt be re ta ld rm wm hm km bm se tw rT rS rB rP xR xW xs xw od po ch cl hd iR ck iW bk yR ys yW yw) (ht : t < th) (hp : ph t = 1) (hw : ∃ a, a < 8 ∧ ¬ iW (t * 8 + a) = 0) (z1 : sm_ZI t 8 ck ck') (z2 : sm_ZI t 8 bk bk') : sm_F th wd rl kl nw rc lw me bas (upd ph t 4) ou st pt be re ta ld rm wm hm (upd km t 0) (upd bm t 0) se tw rT rS rB rP xR xW xs xw od po ch cl hd iR ck' iW bk' yR ys yW yw := by
  obtain ⟨N, G, FT⟩ := F
  have N' := N
  obtain ⟨n1, n2, n3, n4, n5, n6, n7, n8, n9, n10⟩ := N'
  obtain ⟨t1, t2, t3, t4, t5, t6, t7, t8, t9, t10, t11, t12, t13⟩ := FT.1 t ht
  have q1 : sm_tn (ph t) = 1 := by rw [hp]; rfl
  have H := FT.2.1
  have nh := (H.2 t ht).2.1 (by omega)
  refine ⟨N, G, ?_⟩
  obtain ⟨a, ha, wa⟩ := hw
  have ha' : a < wd := Nat.lt_of_not_le fun l => wa (t8 a l ha).2
  refine sm_fr (q' := 4) ht n2 n4 FT (fun s hs => ⟨sm_un hs, rfl, rfl, rfl, rfl, rfl, rfl, rfl, sm_un hs, sm_un hs⟩) (fun s hs b hb => ⟨rfl, rfl, sm_ZI_n z1 hs hb, sm_ZI_n z2 hs hb, rfl⟩) sm_us (by omega) ⟨t3, t4, t5, t6, t7, t8, fun _ => ⟨?_, ?_, fun b hb => ⟨fun k => absurd (z1.2 b hb) k, fun k => absurd (z2.2 b hb) k⟩⟩, fun _ b hb => z1.2 b hb, fun _ _ b hb => z2.2 b hb, fun h => by omega, fun h => by omega⟩ ⟨(H.2 t ht).1, fun h => by omega, fun _ _ b hb k => absurd k (nh b hb), fun _ => ⟨a, ha', wa, nh a ha⟩, fun h => by omega, fun h => by omega⟩ (by omega) (by omega) (fun h => by omega) (fun _ h => by omega)
  · rw [sm_us]; exact sm_MK0 z1.2
  · rw [sm_us]; exact sm_MK0 z2.2
end
end
section
section
variable {th wd rl kl nw rc : Nat} {lw me bas ph ou st pt be re ta ld rm wm hm km bm se tw rT rS rB rP xR xW xs xw od po ch cl hd iR ck iW bk yR ys yW yw : Nat → Int32}
theorem sm_TTf {t q' nw' : Nat} {ph' st' rm' wm' km' bm' iR' iW' ck' bk' : Nat → Int32} (h8 : wd ≤ 8) (hn : nw ≤ nw') (T : sm_TT th wd nw ph st rm wm km bm iR iW ck bk) (e1 : ∀ s, s ≠ t → ph' s = ph s ∧ st' s = st s ∧ rm' s = rm s ∧ wm' s = wm s ∧ km' s = km s ∧ bm' s = bm s) (e2 : ∀ s, s ≠ t → ∀ a, a < 8 → sm_rw iR' s a = sm_rw iR s a ∧ sm_rw iW' s a = sm_rw iW s a ∧ sm_rw ck' s a = sm_rw ck s a ∧ sm_rw bk' s a = sm_rw bk s a) (hq : ph' t = nI q') (hq10 : q' ≤ 10) (hA : sm_TA wd nw' q' (st' t) (rm' t) (wm' t) (km' t) (bm' t) (sm_rw iR' t) (sm_rw iW' t) (sm_rw ck' t) (sm_rw bk' t)) : sm_TT th wd nw' ph' st' rm' wm' km' bm' iR' iW' ck' bk' := by
  intro s hs
  by_cases e : s = t
  · subst e
    have : sm_tn (ph' s) = q' := by rw [hq, sm_tnN (by omega)]
    rw [this]
    exact ⟨hq, hq10, hA⟩
  · obtain ⟨k1, k2, k3⟩ := T s hs
    obtain ⟨a1, a2, a6, a7, a9, a10⟩ := e1 s e
    rw [a1, a2, a6, a7, a9, a10]
    exact ⟨k1, k2, sm_TA_n hn (sm_TA_c h8 k3 (e2 s e))⟩
theorem sm_HHf {t q' : Nat} {ph' hm' hd' iW' : Nat → Int32} (h8 : wd ≤ 8) (H : sm_HH th wd ph hm hd iW) (hs0 : ∀ a, a < 8 → hd' a = -1 ∨ ∃ s, s < th ∧ a < wd ∧ hd' a = nI s) (e1 : ∀ s, s < th → s ≠ t → ph' s = ph s ∧ hm' s = hm s ∧ ∀ a, a < 8 → sm_rw iW' s a = sm_rw iW s a ∧ (hd' a = nI s ↔ hd a = nI s)) (hq : ph' t = nI q') (hq10 : q' ≤ 10) (hH : sm_HA wd q' t (hm' t) hd' (sm_rw iW' t)) : sm_HH th wd ph' hm' hd' iW' := by
  refine ⟨hs0, fun s hs => ?_⟩
  by_cases e : s = t
  · subst e
    have : sm_tn (ph' s) = q' := by rw [hq, sm_tnN (by omega)]
    rw [this]; exact hH
  · obtain ⟨a1, a2, a3⟩ := e1 s hs e
    rw [a1, a2]
    exact sm_HA_c h8 (H.2 s hs) (fun a ha => (a3 a ha).1) (fun a ha => (a3 a ha).2)
/-- a word locked -/
theorem sm_lock {t a q' v o : Nat} (F : sm_F th wd rl kl nw rc lw me bas ph ou st pt be re ta ld rm wm hm km bm se tw rT rS rB rP xR xW xs xw od po ch cl hd iR ck iW bk yR ys yW yw) (ht : t < th) (hp : ph t = 4) (ha : a < wd) (hf : hd a = -1) (hw : ¬ iW (t * 8 + a) = 0) (hl : lw a = nI (v * 8 + o)) (hv : v ≤ 32) (ho : o ≤ 4) (hq' : (q' = 4 ∧ ∃ b, b < wd ∧ ¬ iW (t * 8 + b) = 0 ∧ ¬ upd hd a (nI t) b = nI t) ∨ (q' = 5 ∧ ∀ b, b < 8 → ¬ iW (t * 8 + b) = 0 → upd hd a (nI t) b = nI t)) : sm_F th wd rl kl nw rc (upd lw a (nI (v * 8 + (t + 1)))) me bas (upd ph t (nI q')) ou st pt be re ta ld rm wm (upd hm t (hm t ||| ((1 : Int32) <<< (nI a &&& 31)))) km bm se tw rT rS rB rP xR xW xs xw od po ch cl (upd hd a (nI t)) iR ck iW bk yR ys yW yw := by
  obtain ⟨N, G, FT⟩ := F
  have N' := N
  obtain ⟨n1, n2, n3, n4, n5, n6, n7, n8, n9, n10⟩ := N'
  obtain ⟨T, H, Ww, Pp, Dd⟩ := FT
  obtain ⟨t1, t2, t3, t4, t5, t6, t7, t8, t9, t10, t11, t12, t13⟩ := T t ht
  have q4 : sm_tn (ph t) = 4 := by rw [hp]; rfl
  obtain ⟨h1, h2, h3, h4, h5, h6⟩ := H.2 t ht
  have qq : q' = 4 ∨ q' = 5 := by
    rcases hq' with h | h
    · exact Or.inl h.1
    · exact Or.inr h.1
  have eh : ∀ s, s < th → s ≠ t → ∀ b, upd hd a (nI t) b = nI s ↔ hd b = nI s := fun s hs ne b => by
    by_cases e : b = a
    · rw [e, sm_us, hf]
      exact ⟨fun k => absurd (sm_ne k (by omega) (by omega)).symm ne, fun k => absurd k.symm (sm_ne1 (by omega))⟩
    · rw [sm_un e]
  have hH : sm_HA wd q' t (upd hm t (hm t ||| ((1 : Int32) <<< (nI a &&& 31))) t) (upd hd a (nI t)) (sm_rw iW t) := by
    refine ⟨?_, fun h => by omega, fun _ _ b hb k => ?_, fun h => ?_, fun g1 g2 b hb k => ?_, fun _ => ⟨a, ha, sm_us⟩⟩
    · rw [sm_us]
      refine sm_MKs h1 (by omega) (by rw [sm_hw1 sm_us]; exact sm_10) fun i hi ne => ?_
      rw [sm_hwz, sm_hwz, sm_un ne]
    · by_cases e : b = a
      · rw [e]; exact hw
      · rw [sm_un e] at k; exact h3 (by omega) (by omega) b hb k
    · rcases hq' with g | g
      · exact g.2
      · omega
    · rcases hq' with g | g
      · omega
      · exact g.2 b hb k
  clear hq'
  have ep : ∀ s, (sm_tn (upd ph t (nI q') s) = sm_tn (ph s)) ∨ (s = t ∧ sm_tn (upd ph t (nI q') s) ≤ 5 ∧ sm_tn (ph s) ≤ 5) := fun s => by
    by_cases e : s = t
    · right; subst e; rw [sm_us, sm_tnN (by omega)]; omega
    · left; rw [sm_un e]
  refine ⟨N, G, ?_, ?_, fun b hb => ?_, ⟨fun s hs g1 g2 => ?_, fun s hs g1 g2 => ?_, fun r s hr hs ne g1 g2 g3 g4 => ?_⟩, fun s hs g1 g2 => ?_⟩
  · exact sm_TTf (t := t) (q' := q') n4 (Nat.le_refl _) T (fun s hs => ⟨sm_un hs, rfl, rfl, rfl, rfl, rfl⟩) (fun s hs a ha => ⟨rfl, rfl, rfl, rfl⟩) sm_us (by omega) ⟨t3, t4, t5, t6, t7, t8, fun _ => t9 (by omega), fun _ => t10 (by omega), fun _ _ => t11 (by omega) (by omega), fun h => by omega, fun h => by omega⟩
  · refine sm_HHf (t := t) (q' := q') n4 H (fun b hb => ?_) (fun s hs ne => ⟨sm_un ne, sm_un ne, fun b hb => ⟨rfl, eh s hs ne b⟩⟩) sm_us (by omega) hH
    by_cases e : b = a
    · right; exact ⟨t, ht, by omega, by rw [e, sm_us]⟩
    · rw [sm_un e]; exact H.1 b hb
  · by_cases e : b = a
    · subst e
      obtain ⟨v', o', w1, w2, w3, w4, w5, w6, w7⟩ := Ww b hb
      rw [sm_us, sm_us]
      have vv : v' = v := by
        have := hl.symm.trans w3
        have := sm_im this (by omega) (by omega)
        omega
      have only : ∀ s, s < th → nI t = nI s → sm_tn (upd ph t (nI q') s) ≤ 5 := fun s hs k => by
        rw [← sm_ne k (by omega) (by omega), sm_us, sm_tnN (by omega)]; omega
      refine ⟨v, t + 1, hv, by omega, rfl, (nI_pred t).symm, fun _ => ?_, fun _ => ?_, fun s hs k => ?_⟩
      · rw [← vv]
        exact w5 fun s hs k => absurd (k.symm.trans hf) (sm_ne1 (by omega))
      · exact w6 fun s hs k => absurd (k.symm.trans hf) (sm_ne1 (by omega))
      · have := only s hs k
        exact ⟨fun h => by omega, fun h => by omega, fun h => by omega⟩
    · obtain ⟨v', o', w1, w2, w3, w4, w5, w6, w7⟩ := Ww b hb
      rw [sm_un e, sm_un e]
      refine ⟨v', o', w1, w2, w3, w4, fun k => w5 fun s hs g => ?_, fun k => w6 fun s hs g g2 => ?_, fun s hs g => ?_⟩
      · have := k s hs g
        rcases ep s with x | x <;> omega
      · rcases ep s with x | x
        · exact k s hs g (by omega)
        · omega
      · have := w7 s hs g
        rcases ep s with x | ⟨x1, x2, x3⟩
        · rw [x]; exact this
        · exact ⟨fun h => by omega, fun h => by omega, fun h => by omega⟩
  · rcases ep s with x | ⟨x1, x2, x3⟩
    · rw [x] at g1 g2; exact Pp.1 s hs g1 g2
    · omega
  · rcases ep s with x | ⟨x1, x2, x3⟩
    · rw [x] at g1 g2; exact Pp.2.1 s hs g1 g2
    · omega
  · rcases ep r with x | ⟨x1, x2, x3⟩
    · rcases ep s with y | ⟨y1, y2, y3⟩
      · rw [x] at g1 g2; rw [y] at g3 g4; exact Pp.2.2 r s hr hs ne g1 g2 g3 g4
      · omega
    · omega
  · have ne : s ≠ t := fun e => by rw [e, sm_us, sm_tnN (by omega)] at g1 g2; omega
    rw [sm_un ne] at g1 g2 ⊢
    obtain ⟨b, k1, k2, k3, k4⟩ := Dd s hs g1 g2
    refine ⟨b, k1, k2, fun r hr e g3 g4 => ?_, k4⟩
    rcases ep r with x | ⟨x1, x2, x3⟩
    · rw [x] at g3 g4
      have rt : r ≠ t := fun e => by rw [e] at g3 g4; omega
      exact k3 r hr ((eh r hr rt b).mp e) g3 g4
    · omega
/-- the clock step -/
theorem sm_clk {t q' : Nat} (F : sm_F th wd rl kl nw rc lw me bas ph ou st pt be re ta ld rm wm hm km bm se tw rT rS rB rP xR xW xs xw od po ch cl hd iR ck iW bk yR ys yW yw) (ht : t < th) (hp : ph t = 5) (hn : nw < kl) (hq' : (q' = 6 ∧ ¬ rm t = 0) ∨ (q' = 7 ∧ rm t = 0)) : sm_F th wd rl kl (nw + 1) rc lw me bas (upd ph t (nI q')) ou st (upd pt t (nI (nw + 1))) be re ta ld rm wm hm km bm se tw rT rS rB rP xR xW xs xw od po ch cl hd iR ck iW bk yR ys yW yw := by
  obtain ⟨N, G, FT⟩ := F
  have N' := N
  obtain ⟨n1, n2, n3, n4, n5, n6, n7, n8, n9, n10⟩ := N'
  obtain ⟨T, H, Ww, Pp, Dd⟩ := FT
  obtain ⟨R, C, Q, O⟩ := G
  obtain ⟨t1, t2, t3, t4, t5, t6, t7, t8, t9, t10, t11, t12, t13⟩ := T t ht
  have q5 : sm_tn (ph t) = 5 := by rw [hp]; rfl
  obtain ⟨h1, h2, h3, h4, h5, h6⟩ := H.2 t ht
  have hA : sm_TA wd (nw + 1) q' (st t) (rm t) (wm t) (km t) (bm t) (sm_rw iR t) (sm_rw iW t) (sm_rw ck t) (sm_rw bk t) := by
    refine ⟨t3, by omega, t5, t6, t7, t8, fun _ => t9 (by omega), fun h => by omega, fun _ _ => t11 (by omega) (by omega), fun h => ?_, fun h => by omega⟩
    rcases hq' with g | g
    · have z := t10 (Or.inr q5)
      have : ∃ a, a < 8 ∧ ¬ sm_rw iR t a = 0 := Classical.byContradiction fun no => g.2 ((sm_MK00 t5).mpr fun a ha => Classical.byContradiction fun k => no ⟨a, ha, k⟩)
      obtain ⟨a, ha, k⟩ := this
      exact ⟨a, Nat.lt_of_not_le fun l => k (t8 a l ha).1, k, z a ha⟩
    · omega
  have qq : 6 ≤ q' ∧ q' ≤ 7 := by
    rcases hq' with h | h
    · omega
    · omega
  clear hq'
  have et : sm_tn (upd ph t (nI q') t) = q' := by rw [sm_us, sm_tnN (by omega)]
  have ep : ∀ s, s ≠ t → sm_tn (upd ph t (nI q') s) = sm_tn (ph s) := fun s hs => by rw [sm_un hs]
  have pt' : sm_tn (upd pt t (nI (nw + 1)) t) = nw + 1 := by rw [sm_us, sm_tnN (by omega)]
  have ps : ∀ s, s ≠ t → upd pt t (nI (nw + 1)) s = pt s := fun s hs => sm_un hs
  have hS : ∀ a, sm_S rc yW rP a ≤ nw := fun a => sm_sp_b rc fun c hc => (Q.1 c hc).2.1
  refine ⟨⟨n1, n2, n3, n4, n5, n6, n7, n8, by omega, n10⟩, ⟨R, C, ⟨fun c hc => ⟨(Q.1 c hc).1, by have := (Q.1 c hc).2.1; omega, (Q.1 c hc).2.2⟩, Q.2⟩, O⟩, ?_, ?_, fun b hb => ?_, ⟨fun s hs g1 g2 => ?_, fun s hs g1 g2 c hc => ?_, fun r s hr hs ne g1 g2 g3 g4 => ?_⟩, fun s hs g1 g2 => ?_⟩
  · exact sm_TTf (t := t) (q' := q') n4 (by omega) T (fun s hs => ⟨sm_un hs, rfl, rfl, rfl, rfl, rfl⟩) (fun s hs a ha => ⟨rfl, rfl, rfl, rfl⟩) sm_us (by omega) hA
  · exact sm_HHf (t := t) (q' := q') n4 H H.1 (fun s hs ne => ⟨sm_un ne, rfl, fun b hb => ⟨rfl, Iff.rfl⟩⟩) sm_us (by omega) ⟨h1, fun h => by omega, fun _ _ => h3 (by omega) (by omega), fun h => by omega, fun _ _ => h5 (by omega) (by omega), fun _ => h6 (by omega)⟩
  · obtain ⟨v', o', w1, w2, w3, w4, w5, w6, w7⟩ := Ww b hb
    refine ⟨v', o', w1, w2, w3, w4, fun k => w5 fun s hs g => ?_, fun k => w6 fun s hs g g2 => ?_, fun s hs g => ?_⟩
    · by_cases e : s = t
      · rw [e]; omega
      · have := k s hs g
        rw [ep s e] at this; exact this
    · by_cases e : s = t
      · rw [e] at g2; omega
      · exact k s hs g (by rw [ep s e]; exact g2)
    · by_cases e : s = t
      · subst e
        rw [et, pt']
        exact ⟨fun h => by omega, fun h => by omega, fun _ _ => by have := hS b; omega⟩
      · rw [ep s e, ps s e]; exact w7 s hs g
  · by_cases e : s = t
    · subst e
      rw [pt', sm_us]; exact ⟨rfl, by omega, Nat.le_refl _⟩
    · rw [ep s e] at g1 g2
      rw [ps s e]
      have := Pp.1 s hs g1 g2
      exact ⟨this.1, this.2.1, by omega⟩
  · by_cases e : s = t
    · subst e
      rw [pt']
      intro _
      have := (Q.1 c hc).2.1
      omega
    · rw [ep s e] at g1 g2
      rw [ps s e]; exact Pp.2.1 s hs g1 g2 c hc
  · by_cases e : r = t
    · subst e
      rw [ep s (Ne.symm ne)] at g3 g4
      rw [pt', ps s (Ne.symm ne)]
      have := (Pp.1 s hs g3 (by omega)).2.2
      omega
    · rw [ep r e] at g1 g2
      by_cases f : s = t
      · subst f
        rw [pt', ps r e]
        have := (Pp.1 r hr g1 (by omega)).2.2
        omega
      · rw [ep s f] at g3 g4
        rw [ps r e, ps s f]; exact Pp.2.2 r s hr hs ne g1 g2 g3 g4
  · have ne : s ≠ t := fun e => by rw [e, et] at g1 g2; omega
    rw [ep s ne] at g1 g2
    obtain ⟨b, k1, k2, k3, k4⟩ := Dd s hs g1 g2
    rw [ep s ne]
    refine ⟨b, k1, k2, fun r hr e g3 g4 => ?_, k4⟩
    by_cases f : r = t
    · subst f
      rw [pt']
      have := (T s hs).2.2.2.1
      omega
    · rw [ep r f] at g3 g4
      rw [ps r f]; exact k3 r hr e g3 g4
/-- a value written back -/
theorem sm_wb {t a q' : Nat} (F : sm_F th wd rl kl nw rc lw me bas ph ou st pt be re ta ld rm wm hm km bm se tw rT rS rB rP xR xW xs xw od po ch cl hd iR ck iW bk yR ys yW yw) (ht : t < th) (hp : ph t = 8) (ha : a < wd) (hw : ¬ iW (t * 8 + a) = 0) (hq' : (q' = 8 ∧ ∃ b, b < wd ∧ ¬ iW (t * 8 + b) = 0 ∧ upd bk (t * 8 + a) 1 (t * 8 + b) = 0) ∨ (q' = 9 ∧ ∀ b, b < 8 → ¬ iW (t * 8 + b) = 0 → ¬ upd bk (t * 8 + a) 1 (t * 8 + b) = 0)) : sm_F th wd rl kl nw rc lw (upd me a (tw (t * 8 + a))) bas (upd ph t (nI q')) ou st pt be re ta ld rm wm hm km (upd bm t (bm t ||| ((1 : Int32) <<< (nI a &&& 31)))) se tw rT rS rB rP xR xW xs xw od po ch cl hd iR ck iW (upd bk (t * 8 + a) 1) yR ys yW yw := by
  obtain ⟨N, G, FT⟩ := F
  have N' := N
  obtain ⟨n1, n2, n3, n4, n5, n6, n7, n8, n9, n10⟩ := N'
  obtain ⟨T, H, Ww, Pp, Dd⟩ := FT
  obtain ⟨t1, t2, t3, t4, t5, t6, t7, t8, t9, t10, t11, t12, t13⟩ := T t ht
  have q8 : sm_tn (ph t) = 8 := by rw [hp]; rfl
  obtain ⟨h1, h2, h3, h4, h5, h6⟩ := H.2 t ht
  obtain ⟨m1, m2, m3⟩ := t9 (by omega)
  have ri : sm_rw (upd bk (t * 8 + a) 1) t a = 1 := sm_us
  have rj : ∀ b, b ≠ a → sm_rw (upd bk (t * 8 + a) 1) t b = sm_rw bk t b := fun b hb => sm_un (by omega)
  have rs : ∀ s, s ≠ t → ∀ b, b < 8 → sm_rw (upd bk (t * 8 + a) 1) s b = sm_rw bk s b := fun s hs b hb => sm_un (by omega)
  have hA : sm_TA wd nw q' (st t) (rm t) (wm t) (km t) (upd bm t (bm t ||| ((1 : Int32) <<< (nI a &&& 31))) t) (sm_rw iR t) (sm_rw iW t) (sm_rw ck t) (sm_rw (upd bk (t * 8 + a) 1) t) := by
    refine ⟨t3, t4, t5, t6, t7, t8, fun _ => ⟨m1, ?_, fun b hb => ⟨(m3 b hb).1, fun k => ?_⟩⟩, fun h => ?_, fun _ h => ?_, fun h => ?_, fun h => ?_⟩
    · rw [sm_us]
      exact sm_MKs m2 (by omega) (by rw [ri]; exact sm_10) fun i hi ne => by rw [rj i ne]
    · by_cases e : b = a
      · rw [e]; exact hw
      · rw [rj b e] at k; exact (m3 b hb).2 k
    · rcases hq' with g | g <;> omega
    · rcases hq' with g | g <;> omega
    · rcases hq' with g | g <;> omega
    · rcases hq' with g | g
      · exact g.2
      · omega
  have all9 : q' = 9 → ∀ b, b < 8 → ¬ iW (t * 8 + b) = 0 → ¬ upd bk (t * 8 + a) 1 (t * 8 + b) = 0 := fun e => by
    rcases hq' with g | g
    · omega
    · exact g.2
  have qq : 8 ≤ q' ∧ q' ≤ 9 := by
    rcases hq' with h | h
    · omega
    · omega
  clear hq'
  have et : sm_tn (upd ph t (nI q') t) = q' := by rw [sm_us, sm_tnN (by omega)]
  have ep : ∀ s, s ≠ t → sm_tn (upd ph t (nI q') s) = sm_tn (ph s) := fun s hs => by rw [sm_un hs]
  have hda : hd a = nI t := h5 (by omega) (by omega) a (by omega) hw
  refine ⟨N, G, ?_, ?_, fun b hb => ?_, ⟨fun s hs g1 g2 => ?_, fun s hs g1 g2 c hc => ?_, fun r s hr hs ne g1 g2 g3 g4 => ?_⟩, fun s hs g1 g2 => ?_⟩
  · exact sm_TTf (t := t) (q' := q') n4 (Nat.le_refl _) T (fun s hs => ⟨sm_un hs, rfl, rfl, rfl, rfl, sm_un hs⟩) (fun s hs b hb => ⟨rfl, rfl, rfl, rs s hs b hb⟩) sm_us (by omega) hA
  · exact sm_HHf (t := t) (q' := q') n4 H H.1 (fun s hs ne => ⟨sm_un ne, rfl, fun b hb => ⟨rfl, Iff.rfl⟩⟩) sm_us (by omega) ⟨h1, fun h => by omega, fun _ _ => h3 (by omega) (by omega), fun h => by omega, fun _ _ => h5 (by omega) (by omega), fun _ => h6 (by omega)⟩
  · obtain ⟨v', o', w1, w2, w3, w4, w5, w6, w7⟩ := Ww b hb
    by_cases e : b = a
    · subst e
      rw [sm_us]
      have only : ∀ s, s < th → hd b = nI s → s = t := fun s hs k => sm_ne (k.symm.trans hda) (by omega) (by omega)
      obtain ⟨u1, u2, u3⟩ := w7 t ht hda
      refine ⟨v', o', w1, w2, w3, w4, fun k => ?_, fun k => (u2 q8).symm, fun s hs g => ?_⟩
      · have := k t ht hda
        rw [et] at this
        omega
      · rw [only s hs g, et]
        exact ⟨fun _ _ => u1 (by omega) (by omega), fun _ => u2 q8, fun h => by omega⟩
    · rw [sm_un e]
      refine ⟨v', o', w1, w2, w3, w4, fun k => w5 fun s hs g => ?_, fun k => w6 fun s hs g g2 => ?_, fun s hs g => ?_⟩
      · by_cases f : s = t
        · have := k s hs g
          rw [f, et] at this
          omega
        · have := k s hs g
          rw [ep s f] at this; exact this
      · by_cases f : s = t
        · subst f
          rcases (show q' = 8 ∨ q' = 9 by omega) with c8 | c9
          · have := k s hs g (by rw [et]; exact c8)
            rw [rj b e] at this; exact this
          · have := all9 c9 b (by omega) (h3 (by omega) (by omega) b (by omega) g)
            rw [← rj b e]; exact this
        · have := k s hs g (by rw [ep s f]; exact g2)
          rw [rs s f b (by omega)] at this; exact this
      · by_cases f : s = t
        · subst f
          rw [et]
          obtain ⟨u1, u2, u3⟩ := w7 s hs g
          exact ⟨fun _ _ => u1 (by omega) (by omega), fun _ => u2 q8, fun h => by omega⟩
        · rw [ep s f]; exact w7 s hs g
  · by_cases e : s = t
    · subst e
      exact Pp.1 s hs (by omega) (by omega)
    · rw [ep s e] at g1 g2; exact Pp.1 s hs g1 g2
  · by_cases e : s = t
    · subst e
      rw [et] at g1 g2; omega
    · rw [ep s e] at g1 g2; exact Pp.2.1 s hs g1 g2 c hc
  · have nr : r ≠ t := fun e => by rw [e, et] at g1 g2; omega
    have ns : s ≠ t := fun e => by rw [e, et] at g3 g4; omega
    rw [ep r nr] at g1 g2
    rw [ep s ns] at g3 g4
    exact Pp.2.2 r s hr hs ne g1 g2 g3 g4
  · have ne : s ≠ t := fun e => by rw [e, et] at g1 g2; omega
    rw [ep s ne] at g1 g2
    obtain ⟨b, k1, k2, k3, k4⟩ := Dd s hs g1 g2
    rw [ep s ne]
    refine ⟨b, k1, k2, fun r hr e g3 g4 => ?_, k4⟩
    by_cases f : r = t
    · subst f
      exact k3 r hr e (by omega) (by omega)
    · rw [ep r f] at g3 g4; exact k3 r hr e g3 g4
/-- a word released; x is the version that it gets -/
theorem sm_rel {t a q' v o : Nat} {x : Nat} (F : sm_F th wd rl kl nw rc lw me bas ph ou st pt be re ta ld rm wm hm km bm se tw rT rS rB rP xR xW xs xw od po ch cl hd iR ck iW bk yR ys yW yw) (ht : t < th) (ha : a < wd) (hda : hd a = nI t) (hl : lw a = nI (v * 8 + o)) (hv : v ≤ 32) (ho : o ≤ 4) (hx : (sm_tn (ph t) = 9 ∧ x = sm_tn (pt t)) ∨ (sm_tn (ph t) = 10 ∧ x = v)) (hq' : (q' = sm_tn (ph t) ∧ sm_E3 wd t (upd hd a (-1))) ∨ (q' = 0 ∧ ∀ b, b < 8 → ¬ upd hd a (-1) b = nI t)) : sm_F th wd rl kl nw rc (upd lw a (nI (x * 8))) me bas (upd ph t (nI q')) ou st pt be re ta ld rm wm (upd hm t (hm t &&& (((1 : Int32) <<< (nI a &&& 31)) ^^^ (-1)))) km bm se tw rT rS rB rP xR xW xs xw od po ch cl (upd hd a (-1)) iR ck iW bk yR ys yW yw := by
  obtain ⟨N, G, FT⟩ := F
  have N' := N
  obtain ⟨n1, n2, n3, n4, n5, n6, n7, n8, n9, n10⟩ := N'
  obtain ⟨T, H, Ww, Pp, Dd⟩ := FT
  obtain ⟨t1, t2, t3, t4, t5, t6, t7, t8, t9, t10, t11, t12, t13⟩ := T t ht
  have q9 : sm_tn (ph t) = 9 ∨ sm_tn (ph t) = 10 := by
    rcases hx with h | h
    · left; exact h.1
    · right; exact h.1
  obtain ⟨h1, h2, h3, h4, h5, h6⟩ := H.2 t ht
  have nm : ¬ (-1 : Int32) = nI t := fun k => sm_ne1 (a := t) (by omega) k.symm
  have eh : ∀ s, s < th → s ≠ t → ∀ b, upd hd a (-1) b = nI s ↔ hd b = nI s := fun s hs ne b => by
    by_cases e : b = a
    · rw [e, sm_us, hda]
      exact ⟨fun k => absurd k.symm (sm_ne1 (by omega)), fun k => absurd (sm_ne k (by omega) (by omega)).symm ne⟩
    · rw [sm_un e]
  have qq : q' = sm_tn (ph t) ∨ (q' = 0 ∧ ∀ b, b < 8 → ¬ upd hd a (-1) b = nI t) := by
    rcases hq' with h | h
    · exact Or.inl h.1
    · exact Or.inr h
  have hE : 5 ≤ q' → sm_E3 wd t (upd hd a (-1)) := fun g => by
    rcases hq' with h | h
    · exact h.2
    · omega
  have q10 : q' = 0 ∨ q' = 9 ∨ q' = 10 := by
    rcases qq with h | h
    · omega
    · left; exact h.1
  have hH : sm_HA wd q' t (upd hm t (hm t &&& (((1 : Int32) <<< (nI a &&& 31)) ^^^ (-1))) t) (upd hd a (-1)) (sm_rw iW t) := by
    refine ⟨?_, fun g => ?_, fun _ g b hb k => ?_, fun h => by omega, fun g1 g2 => by omega, hE⟩
    · rw [sm_us]
      refine sm_MKr h1 (by omega) (sm_hw0 (by rw [sm_us]; exact nm)) fun i hi ne => ?_
      rw [sm_hwz, sm_hwz, sm_un ne]
    · rcases qq with h | h
      · omega
      · exact h.2
    · by_cases e : b = a
      · rw [e, sm_us] at k; exact absurd k nm
      · rw [sm_un e] at k
        rcases qq with h | h
        · exact h3 (by omega) (by omega) b hb k
        · omega
  have et : sm_tn (upd ph t (nI q') t) = q' := by rw [sm_us, sm_tnN (by omega)]
  have ep : ∀ s, s ≠ t → sm_tn (upd ph t (nI q') s) = sm_tn (ph s) := fun s hs => by rw [sm_un hs]
  have ek : ∀ s b, b < 8 → upd hd a (-1) b = nI s → s < th → sm_tn (upd ph t (nI q') s) = sm_tn (ph s) ∧ hd b = nI s := fun s b hb k hs => by
    by_cases e : s = t
    · subst e
      rcases qq with h | h
      · refine ⟨by rw [et]; exact h, ?_⟩
        by_cases f : b = a
        · rw [f]; exact hda
        · rw [sm_un f] at k; exact k
      · exact absurd k (h.2 b hb)
    · exact ⟨ep s e, (eh s hs e b).mp k⟩
  clear hq'
  refine ⟨N, G, ?_, ?_, fun b hb => ?_, ⟨fun s hs g1 g2 => ?_, fun s hs g1 g2 c hc => ?_, fun r s hr hs ne g1 g2 g3 g4 => ?_⟩, fun s hs g1 g2 => ?_⟩
  · refine sm_TTf (t := t) (q' := q') n4 (Nat.le_refl _) T (fun s hs => ⟨sm_un hs, rfl, rfl, rfl, rfl, rfl⟩) (fun s hs a ha => ⟨rfl, rfl, rfl, rfl⟩) sm_us (by omega) ⟨t3, t4, t5, t6, t7, t8, fun _ => t9 (by omega), fun h => by omega, fun _ h => by omega, fun h => by omega, fun h => by omega⟩
  · refine sm_HHf (t := t) (q' := q') n4 H (fun b hb => ?_) (fun s hs ne => ⟨sm_un ne, sm_un ne, fun b hb => ⟨rfl, eh s hs ne b⟩⟩) sm_us (by omega) hH
    by_cases e : b = a
    · left; rw [e, sm_us]
    · rw [sm_un e]; exact H.1 b hb
  · obtain ⟨v', o', w1, w2, w3, w4, w5, w6, w7⟩ := Ww b hb
    by_cases e : b = a
    · subst e
      rw [sm_us, sm_us]
      have vv : v' = v := by
        have := hl.symm.trans w3
        have := sm_im this (by omega) (by omega)
        omega
      have only : ∀ s, s < th → hd b = nI s → s = t := fun s hs k => sm_ne (k.symm.trans hda) (by omega) (by omega)
      have xS : x = sm_S rc yW rP b ∧ x ≤ 32 := by
        rcases hx with ⟨g1, g2⟩ | ⟨g1, g2⟩
        · have := (w7 t ht hda).1 (by omega) (by omega)
          have := (Pp.1 t ht (by omega) (by omega)).2.2
          omega
        · have := w5 fun s hs k => by rw [only s hs k]; exact Or.inr g1
          omega
      refine ⟨x, 0, xS.2, by omega, rfl, by decide, fun _ => xS.1, fun _ => w6 fun s hs k g => ?_, fun s hs k => absurd k.symm (sm_ne1 (by omega))⟩
      rw [only s hs k] at g
      omega
    · rw [sm_un e]
      have ek' : ∀ s, s < th → hd b = nI s → sm_tn (upd ph t (nI q') s) = sm_tn (ph s) := fun s hs k => (ek s b (by omega) (by rw [sm_un e]; exact k) hs).1
      rw [sm_un e]
      refine ⟨v', o', w1, w2, w3, w4, fun k => w5 fun s hs g => ?_, fun k => w6 fun s hs g g2 => ?_, fun s hs g => ?_⟩
      · have := k s hs g
        rw [ek' s hs g] at this; exact this
      · exact k s hs g (by rw [ek' s hs g]; exact g2)
      · rw [ek' s hs g]; exact w7 s hs g
  · by_cases e : s = t
    · subst e
      rw [et] at g1 g2
      exact Pp.1 s hs (by omega) (by omega)
    · rw [ep s e] at g1 g2; exact Pp.1 s hs g1 g2
  · by_cases e : s = t
    · subst e
      rw [et] at g1 g2; omega
    · rw [ep s e] at g1 g2; exact Pp.2.1 s hs g1 g2 c hc
  · have nr : r ≠ t := fun e => by rw [e, et] at g1 g2; omega
    have ns : s ≠ t := fun e => by rw [e, et] at g3 g4; omega
    rw [ep r nr] at g1 g2
    rw [ep s ns] at g3 g4
    exact Pp.2.2 r s hr hs ne g1 g2 g3 g4
  · have ne : s ≠ t := fun e => by rw [e, et] at g1 g2; omega
    rw [ep s ne] at g1 g2
    obtain ⟨b, k1, k2, k3, k4⟩ := Dd s hs g1 g2
    rw [ep s ne]
    refine ⟨b, k1, k2, fun r hr e g3 g4 => ?_, k4⟩
    obtain ⟨m1, m2⟩ := ek r b (by omega) e hr
    rw [m1] at g3 g4
    exact k3 r hr m2 g3 g4
end
end
section
section
variable {th wd rl kl nw rc : Nat} {lw me bas ph ou st pt be re ta ld rm wm hm km bm se tw rT rS rB rP xR xW xs xw od po ch cl hd iR ck iW bk yR ys yW yw : Nat → Int32}
/-- decided: a writer's record -/
theorem sm_dec {t : Nat} {xs' xw' od' po' ch' cl' yR' ys' yW' yw' : Nat → Int32} (ou' rT' rS' rB' : Nat → Int32) (F : sm_F th wd rl kl nw rc lw me bas ph ou st pt be re ta ld rm wm hm km bm se tw rT rS rB rP xR xW xs xw od po ch cl hd iR ck iW bk yR ys yW yw) (ht : t < th) (hp : ph t = 7) (hr : rc < rl) (A : sm_AI wd rc t wd se tw iR iW yW xs xw ch xs' xw' ch' cl') (B : sm_BI rc t 8 se tw iR iW yR ys yW yw yR' ys' yW' yw') (O' : sm_Od (sm_ky (upd rP rc (pt t)) (upd xW rc (wm t))) (rc + 1) od' po') : sm_F th wd rl kl nw (rc + 1) lw me bas (upd ph t 8) ou' st pt be re ta ld rm wm hm km bm se tw rT' rS' rB' (upd rP rc (pt t)) (upd xR rc (rm t)) (upd xW rc (wm t)) xs' xw' od' po' ch' cl' hd iR ck iW bk yR' ys' yW' yw' := by
  obtain ⟨N, G, FT⟩ := F
  obtain ⟨n1, n2, n3, n4, n5, n6, n7, n8, n9, n10⟩ := N
  obtain ⟨T, H, Ww, Pp, Dd⟩ := FT
  have G' := G
  obtain ⟨R, C, Q, O⟩ := G
  obtain ⟨t1, t2, t3, t4, t5, t6, t7, t8, t9, t10, t11, t12, t13⟩ := T t ht
  have q7 : sm_tn (ph t) = 7 := by rw [hp]; rfl
  obtain ⟨h1, h2, h3, h4, h5, h6⟩ := H.2 t ht
  obtain ⟨p1, p2, p3⟩ := Pp.1 t ht (by omega) (by omega)
  obtain ⟨m1, m2, m3⟩ := t9 (by omega)
  have hS := fun a (ha : a < 8) => sm_S_add (rP := rP) (pt := pt) ha B
  have hV := fun a (ha : a < 8) => sm_V_add (bas := bas) ha B
  have hold : ∀ a, a < 8 → (hd a = nI t ↔ ¬ iW (t * 8 + a) = 0) := fun a ha => ⟨h3 (by omega) (by omega) a ha, h5 (by omega) (by omega) a ha⟩
  have sS : ∀ a, a < wd → hd a = nI t → sm_S rc yW rP a < sm_tn (pt t) := fun a ha k => by
    obtain ⟨v', o', w1, w2, w3, w4, w5, w6, w7⟩ := Ww a ha
    exact (w7 t ht k).2.2 (by omega) (by omega)
  have e8 : sm_tn (8 : Int32) = 8 := rfl
  have et : sm_tn (upd ph t 8 t) = 8 := by rw [sm_us, e8]
  have ep : ∀ s, s ≠ t → sm_tn (upd ph t 8 s) = sm_tn (ph s) := fun s hs => by rw [sm_un hs]
  have hE : sm_E1 wd (sm_rw iW t) (sm_rw bk t) := by
    obtain ⟨a, ha, k⟩ := h6 (by omega)
    exact ⟨a, ha, h3 (by omega) (by omega) a (by omega) k, t11 (by omega) (by omega) a (by omega)⟩
  refine ⟨⟨n1, n2, n3, n4, n5, n6, n7, n8, n9, by omega⟩, ?_, ?_, ?_, fun b hb => ?_, ⟨fun s hs g1 g2 => ?_, fun s hs g1 g2 c hc z => ?_, fun r s hr hs ne g1 g2 g3 g4 => ?_⟩, fun s hs g1 g2 => ?_⟩
  · refine sm_FR_add n4 (by omega) G' t5 t6 t8 A B O' p1 p3 (fun _ => ⟨p2, Pp.2.1 t ht (by omega) (by omega)⟩) fun a ha k c hc z => ?_
    have k1 := sS a ha ((hold a (by omega)).mpr k)
    have k2 := sm_sp_ge rc (Q.2.2 a ha) hc z
    have : sm_S rc yW rP a = sm_sp yW rP a rc := rfl
    omega
  · exact sm_TTf (t := t) (q' := 8) n4 (Nat.le_refl _) T (fun s hs => ⟨sm_un hs, rfl, rfl, rfl, rfl, rfl⟩) (fun s hs a ha => ⟨rfl, rfl, rfl, rfl⟩) sm_us (by omega) ⟨t3, t4, t5, t6, t7, t8, fun _ => t9 (by omega), fun h => by omega, fun _ h => by omega, fun h => by omega, fun _ => hE⟩
  · exact sm_HHf (t := t) (q' := 8) n4 H H.1 (fun s hs ne => ⟨sm_un ne, rfl, fun b hb => ⟨rfl, Iff.rfl⟩⟩) sm_us (by omega) ⟨h1, fun h => by omega, fun _ _ => h3 (by omega) (by omega), fun h => by omega, fun _ _ => h5 (by omega) (by omega), fun _ => h6 (by omega)⟩
  · obtain ⟨v', o', w1, w2, w3, w4, w5, w6, w7⟩ := Ww b hb
    rw [hS b (by omega), hV b (by omega)]
    by_cases z : iW (t * 8 + b) = 0
    · have nt : ¬ hd b = nI t := fun k => (hold b (by omega)).mp k z
      have nst : ∀ s, hd b = nI s → s ≠ t := fun s k e => nt (by rw [k, e])
      rw [if_pos z, if_pos z]
      refine ⟨v', o', w1, w2, w3, w4, fun k => w5 fun s hs g => ?_, fun k => w6 fun s hs g g2 => ?_, fun s hs g => ?_⟩
      · have := k s hs g
        rw [ep s (nst s g)] at this; exact this
      · exact k s hs g (by rw [ep s (nst s g)]; exact g2)
      · rw [ep s (nst s g)]; exact w7 s hs g
    · have kt : hd b = nI t := (hold b (by omega)).mpr z
      have only : ∀ s, s < th → hd b = nI s → s = t := fun s hs k => sm_ne (k.symm.trans kt) (by omega) (by omega)
      rw [if_neg z, if_neg z]
      refine ⟨v', o', w1, w2, w3, w4, fun k => ?_, fun k => ?_, fun s hs g => ?_⟩
      · have := k t ht kt
        rw [et] at this
        omega
      · exact absurd (t11 (by omega) (by omega) b (by omega)) (k t ht kt et)
      · rw [only s hs g, et]
        exact ⟨fun _ _ => rfl, fun _ => rfl, fun h => by omega⟩
  · by_cases e : s = t
    · subst e; exact ⟨p1, p2, p3⟩
    · rw [ep s e] at g1 g2; exact Pp.1 s hs g1 g2
  · have e : s ≠ t := fun e => by rw [e, et] at g1 g2; omega
    rw [ep s e] at g1 g2
    rcases Nat.lt_or_ge c rc with l | l
    · rw [sm_un (by omega)] at z ⊢
      exact Pp.2.1 s hs g1 g2 c l z
    · rw [show c = rc by omega, sm_us]
      exact Pp.2.2 t s ht hs (Ne.symm e) (by omega) (by omega) g1 g2
  · have nr : r ≠ t := fun e => by rw [e, et] at g1 g2; omega
    have ns : s ≠ t := fun e => by rw [e, et] at g3 g4; omega
    rw [ep r nr] at g1 g2
    rw [ep s ns] at g3 g4
    exact Pp.2.2 r s hr hs ne g1 g2 g3 g4
  · have ne : s ≠ t := fun e => by rw [e, et] at g1 g2; omega
    rw [ep s ne] at g1 g2
    obtain ⟨b, k1, k2, k3, k4⟩ := Dd s hs g1 g2
    rw [ep s ne]
    refine ⟨b, k1, k2, fun r hr e g3 g4 => ?_, fun g5 g6 => ?_⟩
    · by_cases f : r = t
      · subst f; exact k3 r hr e (by omega) (by omega)
      · rw [ep r f] at g3 g4; exact k3 r hr e g3 g4
    · rw [hV b (by omega)]
      rw [hS b (by omega)] at g6
      by_cases z : iW (t * 8 + b) = 0
      · rw [if_pos z] at g6 ⊢
        exact k4 g5 g6
      · rw [if_neg z] at g6
        have := k3 t ht ((hold b (by omega)).mpr z) (by omega) (by omega)
        omega
/-- a reader's record -/
theorem sm_cro {t : Nat} {xs' xw' od' po' ch' cl' yR' ys' yW' yw' ck' bk' : Nat → Int32} (ou' rT' rS' rB' : Nat → Int32) (F : sm_F th wd rl kl nw rc lw me bas ph ou st pt be re ta ld rm wm hm km bm se tw rT rS rB rP xR xW xs xw od po ch cl hd iR ck iW bk yR ys yW yw) (ht : t < th) (hp : ph t = 1) (hr : rc < rl) (hz : wm t = 0) (A : sm_AI wd rc t wd se tw iR iW yW xs xw ch xs' xw' ch' cl') (B : sm_BI rc t 8 se tw iR iW yR ys yW yw yR' ys' yW' yw') (O' : sm_Od (sm_ky (upd rP rc (st t)) (upd xW rc (wm t))) (rc + 1) od' po') (z1 : sm_ZI t 8 ck ck') (z2 : sm_ZI t 8 bk bk') : sm_F th wd rl kl nw (rc + 1) lw me bas (upd ph t 0) ou' st (upd pt t (st t)) be re ta ld rm wm hm km bm se tw rT' rS' rB' (upd rP rc (st t)) (upd xR rc (rm t)) (upd xW rc (wm t)) xs' xw' od' po' ch' cl' hd iR ck' iW bk' yR' ys' yW' yw' := by
  obtain ⟨N, G, FT⟩ := F
  obtain ⟨n1, n2, n3, n4, n5, n6, n7, n8, n9, n10⟩ := N
  have FT' := FT
  obtain ⟨T, H, Ww, Pp, Dd⟩ := FT
  obtain ⟨t1, t2, t3, t4, t5, t6, t7, t8, t9, t10, t11, t12, t13⟩ := T t ht
  have q1 : sm_tn (ph t) = 1 := by rw [hp]; rfl
  have nh := (H.2 t ht).2.1 (by omega)
  have w0 : ∀ a, a < 8 → iW (t * 8 + a) = 0 := (sm_MK00 t6).mp hz
  have B' : sm_BI rc t 8 se tw iR iW yR ys yW yw yR' ys' yW' yw' := B
  have hS : ∀ a, a < 8 → sm_S (rc + 1) yW' (upd rP rc (st t)) a = sm_S rc yW rP a := fun a ha => by
    have := sm_S_add (rP := rP) (pt := st) ha B
    rw [if_pos (w0 a ha)] at this; exact this
  have hV : ∀ a, a < 8 → sm_V (rc + 1) bas yW' yw' a = sm_V rc bas yW yw a := fun a ha => by
    have := sm_V_add (bas := bas) ha B
    rw [if_pos (w0 a ha)] at this; exact this
  have FT1 := sm_fr (q' := 0) (ph' := upd ph t 0) (pt' := upd pt t (st t)) (ck' := ck') (bk' := bk') ht n2 n4 FT' (fun s hs => ⟨sm_un hs, rfl, sm_un hs, rfl, rfl, rfl, rfl, rfl, rfl, rfl⟩) (fun s hs b hb => ⟨rfl, rfl, sm_ZI_n z1 hs hb, sm_ZI_n z2 hs hb, rfl⟩) sm_us (by omega) ⟨t3, t4, t5, t6, t7, t8, fun h => by omega, fun h => by omega, fun h => by omega, fun h => by omega, fun h => by omega⟩ ⟨(H.2 t ht).1, fun _ => nh, fun h => by omega, fun h => by omega, fun h => by omega, fun h => by omega⟩ (by omega) (by omega) (fun h => by omega) (fun h => by omega)
  obtain ⟨T1, H1, W1, P1, D1⟩ := FT1
  refine ⟨⟨n1, n2, n3, n4, n5, n6, n7, n8, n9, by omega⟩, ?_, T1, H1, fun b hb => ?_, ⟨P1.1, fun s hs g1 g2 c hc z => ?_, P1.2.2⟩, fun s hs g1 g2 => ?_⟩
  · exact sm_FR_add (pt := st) n4 (by omega) G t5 t6 t8 A B O' t3 t4 (fun k => absurd hz k) fun a ha k => absurd (w0 a (by omega)) k
  · rw [hS b (by omega), hV b (by omega)]; exact W1 b hb
  · rcases Nat.lt_or_ge c rc with l | l
    · rw [sm_un (by omega)] at z ⊢
      exact P1.2.1 s hs g1 g2 c l z
    · rw [show c = rc by omega, sm_us] at z
      exact absurd hz z
  · obtain ⟨b, k1, k2, k3, k4⟩ := D1 s hs g1 g2
    refine ⟨b, k1, k2, k3, fun g5 g6 => ?_⟩
    rw [hS b (by omega)] at g6
    rw [hV b (by omega)]; exact k4 g5 g6
end
end
section
section
variable {th wd rl kl nw rc : Nat} {lw me bas ph ou st pt be re ta ld rm wm hm km bm se tw rT rS rB rP xR xW xs xw od po ch cl hd iR ck iW bk yR ys yW yw : Nat → Int32}
/-- cells that count only in later phases -/
theorem sm_ckbk {t : Nat} {ck' bk' : Nat → Int32} (F : sm_F th wd rl kl nw rc lw me bas ph ou st pt be re ta ld rm wm hm km bm se tw rT rS rB rP xR xW xs xw od po ch cl hd iR ck iW bk yR ys yW yw) (ht : t < th) (hq : sm_tn (ph t) < 4) (z1 : sm_ZI t 8 ck ck') (z2 : sm_ZI t 8 bk bk') : sm_F th wd rl kl nw rc lw me bas ph ou st pt be re ta ld rm wm hm km bm se tw rT rS rB rP xR xW xs xw od po ch cl hd iR ck' iW bk' yR ys yW yw := by
  obtain ⟨N, G, FT⟩ := F
  have N' := N
  obtain ⟨n1, n2, n3, n4, n5, n6, n7, n8, n9, n10⟩ := N'
  obtain ⟨t1, t2, t3, t4, t5, t6, t7, t8, t9, t10, t11, t12, t13⟩ := FT.1 t ht
  have H := FT.2.1
  have D := FT.2.2.2.2 t ht
  refine ⟨N, G, ?_⟩
  exact sm_fr (q' := sm_tn (ph t)) ht n2 n4 FT (fun s hs => ⟨rfl, rfl, rfl, rfl, rfl, rfl, rfl, rfl, rfl, rfl⟩) (fun s hs b hb => ⟨rfl, rfl, sm_ZI_n z1 hs hb, sm_ZI_n z2 hs hb, rfl⟩) t1 t2 ⟨t3, t4, t5, t6, t7, t8, fun h => by omega, fun h => by omega, fun h => by omega, fun h => by omega, fun h => by omega⟩ (H.2 t ht) (by omega) (by omega) (fun h => by omega) (fun g1 g2 => by
    obtain ⟨a, k1, k2, k3, k4⟩ := D g1 g2
    exact ⟨a, k1, k2, fun s hs _ => k3 s hs, k4⟩)
theorem yc_27 {post : Int32 → SY → Prop} {t : Nat} {p : Int32} (ht : t < 4) (h8 : wd ≤ 8) (hr : rl ≤ 32) (hc : rc ≤ rl) (h01 : ∀ a, a < 8 → (iR (t * 8 + a) = 0 ∨ iR (t * 8 + a) = 1) ∧ (iW (t * 8 + a) = 0 ∨ iW (t * 8 + a) = 1)) (hz : ((∀ a, a < wd → ¬ hd a = nI t) ∧ p = 0) ∨ ((∃ a, a < wd ∧ hd a = nI t) ∧ p = 10))
    (hW : (∃ a, a < 8 ∧ ¬ iW (t * 8 + a) = 0) → ∀ ck' bk', sm_ZI t 8 ck ck' → sm_ZI t 8 bk bk' → post 1 (nI th, nI wd, nI rl, nI kl, nI nw, nI rc, bas, hd, upd ph t 4, ou, st, pt, be, re, ta, iR, se, ck', iW, tw, bk', rT, rS, rB, rP, yR, ys, yW, yw))
    (hF : (∀ a, a < 8 → iW (t * 8 + a) = 0) → rc = rl → ∀ ck' bk', sm_ZI t 8 ck ck' → sm_ZI t 8 bk bk' → post (-2) (nI th, nI wd, nI rl, nI kl, nI nw, nI rc, bas, hd, upd ph t p, upd ou t 5, st, pt, be, re, upd ta t (-1), iR, se, ck', iW, tw, bk', rT, rS, rB, rP, yR, ys, yW, yw))
    (hA : (∀ a, a < 8 → iW (t * 8 + a) = 0) → rc < rl → ∀ ck' bk', sm_ZI t 8 ck ck' → sm_ZI t 8 bk bk' → ∀ yR' ys' yW' yw', sm_BI rc t 8 se tw iR iW yR ys yW yw yR' ys' yW' yw' → post 11 (nI th, nI wd, nI rl, nI kl, nI nw, nI (rc + 1), bas, hd, upd ph t 0, upd ou t 1, st, upd pt t (st t), be, re, ta, iR, se, ck', iW, tw, bk', upd rT rc (nI t), upd rS rc (st t), upd rB rc (be t), upd rP rc (st t), yR', ys', yW', yw')) :
    ∀ (d i : Nat) (x : Int32) (ck' bk' : Nat → Int32), i + d = 8 → sm_ZI t i ck ck' → sm_ZI t i bk bk' → ((x = 0 ∧ ∀ a, a < i → iW (t * 8 + a) = 0) ∨ (x = 1 ∧ ∃ a, a < i ∧ ¬ iW (t * 8 + a) = 0)) → wY_commit_27 post (nI t) (nI th) (nI wd) (nI rl) (nI kl) (nI nw) (nI rc) (d + 1) x (nI (t * 8 + i)) bas hd ph ou st pt be re ta iR se ck' iW tw bk' rT rS rB rP yR ys yW yw := by
  have et : (nI t).toNatClampNeg = t := nI_clamp (by omega)
  have hv : vp_in (nI t) 4 := vp_in_nI (by omega) (by omega)
  intro d
  induction d with
  | zero =>
    intro i x ck' bk' hi z1 z2 hx
    have : i = 8 := by omega
    subst this
    refine br_t (by rw [sm_e8]; exact nI_le (Nat.le_refl _) (by omega)) ?_
    rcases hx with ⟨rfl, w0⟩ | ⟨rfl, w1⟩
    · refine br_t rfl (br_c (fun e => ?_) (fun e => ?_))
      · exact yh_ab ht h8 hz (hF w0 (sm_im e (by omega) (by omega)) ck' bk' z1 z2)
      · have l : rc < rl := Nat.lt_of_le_of_ne hc fun k => e (by rw [k])
        refine And.intro hv (sm_sv ht (by omega) (by rw [et]) (ya_add ht (by omega) h01 fun yR' ys' yW' yw' B => sm_st ht (by omega) ?_))
        rw [sm_us]
        exact hA w0 l ck' bk' z1 z2 yR' ys' yW' yw' B
    · exact br_f sm_10 (sm_st ht (by omega) (hW w1 ck' bk' z1 z2))
  | succ d ih =>
    intro i x ck' bk' hi z1 z2 hx
    refine br_f (by rw [sm_e8]; exact nI_ge (by omega) (by omega)) (sm_sv (by omega) (by omega) sm_vb0 (sm_sv (by omega) (by omega) sm_vb0 (And.intro (vp_in_nI (by omega) (by omega)) ?_)))
    rw [nI_clamp (by omega)]
    refine br_c (fun z => nm_r (nI_1 _) (ih (i + 1) x _ _ (by omega) (sm_ZI_s (by omega) z1) (sm_ZI_s (by omega) z2) ?_)) (fun z => nm_r (nI_1 _) (ih (i + 1) 1 _ _ (by omega) (sm_ZI_s (by omega) z1) (sm_ZI_s (by omega) z2) (Or.inr ⟨rfl, i, by omega, z⟩)))
    rcases hx with ⟨e, w0⟩ | ⟨e, a, ha, w1⟩
    · refine Or.inl ⟨e, fun a ha => ?_⟩
      rcases Nat.lt_or_ge a i with l | l
      · exact w0 a l
      · rw [show a = i by omega]; exact z
    · exact Or.inr ⟨e, a, by omega, w1⟩
theorem aa_commit {k' : Nat} (F : sm_F th wd rl kl nw rc lw me bas ph ou st pt be re ta ld rm wm hm km bm se tw rT rS rB rP xR xW xs xw od po ch cl hd iR ck iW bk yR ys yW yw) (v1 : Int32) : wpX_commit (fun r u' => wpY_commit (fun r' v' => r' = r ∧ i_Rel k' u' v') (nI th, nI wd, nI rl, nI kl, nI nw, nI rc, bas, hd, ph, ou, st, pt, be, re, ta, iR, se, ck, iW, tw, bk, rT, rS, rB, rP, yR, ys, yW, yw) v1) (nI th, nI wd, nI rl, nI kl, nI nw, nI rc, lw, me, bas, ph, ou, st, pt, be, re, ta, ld, rm, wm, hm, km, bm, se, tw, rT, rS, rB, rP, xR, xW, xs, xw, od, po, ch, cl) v1 := by
  have F' := F
  obtain ⟨⟨n1, n2, n3, n4, n5, n6, n7, n8, n9, n10⟩, ⟨R, C, Q, O⟩, T, H, Ww, Pp, Dd⟩ := F
  unfold wpX_commit
  rcases pk_ix v1 (n := th) (by omega) with h | h | ⟨t, ht, rfl⟩
  · refine xh_O00 (Or.inl h) (br_t rfl ?_)
    unfold wpY_commit
    exact yh_T0 (Or.inl h) (br_f sm_10 (And.intro rfl (zz_in F')))
  · refine xh_O00 (Or.inr h) (br_t rfl ?_)
    unfold wpY_commit
    exact yh_T0 (Or.inr h) (br_f sm_10 (And.intro rfl (zz_in F')))
  · obtain ⟨t1, t2, t3, t4, t5, t6, t7, t8, t9, t10, t11, t12, t13⟩ := T t ht
    have et : (nI t).toNatClampNeg = t := nI_clamp (by omega)
    have hv : vp_in (nI t) 4 := vp_in_nI (by omega) (by omega)
    by_cases hp : ph t = 1
    · refine xh_O ht n2 hp (br_f sm_10 (And.intro hv ?_))
      have q1 : sm_tn (ph t) = 1 := by rw [hp]; rfl
      have M := sm_MK00 t6
      obtain ⟨p, p1, p2, p3⟩ := sm_ab F' ht (by omega) 5
      have Y := fun (post : Int32 → SY → Prop) hW hF hA => (show wpY_commit post (nI th, nI wd, nI rl, nI kl, nI nw, nI rc, bas, hd, ph, ou, st, pt, be, re, ta, iR, se, ck, iW, tw, bk, rT, rS, rB, rP, yR, ys, yW, yw) (nI t) by
        unfold wpY_commit
        refine yh_T ht n2 (br_t rfl (And.intro hv (br_t (by rw [et]; exact hp) (nm_r (sm_t8 t) (Exists.intro 9 ?_)))))
        exact yc_27 (p := p) (by omega) n4 n6 n10 t7 p2 hW hF hA 8 0 0 ck bk (by omega) (sm_ZI_0 t ck) (sm_ZI_0 t bk) (Or.inl ⟨rfl, fun a ha => absurd ha (Nat.not_lt_zero a)⟩))
      rw [et]
      refine br_c (fun z => br_c (fun l => ?_) (fun l => ?_)) (fun z => ?_)
      · have l : rc < rl := (nI_ltI (by omega) (by omega)).mp l
        refine And.intro hv (And.intro hv (nm_e ?_))
        refine xa_add (iR := iR) (iW := iW) (yW := yW) (pt := upd pt t (st t)) (by omega) n4 (by omega) t5 t6 C (sm_hP (by omega) Q) ?_ O fun xs' xw' ch' cl' od' po' A O' => ?_
        · rw [sm_us]; exact ⟨t3, by omega⟩
        · rw [sm_us] at O' ⊢
          refine And.intro hv (nm_e (And.intro hv (nm_e ?_)))
          refine Y _ (fun w => ?_) (fun _ e => by omega) (fun w _ ck' bk' z1 z2 yR' ys' yW' yw' B => ?_)
          · obtain ⟨a, ha, k⟩ := w
            exact absurd (M.mp z a ha) k
          · exact And.intro rfl (zz_in (sm_cro _ _ _ _ F' ht hp l z A B O' z1 z2))
      · have l : rc = rl := by
          have : ¬ rc < rl := fun k => l (nI_lt k (by omega))
          omega
        refine xh_ab (by omega) p1 ?_
        refine Y _ (fun w => ?_) (fun w e ck' bk' z1 z2 => ?_) (fun _ e => by omega)
        · obtain ⟨a, ha, k⟩ := w
          exact absurd (M.mp z a ha) k
        · have hp4 : sm_tn (upd ph t p t) < 4 := by
            rw [sm_us]
            rcases p2 with ⟨_, k⟩ | ⟨⟨a, ha, k⟩, _⟩
            · rw [k]; decide
            · exact absurd k ((H.2 t ht).2.1 (by omega) a (by omega))
          exact And.intro rfl (zz_in (sm_ckbk p3 ht hp4 z1 z2))
      · refine And.intro hv (nm_e (And.intro hv (nm_e (And.intro hv (nm_e ?_)))))
        refine Y _ (fun w ck' bk' z1 z2 => And.intro rfl (zz_in (sm_comw F' ht hp w z1 z2))) (fun w => absurd (M.mpr w) z) (fun w => absurd (M.mpr w) z)
    · refine xh_O0 ht n2 hp (br_t rfl ?_)
      unfold wpY_commit
      exact yh_T ht n2 (br_t rfl (And.intro hv (br_f (by rw [et]; exact hp) (And.intro rfl (zz_in F')))))
end
end
section
section
variable {th wd rl kl nw rc : Nat} {lw me bas ph ou st pt be re ta ld rm wm hm km bm se tw rT rS rB rP xR xW xs xw od po ch cl hd iR ck iW bk yR ys yW yw : Nat → Int32}
theorem aa_step2 {k' t : Nat} (F : sm_F th wd rl kl nw rc lw me bas ph ou st pt be re ta ld rm wm hm km bm se tw rT rS rB rP xR xW xs xw od po ch cl hd iR ck iW bk yR ys yW yw) (ht : t < th) (hp : ph t = 2) : wpX_step (fun r u' => wpY_step (fun r' v' => r' = r ∧ i_Rel k' u' v') (nI th, nI wd, nI rl, nI kl, nI nw, nI rc, bas, hd, ph, ou, st, pt, be, re, ta, iR, se, ck, iW, tw, bk, rT, rS, rB, rP, yR, ys, yW, yw) (nI t)) (nI th, nI wd, nI rl, nI kl, nI nw, nI rc, lw, me, bas, ph, ou, st, pt, be, re, ta, ld, rm, wm, hm, km, bm, se, tw, rT, rS, rB, rP, xR, xW, xs, xw, od, po, ch, cl) (nI t) := by
  have F' := F
  obtain ⟨⟨n1, n2, n3, n4, n5, n6, n7, n8, n9, n10⟩, ⟨R, C, Q, O⟩, T, H, Ww, Pp, Dd⟩ := F
  obtain ⟨t1, t2, t3, t4, t5, t6, t7, t8, t9, t10, t11, t12, t13⟩ := T t ht
  obtain ⟨h1, h2, h3, h4, h5, h6⟩ := H.2 t ht
  have qc : sm_tn (ph t) = 2 := by rw [hp]; rfl
  have et : (nI t).toNatClampNeg = t := nI_clamp (by omega)
  have hv : vp_in (nI t) 4 := vp_in_nI (by omega) (by omega)
  obtain ⟨a, a1, a2, a3, a4⟩ := Dd t ht (by omega) (by omega)
  unfold wpX_step
  refine xh_T ht n2 (br_f sm_10 (And.intro hv (nm_r (e' := 2) (by rw [et]; exact hp) (br_f (by decide) (br_f (by decide) (br_t rfl ?_))))))
  unfold wpX_stepLoad
  refine And.intro hv ?_
  rw [et, a2]
  refine And.intro (vp_in_nI (by omega) (by omega)) (And.intro hv (nm_r (e' := upd ld t (me a)) (by rw [nI_clamp (by omega)]) (And.intro hv (nm_e ?_))))
  unfold wpY_step
  exact yh_T ht n2 (br_t rfl (And.intro hv (br_f (by rw [et, hp]; decide) (And.intro hv (br_f (by rw [et, hp]; decide) (And.intro hv (nm_r (e' := 2) (by rw [et]; exact hp) (br_t rfl (sm_st (by omega) (by omega) (And.intro rfl (zz_in (sm_load F' ht hp a2 (by omega)))))))))))))
theorem aa_step3 {k' t : Nat} (F : sm_F th wd rl kl nw rc lw me bas ph ou st pt be re ta ld rm wm hm km bm se tw rT rS rB rP xR xW xs xw od po ch cl hd iR ck iW bk yR ys yW yw) (ht : t < th) (hp : ph t = 3) : wpX_step (fun r u' => wpY_step (fun r' v' => r' = r ∧ i_Rel k' u' v') (nI th, nI wd, nI rl, nI kl, nI nw, nI rc, bas, hd, ph, ou, st, pt, be, re, ta, iR, se, ck, iW, tw, bk, rT, rS, rB, rP, yR, ys, yW, yw) (nI t)) (nI th, nI wd, nI rl, nI kl, nI nw, nI rc, lw, me, bas, ph, ou, st, pt, be, re, ta, ld, rm, wm, hm, km, bm, se, tw, rT, rS, rB, rP, xR, xW, xs, xw, od, po, ch, cl) (nI t) := by
  have F' := F
  obtain ⟨⟨n1, n2, n3, n4, n5, n6, n7, n8, n9, n10⟩, ⟨R, C, Q, O⟩, T, H, Ww, Pp, Dd⟩ := F
  obtain ⟨t1, t2, t3, t4, t5, t6, t7, t8, t9, t10, t11, t12, t13⟩ := T t ht
  obtain ⟨h1, h2, h3, h4, h5, h6⟩ := H.2 t ht
  have qc : sm_tn (ph t) = 3 := by rw [hp]; rfl
  have et : (nI t).toNatClampNeg = t := nI_clamp (by omega)
  have hv : vp_in (nI t) 4 := vp_in_nI (by omega) (by omega)
  obtain ⟨a, a1, a2, a3, a4⟩ := Dd t ht (by omega) (by omega)
  have hw : vp_in (nI t * 8 + nI a) 32 := sm_in (sm_ix t a) (by omega) (by omega)
  have e1 : (nI t * 8 + nI a).toNatClampNeg = t * 8 + a := sm_cl (sm_ix t a) (by omega)
  unfold wpX_step
  refine xh_T ht n2 (br_f sm_10 (And.intro hv (nm_r (e' := 3) (by rw [et]; exact hp) (br_f (by decide) (br_f (by decide) (br_f (by decide) (br_t rfl ?_)))))))
  unfold wpX_stepReadCheck
  refine And.intro hv (nm_r (e' := nI a) (by rw [et]; exact a2) ?_)
  rw [et, e1]
  have Y : ∀ post : Int32 → SY → Prop, wY_step_199 post (nI t) 3 (nI a) (nI th) (nI wd) (nI rl) (nI kl) (nI nw) (nI rc) bas hd ph ou st pt be re ta iR se ck iW tw bk rT rS rB rP yR ys yW yw → wpY_step post (nI th, nI wd, nI rl, nI kl, nI nw, nI rc, bas, hd, ph, ou, st, pt, be, re, ta, iR, se, ck, iW, tw, bk, rT, rS, rB, rP, yR, ys, yW, yw) (nI t) := fun post k => by
    unfold wpY_step
    refine yh_T ht n2 (br_t rfl (And.intro hv (br_f (by rw [et, hp]; decide) (And.intro hv (br_f (by rw [et, hp]; decide) (And.intro hv (nm_r (e' := 3) (by rw [et]; exact hp) (br_f (by decide) (br_f (by decide) (?_))))))))))
    unfold wY_step_73
    refine br_f (by decide) (br_f (by decide) ?_)
    unfold wY_step_140
    refine br_f (by decide) (br_t rfl (And.intro hv ?_))
    rw [et, a2]
    unfold wY_step_181
    exact br_t (nI_pos' (by omega)) (br_t rfl k)
  rcases sm_obs F' ht a1 (by omega) with ⟨o1, o2, o3, o4⟩ | ⟨w, o1, o2, o3⟩
  · obtain ⟨s1, s2⟩ := sm_seen F' ht hp a2 (by omega) o1
    refine o3 _ (br_t rfl (And.intro hv (And.intro hv (nm_e (And.intro hv (And.intro hw (nm_e (And.intro hv (And.intro hv (nm_e (And.intro hv (nm_e (And.intro hv (nm_e ?_))))))))))))))
    refine Y _ ?_
    unfold wY_step_199
    refine o4 _ (br_t rfl ?_)
    unfold wY_step_211
    refine br_t rfl (And.intro hv ?_)
    rw [et, t3]
    refine yh_val (by omega) (by omega) (by omega) (sm_hP (by omega) Q) (Q.2.2 a a1) ?_
    rw [← s2, e1]
    refine And.intro hv (nm_e (And.intro hw (nm_r (e' := upd iR (t * 8 + a) 1) (by rw [sm_vb1]) (And.intro hv (And.intro hw (nm_r (e' := upd se (t * 8 + a) (ld t)) (by rw [sm_us]) (And.intro hv (nm_e (And.intro hv (nm_e ?_))))))))))
    exact And.intro rfl (zz_in (sm_rdone F' ht hp a1))
  · obtain ⟨p, p1, p2, p3⟩ := sm_ab F' ht (by omega) w
    refine o2 _ (br_f o1 (xh_ab (by omega) p1 (Y _ ?_)))
    unfold wY_step_199
    exact o3 _ p p2 (br_f sm_10 (And.intro rfl (zz_in p3)))
theorem aa_step4 {k' t : Nat} (F : sm_F th wd rl kl nw rc lw me bas ph ou st pt be re ta ld rm wm hm km bm se tw rT rS rB rP xR xW xs xw od po ch cl hd iR ck iW bk yR ys yW yw) (ht : t < th) (hp : ph t = 4) : wpX_step (fun r u' => wpY_step (fun r' v' => r' = r ∧ i_Rel k' u' v') (nI th, nI wd, nI rl, nI kl, nI nw, nI rc, bas, hd, ph, ou, st, pt, be, re, ta, iR, se, ck, iW, tw, bk, rT, rS, rB, rP, yR, ys, yW, yw) (nI t)) (nI th, nI wd, nI rl, nI kl, nI nw, nI rc, lw, me, bas, ph, ou, st, pt, be, re, ta, ld, rm, wm, hm, km, bm, se, tw, rT, rS, rB, rP, xR, xW, xs, xw, od, po, ch, cl) (nI t) := by
  have F' := F
  obtain ⟨⟨n1, n2, n3, n4, n5, n6, n7, n8, n9, n10⟩, ⟨R, C, Q, O⟩, T, H, Ww, Pp, Dd⟩ := F
  obtain ⟨t1, t2, t3, t4, t5, t6, t7, t8, t9, t10, t11, t12, t13⟩ := T t ht
  obtain ⟨h1, h2, h3, h4, h5, h6⟩ := H.2 t ht
  have qc : sm_tn (ph t) = 4 := by rw [hp]; rfl
  have et : (nI t).toNatClampNeg = t := nI_clamp (by omega)
  have hv : vp_in (nI t) 4 := vp_in_nI (by omega) (by omega)
  have Y : ∀ (post : Int32 → SY → Prop) (a : Nat), sm_Le (sm_pg 4 t hd iR ck iW bk) wd a → wY_step_211 post (nI t) 4 (nI a) (nI th) (nI wd) (nI rl) (nI kl) (nI nw) (nI rc) bas hd ph ou st pt be re ta iR se ck iW tw bk rT rS rB rP yR ys yW yw → wpY_step post (nI th, nI wd, nI rl, nI kl, nI nw, nI rc, bas, hd, ph, ou, st, pt, be, re, ta, iR, se, ck, iW, tw, bk, rT, rS, rB, rP, yR, ys, yW, yw) (nI t) := fun post a hl k => by
    unfold wpY_step
    refine yh_T ht n2 (br_t rfl (And.intro hv (br_f (by rw [et, hp]; decide) (And.intro hv (br_f (by rw [et, hp]; decide) (And.intro hv (nm_r (e' := 4) (by rw [et]; exact hp) (br_f (by decide) (br_f (by decide) (?_))))))))))
    unfold wY_step_73
    refine br_f (by decide) (br_f (by decide) ?_)
    unfold wY_step_140
    refine br_f (by decide) (br_f (by decide) (yh_least (g := sm_pg 4 t hd iR ck iW bk) (fun b hb post k => yl_pg (q := 4) (by omega) (by omega) (by omega) hp k) n4 hl ?_))
    unfold wY_step_181
    have := hl.1
    exact br_t (nI_pos' (by omega)) (br_f (by decide) (br_f (by decide) k))
  have ex : ∃ a, a < wd ∧ ¬ sm_pg 4 t hd iR ck iW bk a = 0 := by
    obtain ⟨a, ha, k1, k2⟩ := h4 qc
    refine ⟨a, ha, ?_⟩
    have k1 : ¬ iW (t * 8 + a) = 0 := k1
    show ¬ (if iW (t * 8 + a) = 0 then (0 : Int32) else if hd a = nI t then 0 else 1) = 0
    rw [if_neg k1, if_neg k2]; exact sm_10
  obtain ⟨a, hl⟩ := sm_Le_ex wd ex
  have ha := hl.1
  have hg : ¬ iW (t * 8 + a) = 0 ∧ ¬ hd a = nI t := by
    have k : ¬ (if iW (t * 8 + a) = 0 then (0 : Int32) else if hd a = nI t then 0 else 1) = 0 := hl.2.1
    by_cases z : iW (t * 8 + a) = 0
    · rw [if_pos z] at k; exact absurd rfl k
    · rw [if_neg z] at k
      by_cases w : hd a = nI t
      · rw [if_pos w] at k; exact absurd rfl k
      · exact ⟨z, w⟩
  have ea : (nI a).toNatClampNeg = a := nI_clamp (by omega)
  have hva : vp_in (nI a) 8 := vp_in_nI (by omega) (by omega)
  obtain ⟨v, o, w1, w2, w3, w4, w5, w6, w7⟩ := Ww a ha
  unfold wpX_step
  refine xh_T ht n2 (br_f sm_10 (And.intro hv (nm_r (e' := 4) (by rw [et]; exact hp) (br_f (by decide) (br_f (by decide) (br_f (by decide) (br_f (by decide) (br_t rfl ?_))))))))
  unfold wpX_stepLock
  refine And.intro hv (And.intro hv ?_)
  rw [et]
  refine xh_least (sm_MKd t6 h1) n4 (a := a) (sm_Le_c (f := sm_pg 4 t hd iR ck iW bk) (fun i hi => ?_) hl) ?_
  · show (if iW (t * 8 + i) = 0 then (0 : Int32) else if hd i = nI t then 0 else 1) = 0 ↔ (if sm_hw hd t i = 0 then iW (t * 8 + i) else 0) = 0
    by_cases z : iW (t * 8 + i) = 0
    · rw [if_pos z, z]
      exact ⟨fun _ => by split <;> rfl, fun _ => rfl⟩
    · rw [if_neg z]
      by_cases w : hd i = nI t
      · rw [if_pos w, sm_hw1 w, if_neg sm_10]
      · rw [if_neg w, sm_hw0 w, if_pos rfl]
        exact ⟨fun k => absurd k sm_10, fun k => absurd k z⟩
  refine xh_own (by omega) w3 w1 w2 ?_
  rw [← w4]
  rcases H.1 a (by omega) with hf | ⟨s, s1, s2, s3⟩
  · refine br_t (by rw [hf]; exact sm_m1) (xh_ver (by omega) w3 w1 w2 ?_)
    have e0 : nI v <<< ((3 : Int32) &&& 31) ||| (nI t + 1) = nI (v * 8 + (t + 1)) := by
      rw [nI_1]; exact (sm_lwd v (by omega) (t + 1) (by omega)).2.2
    refine And.intro hva (nm_r (e' := upd lw a (nI (v * 8 + (t + 1)))) (by rw [ea, e0]) (And.intro hv (And.intro hv (nm_e (And.intro hv (And.intro hv ?_))))))
    rw [sm_us]
    have M : sm_MK (hm t ||| ((1 : Int32) <<< (nI a &&& 31))) (sm_hw (upd hd a (nI t)) t) := sm_MKs h1 (by omega) (by rw [sm_hw1 sm_us]; exact sm_10) fun i hi ne => by rw [sm_hwz, sm_hwz, sm_un ne]
    have Me := sm_MKe M t6
    have hold : ∀ b, b < 8 → upd hd a (nI t) b = nI t → ¬ iW (t * 8 + b) = 0 := fun b hb k => by
      by_cases e : b = a
      · rw [e]; exact hg.1
      · rw [sm_un e] at k; exact h3 (by omega) (by omega) b hb k
    have pgE : ∀ b, sm_pg 4 t (upd hd a (nI t)) iR ck iW bk b = (if iW (t * 8 + b) = 0 then (0 : Int32) else if upd hd a (nI t) b = nI t then 0 else 1) := fun b => rfl
    have Yp : ∀ post : Int32 → SY → Prop, ((∀ b, b < wd → sm_pg 4 t (upd hd a (nI t)) iR ck iW bk b = 0) → post 5 (nI th, nI wd, nI rl, nI kl, nI nw, nI rc, bas, upd hd a (nI t), upd ph t 5, ou, st, pt, be, re, ta, iR, se, ck, iW, tw, bk, rT, rS, rB, rP, yR, ys, yW, yw)) → ((∃ b, b < wd ∧ ¬ sm_pg 4 t (upd hd a (nI t)) iR ck iW bk b = 0) → post 5 (nI th, nI wd, nI rl, nI kl, nI nw, nI rc, bas, upd hd a (nI t), ph, ou, st, pt, be, re, ta, iR, se, ck, iW, tw, bk, rT, rS, rB, rP, yR, ys, yW, yw)) → wpY_step post (nI th, nI wd, nI rl, nI kl, nI nw, nI rc, bas, hd, ph, ou, st, pt, be, re, ta, iR, se, ck, iW, tw, bk, rT, rS, rB, rP, yR, ys, yW, yw) (nI t) := fun post k0 k1 => by
      refine Y post a hl ?_
      unfold wY_step_211
      refine br_f (by decide) (br_f (by decide) (br_t rfl (And.intro hva (br_t (by rw [ea, hf]; exact sm_m1) ?_))))
      unfold wY_step_327
      refine br_t rfl (sm_st (by omega) (by omega) ?_)
      exact yh_pass (g := sm_pg 4 t (upd hd a (nI t)) iR ck iW bk) (by omega) (fun b hb post k => yl_pg (q := 4) (by omega) (by omega) (by omega) hp k) n4 k0 k1
    refine br_c (fun z => ?_) (fun z => ?_)
    · have z := Me.mp z
      have all : ∀ b, b < 8 → ¬ iW (t * 8 + b) = 0 → upd hd a (nI t) b = nI t := fun b hb k => Classical.byContradiction fun w => k ((z b hb).mp (sm_hwz.mpr w))
      refine And.intro hv (nm_e (Yp _ (fun _ => And.intro rfl (zz_in (sm_lock (q' := 5) F' ht hp ha hf hg.1 w3 w1 w2 (Or.inr ⟨rfl, all⟩)))) (fun k => ?_)))
      obtain ⟨b, hb, k⟩ := k
      rw [pgE] at k
      by_cases w : iW (t * 8 + b) = 0
      · rw [if_pos w] at k; exact absurd rfl k
      · rw [if_neg w, if_pos (all b (by omega) w)] at k; exact absurd rfl k
    · have nz : ∃ b, b < wd ∧ ¬ iW (t * 8 + b) = 0 ∧ ¬ upd hd a (nI t) b = nI t := Classical.byContradiction fun no => z (Me.mpr fun b hb => by
        rw [sm_hwz]
        constructor
        · intro k
          rcases Nat.lt_or_ge b wd with l | l
          · exact Classical.byContradiction fun w => no ⟨b, l, w, k⟩
          · exact (t8 b l hb).2
        · intro k w
          exact hold b hb w k)
      have ph4 : upd ph t (nI 4) = ph := by
        have := sm_id (f := ph) (k := t)
        rw [hp] at this
        exact this
      have F4 := sm_lock (q' := 4) F' ht hp ha hf hg.1 w3 w1 w2 (Or.inl ⟨rfl, nz⟩)
      rw [ph4] at F4
      refine Yp _ (fun k => ?_) (fun _ => And.intro rfl (zz_in F4))
      obtain ⟨b, hb, k1, k2⟩ := nz
      have := k b hb
      rw [pgE, if_neg k1, if_neg k2] at this
      exact absurd this sm_10
  · have nf : ¬ hd a < 0 := by rw [s3]; exact nI_pos (by omega)
    obtain ⟨p, p1, p2, p3⟩ := sm_ab F' ht (by omega) 2
    refine br_f nf (xh_ab (by omega) p1 (Y _ a hl ?_))
    unfold wY_step_211
    exact br_f (by decide) (br_f (by decide) (br_t rfl (And.intro hva (br_f (by rw [ea]; exact nf) (yh_ab (by omega) n4 p2 (And.intro rfl (zz_in p3)))))))
theorem aa_step5 {k' t : Nat} (F : sm_F th wd rl kl nw rc lw me bas ph ou st pt be re ta ld rm wm hm km bm se tw rT rS rB rP xR xW xs xw od po ch cl hd iR ck iW bk yR ys yW yw) (ht : t < th) (hp : ph t = 5) : wpX_step (fun r u' => wpY_step (fun r' v' => r' = r ∧ i_Rel k' u' v') (nI th, nI wd, nI rl, nI kl, nI nw, nI rc, bas, hd, ph, ou, st, pt, be, re, ta, iR, se, ck, iW, tw, bk, rT, rS, rB, rP, yR, ys, yW, yw) (nI t)) (nI th, nI wd, nI rl, nI kl, nI nw, nI rc, lw, me, bas, ph, ou, st, pt, be, re, ta, ld, rm, wm, hm, km, bm, se, tw, rT, rS, rB, rP, xR, xW, xs, xw, od, po, ch, cl) (nI t) := by
  have F' := F
  obtain ⟨⟨n1, n2, n3, n4, n5, n6, n7, n8, n9, n10⟩, ⟨R, C, Q, O⟩, T, H, Ww, Pp, Dd⟩ := F
  obtain ⟨t1, t2, t3, t4, t5, t6, t7, t8, t9, t10, t11, t12, t13⟩ := T t ht
  obtain ⟨h1, h2, h3, h4, h5, h6⟩ := H.2 t ht
  have qc : sm_tn (ph t) = 5 := by rw [hp]; rfl
  have et : (nI t).toNatClampNeg = t := nI_clamp (by omega)
  have hv : vp_in (nI t) 4 := vp_in_nI (by omega) (by omega)
  unfold wpX_step
  refine xh_T ht n2 (br_f sm_10 (And.intro hv (nm_r (e' := 5) (by rw [et]; exact hp) (br_f (by decide) (br_f (by decide) (br_f (by decide) (br_f (by decide) (br_f (by decide) (br_t rfl ?_)))))))))
  unfold wpX_stepClock
  have ck0 := t10 (Or.inr qc)
  refine br_c (fun l => ?_) (fun l => ?_)
  · have l : nw < kl := (nI_ltI (by omega) (by omega)).mp l
    refine nm_r (nI_1 nw) (sm_st (by omega) (by omega) (And.intro hv ?_))
    rw [et]
    have Yp : ∀ post : Int32 → SY → Prop, ((∀ b, b < wd → sm_pg 6 t hd iR ck iW bk b = 0) → post 6 (nI th, nI wd, nI rl, nI kl, nI (nw + 1), nI rc, bas, hd, upd ph t 7, ou, st, upd pt t (nI (nw + 1)), be, re, ta, iR, se, ck, iW, tw, bk, rT, rS, rB, rP, yR, ys, yW, yw)) → ((∃ b, b < wd ∧ ¬ sm_pg 6 t hd iR ck iW bk b = 0) → post 6 (nI th, nI wd, nI rl, nI kl, nI (nw + 1), nI rc, bas, hd, upd ph t 6, ou, st, upd pt t (nI (nw + 1)), be, re, ta, iR, se, ck, iW, tw, bk, rT, rS, rB, rP, yR, ys, yW, yw)) → wpY_step post (nI th, nI wd, nI rl, nI kl, nI nw, nI rc, bas, hd, ph, ou, st, pt, be, re, ta, iR, se, ck, iW, tw, bk, rT, rS, rB, rP, yR, ys, yW, yw) (nI t) := fun post k0 k1 => by
      unfold wpY_step
      refine yh_T ht n2 (br_t rfl (And.intro hv (br_f (by rw [et, hp]; decide) (And.intro hv (br_f (by rw [et, hp]; decide) (And.intro hv (nm_r (e' := 5) (by rw [et]; exact hp) (br_f (by decide) (br_t rfl (br_f ?_ ?_))))))))))
      · exact fun e => by
          have := sm_im e (by omega) (by omega)
          omega
      unfold wY_step_73
      refine br_t rfl (nm_r (nI_1 nw) (sm_st (by omega) (by omega) (sm_st (by omega) (by omega) ?_)))
      refine yh_pass (nw := nw + 1) (g := sm_pg 6 t hd iR ck iW bk) (by omega) (fun b hb post k => yl_pg (nw := nw + 1) (q := 6) (by omega) (by omega) (by omega) sm_us k) n4 (fun g => ?_) k1
      rw [sm_uu]; exact k0 g
    have pgE : ∀ b, sm_pg 6 t hd iR ck iW bk b = (if iR (t * 8 + b) = 0 then (0 : Int32) else if ck (t * 8 + b) = 0 then 1 else 0) := fun b => rfl
    have M := sm_MK00 t5
    refine br_c (fun z => And.intro hv (nm_e ?_)) (fun z => And.intro hv (nm_e ?_))
    · refine Yp _ (fun _ => And.intro rfl (zz_in (sm_clk (q' := 7) F' ht hp l (Or.inr ⟨rfl, z⟩)))) (fun k => ?_)
      obtain ⟨b, hb, k⟩ := k
      have zz : iR (t * 8 + b) = 0 := M.mp z b (by omega)
      rw [pgE, if_pos zz] at k
      exact absurd rfl k
    · refine Yp _ (fun k => ?_) (fun _ => And.intro rfl (zz_in (sm_clk (q' := 6) F' ht hp l (Or.inl ⟨rfl, z⟩))))
      refine absurd (M.mpr fun b hb => ?_) z
      rcases Nat.lt_or_ge b wd with l | l
      · have k := k b l
        have c0 : ck (t * 8 + b) = 0 := ck0 b hb
        rw [pgE] at k
        by_cases w : iR (t * 8 + b) = 0
        · exact w
        · rw [if_neg w, if_pos c0] at k; exact absurd k sm_10
      · exact (t8 b l hb).1
  · have e : nw = kl := by
      have : ¬ nw < kl := fun k => l (nI_lt k (by omega))
      omega
    obtain ⟨p, p1, p2, p3⟩ := sm_ab F' ht (by omega) 4
    refine xh_ab (by omega) p1 ?_
    unfold wpY_step
    exact yh_T ht n2 (br_t rfl (And.intro hv (br_f (by rw [et, hp]; decide) (And.intro hv (br_f (by rw [et, hp]; decide) (And.intro hv (nm_r (e' := 5) (by rw [et]; exact hp) (br_f (by decide) (br_t rfl (br_t (by rw [e]) (yh_ab (by omega) n4 p2 (And.intro rfl (zz_in p3)))))))))))))
theorem aa_step6 {k' t : Nat} (F : sm_F th wd rl kl nw rc lw me bas ph ou st pt be re ta ld rm wm hm km bm se tw rT rS rB rP xR xW xs xw od po ch cl hd iR ck iW bk yR ys yW yw) (ht : t < th) (hp : ph t = 6) : wpX_step (fun r u' => wpY_step (fun r' v' => r' = r ∧ i_Rel k' u' v') (nI th, nI wd, nI rl, nI kl, nI nw, nI rc, bas, hd, ph, ou, st, pt, be, re, ta, iR, se, ck, iW, tw, bk, rT, rS, rB, rP, yR, ys, yW, yw) (nI t)) (nI th, nI wd, nI rl, nI kl, nI nw, nI rc, lw, me, bas, ph, ou, st, pt, be, re, ta, ld, rm, wm, hm, km, bm, se, tw, rT, rS, rB, rP, xR, xW, xs, xw, od, po, ch, cl) (nI t) := by
  have F' := F
  obtain ⟨⟨n1, n2, n3, n4, n5, n6, n7, n8, n9, n10⟩, ⟨R, C, Q, O⟩, T, H, Ww, Pp, Dd⟩ := F
  obtain ⟨t1, t2, t3, t4, t5, t6, t7, t8, t9, t10, t11, t12, t13⟩ := T t ht
  obtain ⟨h1, h2, h3, h4, h5, h6⟩ := H.2 t ht
  have qc : sm_tn (ph t) = 6 := by rw [hp]; rfl
  have et : (nI t).toNatClampNeg = t := nI_clamp (by omega)
  have hv : vp_in (nI t) 4 := vp_in_nI (by omega) (by omega)
  have Y : ∀ (post : Int32 → SY → Prop) (a : Nat), sm_Le (sm_pg 6 t hd iR ck iW bk) wd a → wY_step_199 post (nI t) 6 (nI a) (nI th) (nI wd) (nI rl) (nI kl) (nI nw) (nI rc) bas hd ph ou st pt be re ta iR se ck iW tw bk rT rS rB rP yR ys yW yw → wpY_step post (nI th, nI wd, nI rl, nI kl, nI nw, nI rc, bas, hd, ph, ou, st, pt, be, re, ta, iR, se, ck, iW, tw, bk, rT, rS, rB, rP, yR, ys, yW, yw) (nI t) := fun post a hl k => by
    unfold wpY_step
    refine yh_T ht n2 (br_t rfl (And.intro hv (br_f (by rw [et, hp]; decide) (And.intro hv (br_f (by rw [et, hp]; decide) (And.intro hv (nm_r (e' := 6) (by rw [et]; exact hp) (br_f (by decide) (br_f (by decide) (?_))))))))))
    unfold wY_step_73
    refine br_f (by decide) (br_f (by decide) ?_)
    unfold wY_step_140
    refine br_f (by decide) (br_f (by decide) (yh_least (g := sm_pg 6 t hd iR ck iW bk) (fun b hb post k => yl_pg (q := 6) (by omega) (by omega) (by omega) hp k) n4 hl ?_))
    unfold wY_step_181
    have := hl.1
    exact br_t (nI_pos' (by omega)) (br_f (by decide) (br_t rfl k))
  obtain ⟨m1, m2, m3⟩ := t9 (by omega)
  have pgE : ∀ b, sm_pg 6 t hd iR ck iW bk b = (if iR (t * 8 + b) = 0 then (0 : Int32) else if ck (t * 8 + b) = 0 then 1 else 0) := fun b => rfl
  have ex : ∃ a, a < wd ∧ ¬ sm_pg 6 t hd iR ck iW bk a = 0 := by
    obtain ⟨a, ha, k1, k2⟩ := t12 qc
    refine ⟨a, ha, ?_⟩
    have k1 : ¬ iR (t * 8 + a) = 0 := k1
    have k2 : ck (t * 8 + a) = 0 := k2
    rw [pgE, if_neg k1, if_pos k2]; exact sm_10
  obtain ⟨a, hl⟩ := sm_Le_ex wd ex
  have ha := hl.1
  have hg : ¬ iR (t * 8 + a) = 0 := fun z => by
    have k := hl.2.1
    rw [pgE, if_pos z] at k; exact absurd rfl k
  have hw : vp_in (nI t * 8 + nI a) 32 := sm_in (sm_ix t a) (by omega) (by omega)
  unfold wpX_step
  refine xh_T ht n2 (br_f sm_10 (And.intro hv (nm_r (e' := 6) (by rw [et]; exact hp) (br_f (by decide) (br_f (by decide) (br_f (by decide) (br_f (by decide) (br_f (by decide) (br_f (by decide) (br_t rfl ?_))))))))))
  unfold wpX_stepCheck
  refine And.intro hv (And.intro hv ?_)
  rw [et]
  refine xh_least (sm_MKd t5 m1) n4 (a := a) (sm_Le_c (f := sm_pg 6 t hd iR ck iW bk) (fun i hi => ?_) hl) ?_
  · rw [pgE]
    show _ ↔ (if ck (t * 8 + i) = 0 then iR (t * 8 + i) else 0) = 0
    by_cases z : iR (t * 8 + i) = 0
    · rw [if_pos z, z]
      exact ⟨fun _ => by split <;> rfl, fun _ => rfl⟩
    · rw [if_neg z]
      by_cases w : ck (t * 8 + i) = 0
      · rw [if_pos w, if_pos w]
        exact ⟨fun k => absurd k sm_10, fun k => absurd k z⟩
      · rw [if_neg w, if_neg w]
  rcases sm_obs F' ht ha (by omega) with ⟨o1, o2, o3, o4⟩ | ⟨w, o1, o2, o3⟩
  · refine o3 _ (br_t rfl (And.intro hv (And.intro hv (nm_e (And.intro hv (And.intro hv ?_))))))
    rw [sm_us]
    have M : sm_MK (km t ||| ((1 : Int32) <<< (nI a &&& 31))) (sm_rw (upd ck (t * 8 + a) 1) t) := sm_MKs m1 (by omega) (by rw [show sm_rw (upd ck (t * 8 + a) 1) t a = 1 from sm_us]; exact sm_10) fun i hi ne => by rw [show sm_rw (upd ck (t * 8 + a) 1) t i = sm_rw ck t i from sm_un (by omega)]
    have Me := sm_MKe M t5
    have sub : ∀ b, b < 8 → ¬ upd ck (t * 8 + a) 1 (t * 8 + b) = 0 → ¬ iR (t * 8 + b) = 0 := fun b hb k => by
      by_cases e : b = a
      · rw [e]; exact hg
      · rw [sm_un (by omega)] at k; exact (m3 b hb).1 k
    have pgE' : ∀ b, sm_pg 6 t hd iR (upd ck (t * 8 + a) 1) iW bk b = (if iR (t * 8 + b) = 0 then (0 : Int32) else if upd ck (t * 8 + a) 1 (t * 8 + b) = 0 then 1 else 0) := fun b => rfl
    have Yp : ∀ post : Int32 → SY → Prop, ((∀ b, b < wd → sm_pg 6 t hd iR (upd ck (t * 8 + a) 1) iW bk b = 0) → post 7 (nI th, nI wd, nI rl, nI kl, nI nw, nI rc, bas, hd, upd ph t 7, ou, st, pt, be, re, ta, iR, se, upd ck (t * 8 + a) 1, iW, tw, bk, rT, rS, rB, rP, yR, ys, yW, yw)) → ((∃ b, b < wd ∧ ¬ sm_pg 6 t hd iR (upd ck (t * 8 + a) 1) iW bk b = 0) → post 7 (nI th, nI wd, nI rl, nI kl, nI nw, nI rc, bas, hd, ph, ou, st, pt, be, re, ta, iR, se, upd ck (t * 8 + a) 1, iW, tw, bk, rT, rS, rB, rP, yR, ys, yW, yw)) → wpY_step post (nI th, nI wd, nI rl, nI kl, nI nw, nI rc, bas, hd, ph, ou, st, pt, be, re, ta, iR, se, ck, iW, tw, bk, rT, rS, rB, rP, yR, ys, yW, yw) (nI t) := fun post k0 k1 => by
      refine Y post a hl ?_
      unfold wY_step_199
      refine o4 _ (br_t rfl ?_)
      unfold wY_step_211
      refine br_f (by decide) (br_t rfl (sm_si (sm_ix t a) (by omega) (by omega) sm_vb1 ?_))
      exact yh_pass (g := sm_pg 6 t hd iR (upd ck (t * 8 + a) 1) iW bk) (by omega) (fun b hb post k => yl_pg (q := 6) (by omega) (by omega) (by omega) hp k) n4 k0 k1
    refine br_c (fun z => ?_) (fun z => ?_)
    · have z := Me.mp z
      refine And.intro hv (nm_e (Yp _ (fun _ => And.intro rfl (zz_in (sm_chk (q' := 7) F' ht hp ha hg (Or.inr rfl)))) (fun k => ?_)))
      obtain ⟨b, hb, k⟩ := k
      rw [pgE'] at k
      by_cases w : iR (t * 8 + b) = 0
      · rw [if_pos w] at k; exact absurd rfl k
      · have : ¬ upd ck (t * 8 + a) 1 (t * 8 + b) = 0 := fun u => w ((z b (by omega)).mp u)
        rw [if_neg w, if_neg this] at k; exact absurd rfl k
    · have nz : ∃ b, b < wd ∧ ¬ iR (t * 8 + b) = 0 ∧ upd ck (t * 8 + a) 1 (t * 8 + b) = 0 := Classical.byContradiction fun no => z (Me.mpr fun b hb => by
        show upd ck (t * 8 + a) 1 (t * 8 + b) = 0 ↔ iR (t * 8 + b) = 0
        constructor
        · intro k
          rcases Nat.lt_or_ge b wd with l | l
          · exact Classical.byContradiction fun w => no ⟨b, l, w, k⟩
          · exact (t8 b l hb).1
        · intro k
          exact Classical.byContradiction fun w => sub b hb w k)
      have ph4 : upd ph t (nI 6) = ph := by
        have := sm_id (f := ph) (k := t)
        rw [hp] at this
        exact this
      have F4 := sm_chk (q' := 6) F' ht hp ha hg (Or.inl ⟨rfl, nz⟩)
      rw [ph4] at F4
      refine Yp _ (fun k => ?_) (fun _ => And.intro rfl (zz_in F4))
      obtain ⟨b, hb, k1, k2⟩ := nz
      have := k b hb
      rw [pgE', if_neg k1, if_pos k2] at this
      exact absurd this sm_10
  · obtain ⟨p, p1, p2, p3⟩ := sm_ab F' ht (by omega) w
    refine o2 _ (br_f o1 (xh_ab (by omega) p1 (Y _ a hl ?_)))
    unfold wY_step_199
    exact o3 _ p p2 (br_f sm_10 (And.intro rfl (zz_in p3)))
theorem aa_step7 {k' t : Nat} (F : sm_F th wd rl kl nw rc lw me bas ph ou st pt be re ta ld rm wm hm km bm se tw rT rS rB rP xR xW xs xw od po ch cl hd iR ck iW bk yR ys yW yw) (ht : t < th) (hp : ph t = 7) : wpX_step (fun r u' => wpY_step (fun r' v' => r' = r ∧ i_Rel k' u' v') (nI th, nI wd, nI rl, nI kl, nI nw, nI rc, bas, hd, ph, ou, st, pt, be, re, ta, iR, se, ck, iW, tw, bk, rT, rS, rB, rP, yR, ys, yW, yw) (nI t)) (nI th, nI wd, nI rl, nI kl, nI nw, nI rc, lw, me, bas, ph, ou, st, pt, be, re, ta, ld, rm, wm, hm, km, bm, se, tw, rT, rS, rB, rP, xR, xW, xs, xw, od, po, ch, cl) (nI t) := by
  have F' := F
  obtain ⟨⟨n1, n2, n3, n4, n5, n6, n7, n8, n9, n10⟩, ⟨R, C, Q, O⟩, T, H, Ww, Pp, Dd⟩ := F
  obtain ⟨t1, t2, t3, t4, t5, t6, t7, t8, t9, t10, t11, t12, t13⟩ := T t ht
  obtain ⟨h1, h2, h3, h4, h5, h6⟩ := H.2 t ht
  have qc : sm_tn (ph t) = 7 := by rw [hp]; rfl
  have et : (nI t).toNatClampNeg = t := nI_clamp (by omega)
  have hv : vp_in (nI t) 4 := vp_in_nI (by omega) (by omega)
  obtain ⟨p', p2', p3'⟩ := Pp.1 t ht (by omega) (by omega)
  unfold wpX_step
  refine xh_T ht n2 (br_f sm_10 (And.intro hv (nm_r (e' := 7) (by rw [et]; exact hp) (br_f (by decide) (br_f (by decide) (br_f (by decide) (br_f (by decide) (br_f (by decide) (br_f (by decide) (br_f (by decide) (br_t rfl ?_)))))))))))
  unfold wpX_stepDecide
  refine br_c (fun l => ?_) (fun l => ?_)
  · have l : rc < rl := (nI_ltI (by omega) (by omega)).mp l
    refine xa_add (iR := iR) (iW := iW) (yW := yW) (by omega) n4 (by omega) t5 t6 C (sm_hP (by omega) Q) ⟨p', by omega⟩ O fun xs' xw' ch' cl' od' po' A O' => ?_
    refine sm_st (by omega) (by omega) (sm_st (by omega) (by omega) ?_)
    unfold wpY_step
    refine yh_T ht n2 (br_t rfl (And.intro hv (br_f (by rw [et, hp]; decide) (And.intro hv (br_f (by rw [et, hp]; decide) (And.intro hv (nm_r (e' := 7) (by rw [et]; exact hp) (br_f (by decide) (br_f (by decide) (?_))))))))))
    unfold wY_step_73
    refine br_f (by decide) (br_t rfl (br_f (fun e => ?_) ?_))
    · have := sm_im e (by omega) (by omega)
      omega
    unfold wY_step_140
    refine br_t rfl (ya_add (by omega) (by omega) t7 fun yR' ys' yW' yw' B => sm_st (by omega) (by omega) ?_)
    exact And.intro rfl (zz_in (sm_dec _ _ _ _ F' ht hp l A B O'))
  · have e : rc = rl := by
      have : ¬ rc < rl := fun k => l (nI_lt k (by omega))
      omega
    obtain ⟨p, p1, p2, p3⟩ := sm_ab F' ht (by omega) 5
    refine xh_ab (by omega) p1 ?_
    unfold wpY_step
    refine yh_T ht n2 (br_t rfl (And.intro hv (br_f (by rw [et, hp]; decide) (And.intro hv (br_f (by rw [et, hp]; decide) (And.intro hv (nm_r (e' := 7) (by rw [et]; exact hp) (br_f (by decide) (br_f (by decide) (?_))))))))))
    unfold wY_step_73
    exact br_f (by decide) (br_t rfl (br_t (by rw [e]) (yh_ab (by omega) n4 p2 (And.intro rfl (zz_in p3)))))
theorem aa_step8 {k' t : Nat} (F : sm_F th wd rl kl nw rc lw me bas ph ou st pt be re ta ld rm wm hm km bm se tw rT rS rB rP xR xW xs xw od po ch cl hd iR ck iW bk yR ys yW yw) (ht : t < th) (hp : ph t = 8) : wpX_step (fun r u' => wpY_step (fun r' v' => r' = r ∧ i_Rel k' u' v') (nI th, nI wd, nI rl, nI kl, nI nw, nI rc, bas, hd, ph, ou, st, pt, be, re, ta, iR, se, ck, iW, tw, bk, rT, rS, rB, rP, yR, ys, yW, yw) (nI t)) (nI th, nI wd, nI rl, nI kl, nI nw, nI rc, lw, me, bas, ph, ou, st, pt, be, re, ta, ld, rm, wm, hm, km, bm, se, tw, rT, rS, rB, rP, xR, xW, xs, xw, od, po, ch, cl) (nI t) := by
  have F' := F
  obtain ⟨⟨n1, n2, n3, n4, n5, n6, n7, n8, n9, n10⟩, ⟨R, C, Q, O⟩, T, H, Ww, Pp, Dd⟩ := F
  obtain ⟨t1, t2, t3, t4, t5, t6, t7, t8, t9, t10, t11, t12, t13⟩ := T t ht
  obtain ⟨h1, h2, h3, h4, h5, h6⟩ := H.2 t ht
  have qc : sm_tn (ph t) = 8 := by rw [hp]; rfl
  have et : (nI t).toNatClampNeg = t := nI_clamp (by omega)
  have hv : vp_in (nI t) 4 := vp_in_nI (by omega) (by omega)
  have Y : ∀ (post : Int32 → SY → Prop) (a : Nat), sm_Le (sm_pg 8 t hd iR ck iW bk) wd a → wY_step_211 post (nI t) 8 (nI a) (nI th) (nI wd) (nI rl) (nI kl) (nI nw) (nI rc) bas hd ph ou st pt be re ta iR se ck iW tw bk rT rS rB rP yR ys yW yw → wpY_step post (nI th, nI wd, nI rl, nI kl, nI nw, nI rc, bas, hd, ph, ou, st, pt, be, re, ta, iR, se, ck, iW, tw, bk, rT, rS, rB, rP, yR, ys, yW, yw) (nI t) := fun post a hl k => by
    unfold wpY_step
    refine yh_T ht n2 (br_t rfl (And.intro hv (br_f (by rw [et, hp]; decide) (And.intro hv (br_f (by rw [et, hp]; decide) (And.intro hv (nm_r (e' := 8) (by rw [et]; exact hp) (br_f (by decide) (br_f (by decide) (?_))))))))))
    unfold wY_step_73
    refine br_f (by decide) (br_f (by decide) ?_)
    unfold wY_step_140
    refine br_f (by decide) (br_f (by decide) (yh_least (g := sm_pg 8 t hd iR ck iW bk) (fun b hb post k => yl_pg (q := 8) (by omega) (by omega) (by omega) hp k) n4 hl ?_))
    unfold wY_step_181
    have := hl.1
    exact br_t (nI_pos' (by omega)) (br_f (by decide) (br_f (by decide) k))
  obtain ⟨m1, m2, m3⟩ := t9 (by omega)
  have pgE : ∀ b, sm_pg 8 t hd iR ck iW bk b = (if iW (t * 8 + b) = 0 then (0 : Int32) else if bk (t * 8 + b) = 0 then 1 else 0) := fun b => rfl
  have ex : ∃ a, a < wd ∧ ¬ sm_pg 8 t hd iR ck iW bk a = 0 := by
    obtain ⟨a, ha, k1, k2⟩ := t13 qc
    refine ⟨a, ha, ?_⟩
    have k1 : ¬ iW (t * 8 + a) = 0 := k1
    have k2 : bk (t * 8 + a) = 0 := k2
    rw [pgE, if_neg k1, if_pos k2]; exact sm_10
  obtain ⟨a, hl⟩ := sm_Le_ex wd ex
  have ha := hl.1
  have hg : ¬ iW (t * 8 + a) = 0 := fun z => by
    have k := hl.2.1
    rw [pgE, if_pos z] at k; exact absurd rfl k
  have hw : vp_in (nI t * 8 + nI a) 32 := sm_in (sm_ix t a) (by omega) (by omega)
  have e1 : (nI t * 8 + nI a).toNatClampNeg = t * 8 + a := sm_cl (sm_ix t a) (by omega)
  have ea : (nI a).toNatClampNeg = a := nI_clamp (by omega)
  have hva : vp_in (nI a) 8 := vp_in_nI (by omega) (by omega)
  unfold wpX_step
  refine xh_T ht n2 (br_f sm_10 (And.intro hv (nm_r (e' := 8) (by rw [et]; exact hp) (br_f (by decide) (br_f (by decide) (br_f (by decide) (br_f (by decide) (br_f (by decide) (br_f (by decide) (br_f (by decide) (br_f (by decide) (br_t rfl ?_))))))))))))
  unfold wpX_stepWrite
  refine And.intro hv (And.intro hv ?_)
  rw [et]
  refine xh_least (sm_MKd t6 m2) n4 (a := a) (sm_Le_c (f := sm_pg 8 t hd iR ck iW bk) (fun i hi => ?_) hl) ?_
  · rw [pgE]
    show _ ↔ (if bk (t * 8 + i) = 0 then iW (t * 8 + i) else 0) = 0
    by_cases z : iW (t * 8 + i) = 0
    · rw [if_pos z, z]
      exact ⟨fun _ => by split <;> rfl, fun _ => rfl⟩
    · rw [if_neg z]
      by_cases w : bk (t * 8 + i) = 0
      · rw [if_pos w, if_pos w]
        exact ⟨fun k => absurd k sm_10, fun k => absurd k z⟩
      · rw [if_neg w, if_neg w]
  refine And.intro hw (And.intro hva (nm_r (e' := upd me a (tw (t * 8 + a))) (by rw [ea, e1]) (And.intro hv (And.intro hv (nm_e (And.intro hv (And.intro hv ?_)))))))
  rw [sm_us]
  have M : sm_MK (bm t ||| ((1 : Int32) <<< (nI a &&& 31))) (sm_rw (upd bk (t * 8 + a) 1) t) := sm_MKs m2 (by omega) (by rw [show sm_rw (upd bk (t * 8 + a) 1) t a = 1 from sm_us]; exact sm_10) fun i hi ne => by rw [show sm_rw (upd bk (t * 8 + a) 1) t i = sm_rw bk t i from sm_un (by omega)]
  have Me := sm_MKe M t6
  have sub : ∀ b, b < 8 → ¬ upd bk (t * 8 + a) 1 (t * 8 + b) = 0 → ¬ iW (t * 8 + b) = 0 := fun b hb k => by
    by_cases e : b = a
    · rw [e]; exact hg
    · rw [sm_un (by omega)] at k; exact (m3 b hb).2 k
  have pgE' : ∀ b, sm_pg 8 t hd iR ck iW (upd bk (t * 8 + a) 1) b = (if iW (t * 8 + b) = 0 then (0 : Int32) else if upd bk (t * 8 + a) 1 (t * 8 + b) = 0 then 1 else 0) := fun b => rfl
  have Yp : ∀ post : Int32 → SY → Prop, ((∀ b, b < wd → sm_pg 8 t hd iR ck iW (upd bk (t * 8 + a) 1) b = 0) → post 9 (nI th, nI wd, nI rl, nI kl, nI nw, nI rc, bas, hd, upd ph t 9, ou, st, pt, be, re, ta, iR, se, ck, iW, tw, upd bk (t * 8 + a) 1, rT, rS, rB, rP, yR, ys, yW, yw)) → ((∃ b, b < wd ∧ ¬ sm_pg 8 t hd iR ck iW (upd bk (t * 8 + a) 1) b = 0) → post 9 (nI th, nI wd, nI rl, nI kl, nI nw, nI rc, bas, hd, ph, ou, st, pt, be, re, ta, iR, se, ck, iW, tw, upd bk (t * 8 + a) 1, rT, rS, rB, rP, yR, ys, yW, yw)) → wpY_step post (nI th, nI wd, nI rl, nI kl, nI nw, nI rc, bas, hd, ph, ou, st, pt, be, re, ta, iR, se, ck, iW, tw, bk, rT, rS, rB, rP, yR, ys, yW, yw) (nI t) := fun post k0 k1 => by
    refine Y post a hl ?_
    unfold wY_step_211
    refine br_f (by decide) (br_f (by decide) (br_f (by decide) ?_))
    unfold wY_step_327
    refine br_f (by decide) (br_t rfl (sm_si (sm_ix t a) (by omega) (by omega) sm_vb1 ?_))
    exact yh_pass (g := sm_pg 8 t hd iR ck iW (upd bk (t * 8 + a) 1)) (by omega) (fun b hb post k => yl_pg (q := 8) (by omega) (by omega) (by omega) hp k) n4 k0 k1
  refine br_c (fun z => ?_) (fun z => ?_)
  · have z := Me.mp z
    have all : ∀ b, b < 8 → ¬ iW (t * 8 + b) = 0 → ¬ upd bk (t * 8 + a) 1 (t * 8 + b) = 0 := fun b hb k u => k ((z b hb).mp u)
    refine And.intro hv (nm_e (Yp _ (fun _ => And.intro rfl (zz_in (sm_wb (q' := 9) F' ht hp ha hg (Or.inr ⟨rfl, all⟩)))) (fun k => ?_)))
    obtain ⟨b, hb, k⟩ := k
    rw [pgE'] at k
    by_cases w : iW (t * 8 + b) = 0
    · rw [if_pos w] at k; exact absurd rfl k
    · rw [if_neg w, if_neg (all b (by omega) w)] at k; exact absurd rfl k
  · have nz : ∃ b, b < wd ∧ ¬ iW (t * 8 + b) = 0 ∧ upd bk (t * 8 + a) 1 (t * 8 + b) = 0 := Classical.byContradiction fun no => z (Me.mpr fun b hb => by
      show upd bk (t * 8 + a) 1 (t * 8 + b) = 0 ↔ iW (t * 8 + b) = 0
      constructor
      · intro k
        rcases Nat.lt_or_ge b wd with l | l
        · exact Classical.byContradiction fun w => no ⟨b, l, w, k⟩
        · exact (t8 b l hb).2
      · intro k
        exact Classical.byContradiction fun w => sub b hb w k)
    have ph4 : upd ph t (nI 8) = ph := by
      have := sm_id (f := ph) (k := t)
      rw [hp] at this
      exact this
    have F4 := sm_wb (q' := 8) F' ht hp ha hg (Or.inl ⟨rfl, nz⟩)
    rw [ph4] at F4
    refine Yp _ (fun k => ?_) (fun _ => And.intro rfl (zz_in F4))
    obtain ⟨b, hb, k1, k2⟩ := nz
    have := k b hb
    rw [pgE', if_neg k1, if_pos k2] at this
    exact absurd this sm_10
theorem aa_step9 {k' t : Nat} (F : sm_F th wd rl kl nw rc lw me bas ph ou st pt be re ta ld rm wm hm km bm se tw rT rS rB rP xR xW xs xw od po ch cl hd iR ck iW bk yR ys yW yw) (ht : t < th) (hp : ph t = 9) : wpX_step (fun r u' => wpY_step (fun r' v' => r' = r ∧ i_Rel k' u' v') (nI th, nI wd, nI rl, nI kl, nI nw, nI rc, bas, hd, ph, ou, st, pt, be, re, ta, iR, se, ck, iW, tw, bk, rT, rS, rB, rP, yR, ys, yW, yw) (nI t)) (nI th, nI wd, nI rl, nI kl, nI nw, nI rc, lw, me, bas, ph, ou, st, pt, be, re, ta, ld, rm, wm, hm, km, bm, se, tw, rT, rS, rB, rP, xR, xW, xs, xw, od, po, ch, cl) (nI t) := by
  have F' := F
  obtain ⟨⟨n1, n2, n3, n4, n5, n6, n7, n8, n9, n10⟩, ⟨R, C, Q, O⟩, T, H, Ww, Pp, Dd⟩ := F
  obtain ⟨t1, t2, t3, t4, t5, t6, t7, t8, t9, t10, t11, t12, t13⟩ := T t ht
  obtain ⟨h1, h2, h3, h4, h5, h6⟩ := H.2 t ht
  have qc : sm_tn (ph t) = 9 := by rw [hp]; rfl
  have et : (nI t).toNatClampNeg = t := nI_clamp (by omega)
  have hv : vp_in (nI t) 4 := vp_in_nI (by omega) (by omega)
  have Y : ∀ (post : Int32 → SY → Prop) (a : Nat), sm_Le (sm_pg 9 t hd iR ck iW bk) wd a → wY_step_211 post (nI t) 9 (nI a) (nI th) (nI wd) (nI rl) (nI kl) (nI nw) (nI rc) bas hd ph ou st pt be re ta iR se ck iW tw bk rT rS rB rP yR ys yW yw → wpY_step post (nI th, nI wd, nI rl, nI kl, nI nw, nI rc, bas, hd, ph, ou, st, pt, be, re, ta, iR, se, ck, iW, tw, bk, rT, rS, rB, rP, yR, ys, yW, yw) (nI t) := fun post a hl k => by
    unfold wpY_step
    refine yh_T ht n2 (br_t rfl (And.intro hv (br_f (by rw [et, hp]; decide) (And.intro hv (br_f (by rw [et, hp]; decide) (And.intro hv (nm_r (e' := 9) (by rw [et]; exact hp) (br_f (by decide) (br_f (by decide) (?_))))))))))
    unfold wY_step_73
    refine br_f (by decide) (br_f (by decide) ?_)
    unfold wY_step_140
    refine br_f (by decide) (br_f (by decide) (yh_least (g := sm_pg 9 t hd iR ck iW bk) (fun b hb post k => yl_pg (q := 9) (by omega) (by omega) (by omega) hp k) n4 hl ?_))
    unfold wY_step_181
    have := hl.1
    exact br_t (nI_pos' (by omega)) (br_f (by decide) (br_f (by decide) k))
  have pgE : ∀ b, sm_pg 9 t hd iR ck iW bk b = (if hd b = nI t then (1 : Int32) else 0) := fun b => rfl
  have ex : ∃ a, a < wd ∧ ¬ sm_pg 9 t hd iR ck iW bk a = 0 := by
    obtain ⟨a, ha, k⟩ := h6 (by omega)
    refine ⟨a, ha, ?_⟩
    rw [pgE, if_pos k]; exact sm_10
  obtain ⟨a, hl⟩ := sm_Le_ex wd ex
  have ha := hl.1
  have hg : hd a = nI t := Classical.byContradiction fun z => by
    have k := hl.2.1
    rw [pgE, if_neg z] at k; exact absurd rfl k
  have ea : (nI a).toNatClampNeg = a := nI_clamp (by omega)
  have hva : vp_in (nI a) 8 := vp_in_nI (by omega) (by omega)
  obtain ⟨v, o, w1, w2, w3, w4, w5, w6, w7⟩ := Ww a ha
  have xE : ∃ x, x ≤ 32 ∧ x = sm_tn (pt t) := ⟨sm_tn (pt t), by have := (Pp.1 t ht (by omega) (by omega)).2.2; omega, rfl⟩
  obtain ⟨x, x32, xE⟩ := xE
  unfold wpX_step
  refine xh_T ht n2 (br_f sm_10 (And.intro hv (nm_r (e' := 9) (by rw [et]; exact hp) (br_f (by decide) (br_f (by decide) (br_f (by decide) (br_f (by decide) (br_f (by decide) (br_f (by decide) (br_f (by decide) (br_f (by decide) (br_f (by decide) (br_t rfl ?_)))))))))))))
  unfold wX_step_110 wpX_stepRelease
  refine And.intro hv ?_
  refine xh_least (f := sm_hw hd t) (by rw [et]; exact h1) n4 (a := a) hl ?_
  refine xh_ver (by omega) w3 w1 w2 (And.intro hv ?_)
  refine br_t (by rw [et]; exact hp) (And.intro hv (nm_r (e' := nI x) (by rw [et, xE]; exact (Pp.1 t ht (by omega) (by omega)).1) ?_))
  unfold wX_stepRelease_35
  refine And.intro hva (nm_r (e' := upd lw a (nI (x * 8))) (by rw [ea, sm_shl3 x (by omega)]) (And.intro hv (And.intro hv (nm_r (e' := upd hm t (hm t &&& (((1 : Int32) <<< (nI a &&& 31)) ^^^ (-1)))) (by rw [et]) (And.intro hv ?_)))))
  rw [et, sm_us]
  have nm : ¬ (-1 : Int32) = nI t := fun k => sm_ne1 (a := t) (by omega) k.symm
  have M : sm_MK (hm t &&& (((1 : Int32) <<< (nI a &&& 31)) ^^^ (-1))) (sm_hw (upd hd a (-1)) t) := sm_MKr h1 (by omega) (sm_hw0 (by rw [sm_us]; exact nm)) fun i hi ne => by rw [sm_hwz, sm_hwz, sm_un ne]
  have M0 := sm_MK00 M
  have pgE' : ∀ b, sm_pg 9 t (upd hd a (-1)) iR ck iW bk b = (if upd hd a (-1) b = nI t then (1 : Int32) else 0) := fun b => rfl
  have Yp : ∀ post : Int32 → SY → Prop, ((∀ b, b < wd → sm_pg 9 t (upd hd a (-1)) iR ck iW bk b = 0) → post 11 (nI th, nI wd, nI rl, nI kl, nI nw, nI rc, bas, upd hd a (-1), upd ph t 0, ou, st, pt, be, re, ta, iR, se, ck, iW, tw, bk, rT, rS, rB, rP, yR, ys, yW, yw)) → ((∃ b, b < wd ∧ ¬ sm_pg 9 t (upd hd a (-1)) iR ck iW bk b = 0) → post 10 (nI th, nI wd, nI rl, nI kl, nI nw, nI rc, bas, upd hd a (-1), ph, ou, st, pt, be, re, ta, iR, se, ck, iW, tw, bk, rT, rS, rB, rP, yR, ys, yW, yw)) → wpY_step post (nI th, nI wd, nI rl, nI kl, nI nw, nI rc, bas, hd, ph, ou, st, pt, be, re, ta, iR, se, ck, iW, tw, bk, rT, rS, rB, rP, yR, ys, yW, yw) (nI t) := fun post k0 k1 => by
    refine Y post a hl ?_
    unfold wY_step_211
    refine br_f (by decide) (br_f (by decide) (br_f (by decide) ?_))
    unfold wY_step_327
    refine br_f (by decide) (br_f (by decide) (sm_st (by omega) (by omega) ?_))
    refine yh_pass (g := sm_pg 9 t (upd hd a (-1)) iR ck iW bk) (by omega) (fun b hb post k => yl_pg (q := 9) (by omega) (by omega) (by omega) hp k) n4 (fun g => And.intro hv (br_t (by rw [et]; exact sm_us) (k0 g))) (fun g => And.intro hv (br_f (by rw [et, hp]; decide) (k1 g)))
  refine br_c (fun z => ?_) (fun z => ?_)
  · have all : ∀ b, b < 8 → ¬ upd hd a (-1) b = nI t := fun b hb => sm_hwz.mp (M0.mp z b hb)
    refine And.intro hv (nm_e (Yp _ (fun _ => And.intro rfl (zz_in (sm_rel (q' := 0) F' ht ha hg w3 w1 w2 (Or.inl ⟨qc, xE⟩) (Or.inr ⟨rfl, all⟩)))) (fun k => ?_)))
    obtain ⟨b, hb, k⟩ := k
    rw [pgE', if_neg (all b (by omega))] at k
    exact absurd rfl k
  · have nz : ∃ b, b < wd ∧ upd hd a (-1) b = nI t := Classical.byContradiction fun no => z (M0.mpr fun b hb => sm_hwz.mpr fun k => by
      rcases Nat.lt_or_ge b wd with l | l
      · exact no ⟨b, l, k⟩
      · rw [sm_un (by omega)] at k
        rcases H.1 b hb with u | ⟨s, s1, s2, s3⟩
        · exact sm_ne1 (a := t) (by omega) (k.symm.trans u)
        · omega)
    have ph4 : upd ph t (nI 9) = ph := by
      have := sm_id (f := ph) (k := t)
      rw [hp] at this
      exact this
    have F4 := sm_rel (q' := 9) F' ht ha hg w3 w1 w2 (Or.inl ⟨qc, xE⟩) (Or.inl ⟨qc.symm, nz⟩)
    rw [ph4] at F4
    refine Yp _ (fun k => ?_) (fun _ => And.intro rfl (zz_in F4))
    obtain ⟨b, hb, k2⟩ := nz
    have := k b hb
    rw [pgE', if_pos k2] at this
    exact absurd this sm_10
theorem aa_step10 {k' t : Nat} (F : sm_F th wd rl kl nw rc lw me bas ph ou st pt be re ta ld rm wm hm km bm se tw rT rS rB rP xR xW xs xw od po ch cl hd iR ck iW bk yR ys yW yw) (ht : t < th) (hp : ph t = 10) : wpX_step (fun r u' => wpY_step (fun r' v' => r' = r ∧ i_Rel k' u' v') (nI th, nI wd, nI rl, nI kl, nI nw, nI rc, bas, hd, ph, ou, st, pt, be, re, ta, iR, se, ck, iW, tw, bk, rT, rS, rB, rP, yR, ys, yW, yw) (nI t)) (nI th, nI wd, nI rl, nI kl, nI nw, nI rc, lw, me, bas, ph, ou, st, pt, be, re, ta, ld, rm, wm, hm, km, bm, se, tw, rT, rS, rB, rP, xR, xW, xs, xw, od, po, ch, cl) (nI t) := by
  have F' := F
  obtain ⟨⟨n1, n2, n3, n4, n5, n6, n7, n8, n9, n10⟩, ⟨R, C, Q, O⟩, T, H, Ww, Pp, Dd⟩ := F
  obtain ⟨t1, t2, t3, t4, t5, t6, t7, t8, t9, t10, t11, t12, t13⟩ := T t ht
  obtain ⟨h1, h2, h3, h4, h5, h6⟩ := H.2 t ht
  have qc : sm_tn (ph t) = 10 := by rw [hp]; rfl
  have et : (nI t).toNatClampNeg = t := nI_clamp (by omega)
  have hv : vp_in (nI t) 4 := vp_in_nI (by omega) (by omega)
  have Y : ∀ (post : Int32 → SY → Prop) (a : Nat), sm_Le (sm_pg 10 t hd iR ck iW bk) wd a → wY_step_211 post (nI t) 10 (nI a) (nI th) (nI wd) (nI rl) (nI kl) (nI nw) (nI rc) bas hd ph ou st pt be re ta iR se ck iW tw bk rT rS rB rP yR ys yW yw → wpY_step post (nI th, nI wd, nI rl, nI kl, nI nw, nI rc, bas, hd, ph, ou, st, pt, be, re, ta, iR, se, ck, iW, tw, bk, rT, rS, rB, rP, yR, ys, yW, yw) (nI t) := fun post a hl k => by
    unfold wpY_step
    refine yh_T ht n2 (br_t rfl (And.intro hv (br_f (by rw [et, hp]; decide) (And.intro hv (br_f (by rw [et, hp]; decide) (And.intro hv (nm_r (e' := 10) (by rw [et]; exact hp) (br_f (by decide) (br_f (by decide) (?_))))))))))
    unfold wY_step_73
    refine br_f (by decide) (br_f (by decide) ?_)
    unfold wY_step_140
    refine br_f (by decide) (br_f (by decide) (yh_least (g := sm_pg 10 t hd iR ck iW bk) (fun b hb post k => yl_pg (q := 10) (by omega) (by omega) (by omega) hp k) n4 hl ?_))
    unfold wY_step_181
    have := hl.1
    exact br_t (nI_pos' (by omega)) (br_f (by decide) (br_f (by decide) k))
  have pgE : ∀ b, sm_pg 10 t hd iR ck iW bk b = (if hd b = nI t then (1 : Int32) else 0) := fun b => rfl
  have ex : ∃ a, a < wd ∧ ¬ sm_pg 10 t hd iR ck iW bk a = 0 := by
    obtain ⟨a, ha, k⟩ := h6 (by omega)
    refine ⟨a, ha, ?_⟩
    rw [pgE, if_pos k]; exact sm_10
  obtain ⟨a, hl⟩ := sm_Le_ex wd ex
  have ha := hl.1
  have hg : hd a = nI t := Classical.byContradiction fun z => by
    have k := hl.2.1
    rw [pgE, if_neg z] at k; exact absurd rfl k
  have ea : (nI a).toNatClampNeg = a := nI_clamp (by omega)
  have hva : vp_in (nI a) 8 := vp_in_nI (by omega) (by omega)
  obtain ⟨v, o, w1, w2, w3, w4, w5, w6, w7⟩ := Ww a ha
  have xE : ∃ x, x ≤ 32 ∧ x = v := ⟨v, w1, rfl⟩
  obtain ⟨x, x32, xE⟩ := xE
  unfold wpX_step
  refine xh_T ht n2 (br_f sm_10 (And.intro hv (nm_r (e' := 10) (by rw [et]; exact hp) (br_f (by decide) (br_f (by decide) (br_f (by decide) (br_f (by decide) (br_f (by decide) (br_f (by decide) (br_f (by decide) (br_f (by decide) (br_f (by decide) (br_f (by decide) (br_t rfl ?_))))))))))))))
  unfold wX_step_110 wpX_stepRelease
  refine And.intro hv ?_
  refine xh_least (f := sm_hw hd t) (by rw [et]; exact h1) n4 (a := a) hl ?_
  refine xh_ver (by omega) w3 w1 w2 (And.intro hv ?_)
  refine br_f (by rw [et, hp]; decide) ?_
  rw [← xE]
  unfold wX_stepRelease_35
  refine And.intro hva (nm_r (e' := upd lw a (nI (x * 8))) (by rw [ea, sm_shl3 x (by omega)]) (And.intro hv (And.intro hv (nm_r (e' := upd hm t (hm t &&& (((1 : Int32) <<< (nI a &&& 31)) ^^^ (-1)))) (by rw [et]) (And.intro hv ?_)))))
  rw [et, sm_us]
  have nm : ¬ (-1 : Int32) = nI t := fun k => sm_ne1 (a := t) (by omega) k.symm
  have M : sm_MK (hm t &&& (((1 : Int32) <<< (nI a &&& 31)) ^^^ (-1))) (sm_hw (upd hd a (-1)) t) := sm_MKr h1 (by omega) (sm_hw0 (by rw [sm_us]; exact nm)) fun i hi ne => by rw [sm_hwz, sm_hwz, sm_un ne]
  have M0 := sm_MK00 M
  have pgE' : ∀ b, sm_pg 10 t (upd hd a (-1)) iR ck iW bk b = (if upd hd a (-1) b = nI t then (1 : Int32) else 0) := fun b => rfl
  have Yp : ∀ post : Int32 → SY → Prop, ((∀ b, b < wd → sm_pg 10 t (upd hd a (-1)) iR ck iW bk b = 0) → post 11 (nI th, nI wd, nI rl, nI kl, nI nw, nI rc, bas, upd hd a (-1), upd ph t 0, ou, st, pt, be, re, ta, iR, se, ck, iW, tw, bk, rT, rS, rB, rP, yR, ys, yW, yw)) → ((∃ b, b < wd ∧ ¬ sm_pg 10 t (upd hd a (-1)) iR ck iW bk b = 0) → post 10 (nI th, nI wd, nI rl, nI kl, nI nw, nI rc, bas, upd hd a (-1), ph, ou, st, pt, be, re, ta, iR, se, ck, iW, tw, bk, rT, rS, rB, rP, yR, ys, yW, yw)) → wpY_step post (nI th, nI wd, nI rl, nI kl, nI nw, nI rc, bas, hd, ph, ou, st, pt, be, re, ta, iR, se, ck, iW, tw, bk, rT, rS, rB, rP, yR, ys, yW, yw) (nI t) := fun post k0 k1 => by
    refine Y post a hl ?_
    unfold wY_step_211
    refine br_f (by decide) (br_f (by decide) (br_f (by decide) ?_))
    unfold wY_step_327
    refine br_f (by decide) (br_f (by decide) (sm_st (by omega) (by omega) ?_))
    refine yh_pass (g := sm_pg 10 t (upd hd a (-1)) iR ck iW bk) (by omega) (fun b hb post k => yl_pg (q := 10) (by omega) (by omega) (by omega) hp k) n4 (fun g => And.intro hv (br_t (by rw [et]; exact sm_us) (k0 g))) (fun g => And.intro hv (br_f (by rw [et, hp]; decide) (k1 g)))
  refine br_c (fun z => ?_) (fun z => ?_)
  · have all : ∀ b, b < 8 → ¬ upd hd a (-1) b = nI t := fun b hb => sm_hwz.mp (M0.mp z b hb)
    refine And.intro hv (nm_e (Yp _ (fun _ => And.intro rfl (zz_in (sm_rel (q' := 0) F' ht ha hg w3 w1 w2 (Or.inr ⟨qc, xE⟩) (Or.inr ⟨rfl, all⟩)))) (fun k => ?_)))
    obtain ⟨b, hb, k⟩ := k
    rw [pgE', if_neg (all b (by omega))] at k
    exact absurd rfl k
  · have nz : ∃ b, b < wd ∧ upd hd a (-1) b = nI t := Classical.byContradiction fun no => z (M0.mpr fun b hb => sm_hwz.mpr fun k => by
      rcases Nat.lt_or_ge b wd with l | l
      · exact no ⟨b, l, k⟩
      · rw [sm_un (by omega)] at k
        rcases H.1 b hb with u | ⟨s, s1, s2, s3⟩
        · exact sm_ne1 (a := t) (by omega) (k.symm.trans u)
        · omega)
    have ph4 : upd ph t (nI 10) = ph := by
      have := sm_id (f := ph) (k := t)
      rw [hp] at this
      exact this
    have F4 := sm_rel (q' := 10) F' ht ha hg w3 w1 w2 (Or.inr ⟨qc, xE⟩) (Or.inl ⟨qc.symm, nz⟩)
    rw [ph4] at F4
    refine Yp _ (fun k => ?_) (fun _ => And.intro rfl (zz_in F4))
    obtain ⟨b, hb, k2⟩ := nz
    have := k b hb
    rw [pgE', if_pos k2] at this
    exact absurd this sm_10
theorem aa_step {k' : Nat} (F : sm_F th wd rl kl nw rc lw me bas ph ou st pt be re ta ld rm wm hm km bm se tw rT rS rB rP xR xW xs xw od po ch cl hd iR ck iW bk yR ys yW yw) (v1 : Int32) : wpX_step (fun r u' => wpY_step (fun r' v' => r' = r ∧ i_Rel k' u' v') (nI th, nI wd, nI rl, nI kl, nI nw, nI rc, bas, hd, ph, ou, st, pt, be, re, ta, iR, se, ck, iW, tw, bk, rT, rS, rB, rP, yR, ys, yW, yw) v1) (nI th, nI wd, nI rl, nI kl, nI nw, nI rc, lw, me, bas, ph, ou, st, pt, be, re, ta, ld, rm, wm, hm, km, bm, se, tw, rT, rS, rB, rP, xR, xW, xs, xw, od, po, ch, cl) v1 := by
  have F' := F
  obtain ⟨⟨n1, n2, n3, n4, n5, n6, n7, n8, n9, n10⟩, ⟨R, C, Q, O⟩, T, H, Ww, Pp, Dd⟩ := F
  rcases pk_ix v1 (n := th) (by omega) with h | h | ⟨t, ht, rfl⟩
  · unfold wpX_step
    refine xh_T0 (Or.inl h) (br_t rfl ?_)
    unfold wpY_step
    exact yh_T0 (Or.inl h) (br_f sm_10 (And.intro rfl (zz_in F')))
  · unfold wpX_step
    refine xh_T0 (Or.inr h) (br_t rfl ?_)
    unfold wpY_step
    exact yh_T0 (Or.inr h) (br_f sm_10 (And.intro rfl (zz_in F')))
  · obtain ⟨t1, t2, _⟩ := T t ht
    have et : (nI t).toNatClampNeg = t := nI_clamp (by omega)
    have hv : vp_in (nI t) 4 := vp_in_nI (by omega) (by omega)
    generalize sm_tn (ph t) = q at t1 t2
    have : q = 0 ∨ q = 1 ∨ q = 2 ∨ q = 3 ∨ q = 4 ∨ q = 5 ∨ q = 6 ∨ q = 7 ∨ q = 8 ∨ q = 9 ∨ q = 10 := by omega
    rcases this with rfl | rfl | rfl | rfl | rfl | rfl | rfl | rfl | rfl | rfl | rfl
    · unfold wpX_step
      refine xh_T ht n2 (br_f sm_10 (And.intro hv (nm_r (e' := 0) (by rw [et]; exact t1) (br_t (by decide) ?_))))
      unfold wpY_step
      exact yh_T ht n2 (br_t rfl (And.intro hv (br_t (by rw [et]; exact t1) (And.intro rfl (zz_in F')))))
    · unfold wpX_step
      refine xh_T ht n2 (br_f sm_10 (And.intro hv (nm_r (e' := 1) (by rw [et]; exact t1) (br_t (by decide) ?_))))
      unfold wpY_step
      exact yh_T ht n2 (br_t rfl (And.intro hv (br_f (by rw [et, t1]; decide) (And.intro hv (br_t (by rw [et]; exact t1) (And.intro rfl (zz_in F')))))))
    · exact aa_step2 F' ht t1
    · exact aa_step3 F' ht t1
    · exact aa_step4 F' ht t1
    · exact aa_step5 F' ht t1
    · exact aa_step6 F' ht t1
    · exact aa_step7 F' ht t1
    · exact aa_step8 F' ht t1
    · exact aa_step9 F' ht t1
    · exact aa_step10 F' ht t1
end
end
section
section
variable {th wd rl kl nw rc : Nat} {lw me bas ph ou st pt be re ta ld rm wm hm km bm se tw rT rS rB rP xR xW xs xw od po ch cl hd iR ck iW bk yR ys yW yw : Nat → Int32}
def sm_fs (x : Int32) (f : Nat → Int32) : Nat → Nat → Int32
  | 0 => f
  | i + 1 => upd (sm_fs x f i) i x
theorem sm_fs_i {x : Int32} {f : Nat → Int32} {j : Nat} : ∀ n, j < n → sm_fs x f n j = x := by
  intro n
  induction n with
  | zero => intro h; exact absurd h (Nat.not_lt_zero j)
  | succ n ih =>
    intro h
    show upd (sm_fs x f n) n x j = x
    by_cases e : j = n
    · rw [e, sm_us]
    · rw [sm_un e]; exact ih (by omega)
def sm_bs (m f : Nat → Int32) : Nat → Nat → Int32
  | 0 => f
  | i + 1 => upd (sm_bs m f i) i (m i)
theorem sm_bs_i {m f : Nat → Int32} {j : Nat} : ∀ n, j < n → sm_bs m f n j = m j := by
  intro n
  induction n with
  | zero => intro h; exact absurd h (Nat.not_lt_zero j)
  | succ n ih =>
    intro h
    show upd (sm_bs m f n) n (m n) j = m j
    by_cases e : j = n
    · rw [e, sm_us]
    · rw [sm_un e]; exact ih (by omega)
theorem sm_bs_o {m f : Nat → Int32} {j : Nat} : ∀ n, n ≤ j → sm_bs m f n j = f j := by
  intro n
  induction n with
  | zero => intro _; rfl
  | succ n ih =>
    intro h
    show upd (sm_bs m f n) n (m n) j = f j
    rw [sm_un (by omega)]; exact ih (by omega)
/-- all threads new, no record, clock 0 -/
theorem sm_fresh (N : sm_Nb th wd rl kl 0 0) (ht : ∀ t, t < th → ph t = 0 ∧ st t = 0 ∧ rm t = 0 ∧ wm t = 0 ∧ hm t = 0 ∧ ∀ a, a < 8 → iR (t * 8 + a) = 0 ∧ iW (t * 8 + a) = 0) (hh : ∀ a, a < 8 → hd a = -1) (hw : ∀ a, a < wd → lw a = 0 ∧ cl a = 0 ∧ me a = bas a) : sm_F th wd rl kl 0 0 lw me bas ph ou st pt be re ta ld rm wm hm km bm se tw rT rS rB rP xR xW xs xw od po ch cl hd iR ck iW bk yR ys yW yw := by
  have N' := N
  obtain ⟨n1, n2, n3, n4, n5, n6, n7, n8, n9, n10⟩ := N'
  have nh : ∀ t, t < th → ∀ a, a < 8 → ¬ hd a = nI t := fun t h a ha e => sm_ne1 (a := t) (by omega) (e.symm.trans (hh a ha))
  have q0 : ∀ t, t < th → sm_tn (ph t) = 0 := fun t h => by rw [(ht t h).1]; rfl
  refine ⟨N, ⟨fun c hc => absurd hc (Nat.not_lt_zero c), fun a ha => ⟨(hw a ha).2.1, fun c hc => absurd hc (Nat.not_lt_zero c)⟩, ⟨fun c hc => absurd hc (Nat.not_lt_zero c), fun c d hc => absurd hc (Nat.not_lt_zero c), fun a ha c d h1 h2 => absurd h2 (Nat.not_lt_zero d)⟩, fun c hc => absurd hc (Nat.not_lt_zero c), fun c hc => absurd hc (Nat.not_lt_zero c)⟩, fun t h => ?_, ⟨fun a ha => Or.inl (hh a ha), fun t h => ?_⟩, fun a ha => ?_, ⟨fun t h g => ?_, fun t h g => ?_, fun s t hs h ne g => ?_⟩, fun t h g => ?_⟩
  · obtain ⟨k1, k2, k3, k4, k5, k6⟩ := ht t h
    rw [q0 t h, k2, k3, k4]
    exact ⟨k1, by omega, rfl, Nat.le_refl _, sm_MK0 fun a ha => (k6 a ha).1, sm_MK0 fun a ha => (k6 a ha).2, fun a ha => ⟨Or.inl (k6 a ha).1, Or.inl (k6 a ha).2⟩, fun a _ ha => k6 a ha, fun g => by omega, fun g => by omega, fun g => by omega, fun g => by omega, fun g => by omega⟩
  · obtain ⟨k1, k2, k3, k4, k5, k6⟩ := ht t h
    rw [q0 t h, k5]
    exact ⟨sm_MK0 fun a ha => sm_hw0 (nh t h a ha), fun _ => nh t h, fun g => by omega, fun g => by omega, fun g => by omega, fun g => by omega⟩
  · obtain ⟨k1, k2, k3⟩ := hw a ha
    exact ⟨0, 0, by omega, by omega, k1, hh a (by omega), fun _ => rfl, fun _ => k3, fun s hs e => absurd e (nh s hs a (by omega))⟩
  · rw [q0 t h] at g; omega
  · rw [q0 t h] at g; omega
  · rw [q0 s hs] at g; omega
  · rw [q0 t h] at g; omega
theorem xs_86 {post : Int32 → SX → Prop} {x1 : Int32} (h4 : th ≤ 4) (hp : post x1 (nI th, nI wd, nI rl, nI kl, nI nw, nI rc, lw, me, bas, sm_fs 0 ph th, sm_fs 0 ou th, sm_fs 0 st th, sm_fs 0 pt th, sm_fs 0 be th, sm_fs 0 re th, sm_fs (-1) ta th, sm_fs 0 ld th, sm_fs 0 rm th, sm_fs 0 wm th, sm_fs 0 hm th, sm_fs 0 km th, sm_fs 0 bm th, se, tw, rT, rS, rB, rP, xR, xW, xs, xw, od, po, ch, cl)) : ∀ d i : Nat, i + d = th → wX_settle_86 post x1 (d + 1) (nI i) (nI th) (nI wd) (nI rl) (nI kl) (nI nw) (nI rc) lw me bas (sm_fs 0 ph i) (sm_fs 0 ou i) (sm_fs 0 st i) (sm_fs 0 pt i) (sm_fs 0 be i) (sm_fs 0 re i) (sm_fs (-1) ta i) (sm_fs 0 ld i) (sm_fs 0 rm i) (sm_fs 0 wm i) (sm_fs 0 hm i) (sm_fs 0 km i) (sm_fs 0 bm i) se tw rT rS rB rP xR xW xs xw od po ch cl := by
  intro d
  induction d with
  | zero =>
    intro i hi
    have : i = th := by omega
    subst this
    exact br_t (nI_le (Nat.le_refl _) (by omega)) hp
  | succ d ih =>
    intro i hi
    refine br_f (nI_ge (by omega) (by omega)) (xm_fresh (by omega) (nm_r (nI_1 i) ?_))
    exact ih (i + 1) (by omega)
theorem xi_285 {post : SX → Prop} (hp : post (nI th, nI wd, nI rl, nI kl, nI nw, nI rc, lw, me, bas, sm_fs 0 ph 4, sm_fs 0 ou 4, sm_fs 0 st 4, sm_fs 0 pt 4, sm_fs 0 be 4, sm_fs 0 re 4, sm_fs (-1) ta 4, sm_fs 0 ld 4, sm_fs 0 rm 4, sm_fs 0 wm 4, sm_fs 0 hm 4, sm_fs 0 km 4, sm_fs 0 bm 4, se, tw, rT, rS, rB, rP, xR, xW, xs, xw, od, po, ch, cl)) : ∀ d i : Nat, i + d = 4 → wX_init_285 post (d + 1) (nI i) (nI th) (nI wd) (nI rl) (nI kl) (nI nw) (nI rc) lw me bas (sm_fs 0 ph i) (sm_fs 0 ou i) (sm_fs 0 st i) (sm_fs 0 pt i) (sm_fs 0 be i) (sm_fs 0 re i) (sm_fs (-1) ta i) (sm_fs 0 ld i) (sm_fs 0 rm i) (sm_fs 0 wm i) (sm_fs 0 hm i) (sm_fs 0 km i) (sm_fs 0 bm i) se tw rT rS rB rP xR xW xs xw od po ch cl := by
  intro d
  induction d with
  | zero =>
    intro i hi
    have : i = 4 := by omega
    subst this
    exact br_t (by decide) hp
  | succ d ih =>
    intro i hi
    refine br_f (nI_ge (b := 4) (by omega) (by omega)) (xm_fresh (by omega) (nm_r (nI_1 i) ?_))
    exact ih (i + 1) (by omega)
theorem ys_75 {post : Int32 → SY → Prop} {x1 : Int32} (h4 : th ≤ 4) (hp : ∀ iR' iW', (∀ s, s < th → ∀ a, a < 8 → iR' (s * 8 + a) = 0 ∧ iW' (s * 8 + a) = 0) → post x1 (nI th, nI wd, nI rl, nI kl, nI nw, nI rc, bas, hd, sm_fs 0 ph th, sm_fs 0 ou th, sm_fs (nI nw) st th, sm_fs 0 pt th, sm_fs (nI rc) be th, sm_fs 0 re th, sm_fs (-1) ta th, iR', se, ck, iW', tw, bk, rT, rS, rB, rP, yR, ys, yW, yw)) : ∀ (d i : Nat) (iR' iW' : Nat → Int32), i + d = th → (∀ s, s < i → ∀ a, a < 8 → iR' (s * 8 + a) = 0 ∧ iW' (s * 8 + a) = 0) → wY_settle_75 post x1 (d + 1) (nI i) (nI th) (nI wd) (nI rl) (nI kl) (nI nw) (nI rc) bas hd (sm_fs 0 ph i) (sm_fs 0 ou i) (sm_fs (nI nw) st i) (sm_fs 0 pt i) (sm_fs (nI rc) be i) (sm_fs 0 re i) (sm_fs (-1) ta i) iR' se ck iW' tw bk rT rS rB rP yR ys yW yw := by
  intro d
  induction d with
  | zero =>
    intro i iR' iW' hi h
    have : i = th := by omega
    subst this
    exact br_t (nI_le (Nat.le_refl _) (by omega)) (hp iR' iW' h)
  | succ d ih =>
    intro i iR' iW' hi h
    refine br_f (nI_ge (by omega) (by omega)) (yc_clear (by omega) fun iR2 iW2 z1 z2 => nm_r (nI_1 i) ?_)
    refine ih (i + 1) iR2 iW2 (by omega) fun s hs a ha => ?_
    by_cases e : s = i
    · rw [e]; exact ⟨z1.2 a ha, z2.2 a ha⟩
    · rw [z1.1 (s * 8 + a) (by omega), z2.1 (s * 8 + a) (by omega)]; exact h s (by omega) a ha
theorem yi_256 {post : SY → Prop} (hp : ∀ iR' iW', (∀ s, s < 4 → ∀ a, a < 8 → iR' (s * 8 + a) = 0 ∧ iW' (s * 8 + a) = 0) → post (nI th, nI wd, nI rl, nI kl, nI nw, nI rc, bas, hd, sm_fs 0 ph 4, sm_fs 0 ou 4, sm_fs (nI nw) st 4, sm_fs 0 pt 4, sm_fs (nI rc) be 4, sm_fs 0 re 4, sm_fs (-1) ta 4, iR', se, ck, iW', tw, bk, rT, rS, rB, rP, yR, ys, yW, yw)) : ∀ (d i : Nat) (iR' iW' : Nat → Int32), i + d = 4 → (∀ s, s < i → ∀ a, a < 8 → iR' (s * 8 + a) = 0 ∧ iW' (s * 8 + a) = 0) → wY_init_256 post (d + 1) (nI i) (nI th) (nI wd) (nI rl) (nI kl) (nI nw) (nI rc) bas hd (sm_fs 0 ph i) (sm_fs 0 ou i) (sm_fs (nI nw) st i) (sm_fs 0 pt i) (sm_fs (nI rc) be i) (sm_fs 0 re i) (sm_fs (-1) ta i) iR' se ck iW' tw bk rT rS rB rP yR ys yW yw := by
  intro d
  induction d with
  | zero =>
    intro i iR' iW' hi h
    have : i = 4 := by omega
    subst this
    exact br_t (by decide) (hp iR' iW' h)
  | succ d ih =>
    intro i iR' iW' hi h
    refine br_f (nI_ge (b := 4) (by omega) (by omega)) (yc_clear (by omega) fun iR2 iW2 z1 z2 => nm_r (nI_1 i) ?_)
    refine ih (i + 1) iR2 iW2 (by omega) fun s hs a ha => ?_
    by_cases e : s = i
    · rw [e]; exact ⟨z1.2 a ha, z2.2 a ha⟩
    · rw [z1.1 (s * 8 + a) (by omega), z2.1 (s * 8 + a) (by omega)]; exact h s (by omega) a ha
theorem xs_34 {post : Int32 → SX → Prop} {x1 : Int32} (h4 : th ≤ 4) (h8 : wd ≤ 8) (hp : ∀ lw' cl', (∀ a, a < wd → lw' a = 0 ∧ cl' a = 0) → post x1 (nI th, nI wd, nI rl, nI kl, 0, 0, lw', me, sm_bs me bas wd, sm_fs 0 ph th, sm_fs 0 ou th, sm_fs 0 st th, sm_fs 0 pt th, sm_fs 0 be th, sm_fs 0 re th, sm_fs (-1) ta th, sm_fs 0 ld th, sm_fs 0 rm th, sm_fs 0 wm th, sm_fs 0 hm th, sm_fs 0 km th, sm_fs 0 bm th, se, tw, rT, rS, rB, rP, xR, xW, xs, xw, od, po, ch, cl')) : ∀ (d i : Nat) (lw' cl' : Nat → Int32), i + d = wd → (∀ a, a < i → lw' a = 0 ∧ cl' a = 0) → wX_settle_34 post x1 (nI th) (nI wd) (nI rl) (nI kl) (nI nw) (nI rc) (d + 1) (nI i) lw' me (sm_bs me bas i) ph ou st pt be re ta ld rm wm hm km bm se tw rT rS rB rP xR xW xs xw od po ch cl' := by
  intro d
  induction d with
  | zero =>
    intro i lw' cl' hi h
    have : i = wd := by omega
    subst this
    refine br_t (nI_le (Nat.le_refl _) (by omega)) (Exists.intro (th + 1) ?_)
    exact xs_86 (nw := 0) (rc := 0) h4 (hp lw' cl' h) th 0 (by omega)
  | succ d ih =>
    intro i lw' cl' hi h
    refine br_f (nI_ge (by omega) (by omega)) (And.intro (vp_in_nI (by omega) (by omega)) (sm_sv (by omega) (by omega) (by rw [nI_clamp (by omega)]) (sm_st (by omega) (by omega) (sm_st (by omega) (by omega) (nm_r (nI_1 i) ?_)))))
    refine ih (i + 1) _ _ (by omega) fun a ha => ?_
    by_cases e : a = i
    · rw [e, sm_us, sm_us]; exact ⟨rfl, rfl⟩
    · rw [sm_un e, sm_un e]; exact h a (by omega)
theorem ys_34 {post : Int32 → SY → Prop} {x1 : Int32} (h4 : th ≤ 4) (h8 : wd ≤ 8) (hr : rc ≤ 32) (hn : nw ≤ 32) (hP : ∀ c, c < rc → rP c = nI (sm_tn (rP c)) ∧ sm_tn (rP c) ≤ 32) (hI : ∀ a, a < wd → sm_In yW rP a rc) (hm' : ∀ a, a < wd → sm_va bas yW yw rP a nw rc = me a) (hp : ∀ iR' iW', (∀ s, s < th → ∀ a, a < 8 → iR' (s * 8 + a) = 0 ∧ iW' (s * 8 + a) = 0) → post x1 (nI th, nI wd, nI rl, nI kl, 0, 0, sm_bs me bas wd, hd, sm_fs 0 ph th, sm_fs 0 ou th, sm_fs 0 st th, sm_fs 0 pt th, sm_fs 0 be th, sm_fs 0 re th, sm_fs (-1) ta th, iR', se, ck, iW', tw, bk, rT, rS, rB, rP, yR, ys, yW, yw)) : ∀ (d i : Nat), i + d = wd → wY_settle_34 post x1 (nI th) (nI wd) (nI rl) (nI kl) (nI nw) (nI rc) (d + 1) (nI i) (sm_bs me bas i) hd ph ou st pt be re ta iR se ck iW tw bk rT rS rB rP yR ys yW yw := by
  intro d
  induction d with
  | zero =>
    intro i hi
    have : i = wd := by omega
    subst this
    refine br_t (nI_le (Nat.le_refl _) (by omega)) (Exists.intro (th + 1) ?_)
    exact ys_75 (nw := 0) (rc := 0) h4 hp th 0 iR iW (by omega) fun s hs => absurd hs (Nat.not_lt_zero s)
  | succ d ih =>
    intro i hi
    refine br_f (nI_ge (by omega) (by omega)) ?_
    refine yh_val (bas := sm_bs me bas i) (by omega) hn hr hP (hI i (by omega)) ?_
    refine sm_sv (by omega) (by omega) (x' := me i) ?_ (nm_r (nI_1 i) (ih (i + 1) (by omega)))
    rw [← hm' i (by omega)]
    exact sm_va_b (sm_bs_o i (Nat.le_refl _)) rc
theorem xs_2 {post : Int32 → SX → Prop} (h4 : th ≤ 4) (hA : (∀ t, t < th → ph t = 0) → ∃ n, wX_settle_34 post (nI rc) (nI th) (nI wd) (nI rl) (nI kl) (nI nw) (nI rc) n 0 lw me bas ph ou st pt be re ta ld rm wm hm km bm se tw rT rS rB rP xR xW xs xw od po ch cl) (hN : (∃ t, t < th ∧ ¬ ph t = 0) → post (-1) (nI th, nI wd, nI rl, nI kl, nI nw, nI rc, lw, me, bas, ph, ou, st, pt, be, re, ta, ld, rm, wm, hm, km, bm, se, tw, rT, rS, rB, rP, xR, xW, xs, xw, od, po, ch, cl)) : ∀ d i : Nat, i + d = th → (∀ t, t < i → ph t = 0) → wX_settle_2 post (nI th) (nI wd) (nI rl) (nI kl) (nI nw) (nI rc) lw me bas ph ou st pt be re ta ld rm wm hm km bm se tw rT rS rB rP xR xW xs xw od po ch cl (d + 1) (nI i) := by
  intro d
  induction d with
  | zero =>
    intro i hi h
    have : i = th := by omega
    subst this
    exact br_t (nI_le (Nat.le_refl _) (by omega)) (hA h)
  | succ d ih =>
    intro i hi h
    refine br_f (nI_ge (by omega) (by omega)) (And.intro (vp_in_nI (by omega) (by omega)) ?_)
    rw [nI_clamp (by omega)]
    refine br_c (fun z => nm_r (nI_1 i) (ih (i + 1) (by omega) fun t ht => ?_)) (fun z => hN ⟨i, by omega, z⟩)
    by_cases e : t = i
    · rw [e]; exact z
    · exact h t (by omega)
theorem ys_2 {post : Int32 → SY → Prop} (h4 : th ≤ 4) (hA : (∀ t, t < th → ph t = 0) → ∃ n, wY_settle_34 post (nI rc) (nI th) (nI wd) (nI rl) (nI kl) (nI nw) (nI rc) n 0 bas hd ph ou st pt be re ta iR se ck iW tw bk rT rS rB rP yR ys yW yw) (hN : (∃ t, t < th ∧ ¬ ph t = 0) → post (-1) (nI th, nI wd, nI rl, nI kl, nI nw, nI rc, bas, hd, ph, ou, st, pt, be, re, ta, iR, se, ck, iW, tw, bk, rT, rS, rB, rP, yR, ys, yW, yw)) : ∀ d i : Nat, i + d = th → (∀ t, t < i → ph t = 0) → wY_settle_2 post (nI th) (nI wd) (nI rl) (nI kl) (nI nw) (nI rc) bas hd ph ou st pt be re ta iR se ck iW tw bk rT rS rB rP yR ys yW yw (d + 1) (nI i) := by
  intro d
  induction d with
  | zero =>
    intro i hi h
    have : i = th := by omega
    subst this
    exact br_t (nI_le (Nat.le_refl _) (by omega)) (hA h)
  | succ d ih =>
    intro i hi h
    refine br_f (nI_ge (by omega) (by omega)) (And.intro (vp_in_nI (by omega) (by omega)) ?_)
    rw [nI_clamp (by omega)]
    refine br_c (fun z => nm_r (nI_1 i) (ih (i + 1) (by omega) fun t ht => ?_)) (fun z => hN ⟨i, by omega, z⟩)
    by_cases e : t = i
    · rw [e]; exact z
    · exact h t (by omega)
theorem aa_settle {k' : Nat} (F : sm_F th wd rl kl nw rc lw me bas ph ou st pt be re ta ld rm wm hm km bm se tw rT rS rB rP xR xW xs xw od po ch cl hd iR ck iW bk yR ys yW yw) : wpX_settle (fun r u' => wpY_settle (fun r' v' => r' = r ∧ i_Rel k' u' v') (nI th, nI wd, nI rl, nI kl, nI nw, nI rc, bas, hd, ph, ou, st, pt, be, re, ta, iR, se, ck, iW, tw, bk, rT, rS, rB, rP, yR, ys, yW, yw)) (nI th, nI wd, nI rl, nI kl, nI nw, nI rc, lw, me, bas, ph, ou, st, pt, be, re, ta, ld, rm, wm, hm, km, bm, se, tw, rT, rS, rB, rP, xR, xW, xs, xw, od, po, ch, cl) := by
  have F' := F
  obtain ⟨⟨n1, n2, n3, n4, n5, n6, n7, n8, n9, n10⟩, ⟨R, C, Q, O⟩, T, H, Ww, Pp, Dd⟩ := F
  unfold wpX_settle
  refine Exists.intro (th + 1) (xs_2 n2 (fun all => ?_) (fun no => ?_) th 0 (by omega) fun t ht => absurd ht (Nat.not_lt_zero t))
  · have q0 : ∀ t, t < th → sm_tn (ph t) = 0 := fun t h => by rw [all t h]; rfl
    have hh : ∀ a, a < 8 → hd a = -1 := fun a ha => by
      rcases H.1 a ha with k | ⟨s, s1, s2, s3⟩
      · exact k
      · exact absurd s3 ((H.2 s s1).2.1 (by rw [q0 s s1]; omega) a ha)
    have hme : ∀ a, a < wd → sm_va bas yW yw rP a nw rc = me a := fun a ha => by
      obtain ⟨v, o, w1, w2, w3, w4, w5, w6, w7⟩ := Ww a ha
      rw [w6 fun s hs e => absurd (e.symm.trans (hh a (by omega))) (sm_ne1 (by omega))]
      exact sm_va_lv rc fun c hc _ => (Q.1 c hc).2.1
    refine Exists.intro (wd + 1) (xs_34 n2 n4 (fun lw' cl' hl => ?_) wd 0 lw cl (by omega) fun a ha => absurd ha (Nat.not_lt_zero a))
    unfold wpY_settle
    refine Exists.intro (th + 1) (ys_2 n2 (fun _ => ?_) (fun no => ?_) th 0 (by omega) fun t ht => absurd ht (Nat.not_lt_zero t))
    · refine Exists.intro (wd + 1) (ys_34 n2 n4 (by omega) (by omega) (sm_hP (by omega) Q) Q.2.2 hme (fun iR' iW' z => And.intro rfl (zz_in (nw := 0) (rc := 0) ?_)) wd 0 (by omega))
      refine sm_fresh ⟨n1, n2, n3, n4, n5, n6, n7, n8, Nat.zero_le _, Nat.zero_le _⟩ (fun t ht => ⟨sm_fs_i th ht, sm_fs_i th ht, sm_fs_i th ht, sm_fs_i th ht, sm_fs_i th ht, z t ht⟩) hh fun a ha => ⟨(hl a ha).1, (hl a ha).2, (sm_bs_i wd ha).symm⟩
    · obtain ⟨t, ht, k⟩ := no
      exact absurd (all t ht) k
  · unfold wpY_settle
    refine Exists.intro (th + 1) (ys_2 n2 (fun all => ?_) (fun _ => And.intro rfl (zz_in F')) th 0 (by omega) fun t ht => absurd ht (Nat.not_lt_zero t))
    obtain ⟨t, ht, k⟩ := no
    exact absurd (all t ht) k
/-! the constructors -/
def sm_Kp (v : Int32) (H n : Nat) : Prop := (2 ≤ v ∧ v ≤ nI H ∧ v = nI n) ∨ (2 ≤ v ∧ ¬ v ≤ nI H ∧ n = H) ∨ (¬ 2 ≤ v ∧ n = 2)
theorem sm_Kp_ex (v : Int32) {H : Nat} (h2 : 2 ≤ H) (hH : H < 2 ^ 31) : ∃ n, 2 ≤ n ∧ n ≤ H ∧ sm_Kp v H n := by
  by_cases a : (2 : Int32) ≤ v
  · by_cases b : v ≤ nI H
    · have h0 : ¬ v < 0 := Int32.not_lt.mpr (Int32.le_trans (by decide) a)
      obtain ⟨n, hn, e⟩ := nI_of h0
      have l2 : 2 ≤ n := by
        rw [e] at a
        exact (nI_leI (a := 2) (by omega) hn).mp a
      have lH : n ≤ H := by
        rw [e] at b
        exact (nI_leI hn hH).mp b
      exact ⟨n, l2, lH, Or.inl ⟨a, b, e⟩⟩
    · exact ⟨H, h2, Nat.le_refl _, Or.inr (Or.inl ⟨a, b, rfl⟩)⟩
  · exact ⟨2, Nat.le_refl _, h2, Or.inr (Or.inr ⟨a, rfl⟩)⟩
theorem xk_clamp {post : Int32 → Prop} {v g0 g1 g2 g3 g4 g5 : Int32} {H n : Nat} (k : sm_Kp v H n) (hp : post (nI n)) : wpX_clamp post (g0, g1, g2, g3, g4, g5, lw, me, bas, ph, ou, st, pt, be, re, ta, ld, rm, wm, hm, km, bm, se, tw, rT, rS, rB, rP, xR, xW, xs, xw, od, po, ch, cl) v 2 (nI H) := by
  unfold wpX_clamp
  rcases k with ⟨a, b, e⟩ | ⟨a, b, e⟩ | ⟨a, e⟩
  · rw [e] at a b ⊢
    exact br_t a (br_t b hp)
  · rw [e] at hp
    exact br_t a (br_f b hp)
  · rw [e] at hp
    exact br_f a hp
theorem yk_clamp {post : Int32 → Prop} {v g0 g1 g2 g3 g4 g5 : Int32} {H n : Nat} (k : sm_Kp v H n) (hp : post (nI n)) : wpY_clamp post (g0, g1, g2, g3, g4, g5, bas, hd, ph, ou, st, pt, be, re, ta, iR, se, ck, iW, tw, bk, rT, rS, rB, rP, yR, ys, yW, yw) v (nI H) := by
  unfold wpY_clamp
  rcases k with ⟨a, b, e⟩ | ⟨a, b, e⟩ | ⟨a, e⟩
  · rw [e] at a b ⊢
    exact br_t a (br_t b hp)
  · rw [e] at hp
    exact br_t a (br_f b hp)
  · rw [e] at hp
    exact br_f a hp
theorem yi_232 {post : SY → Prop} (hp : ∀ iR' iW', (∀ s, s < 4 → ∀ a, a < 8 → iR' (s * 8 + a) = 0 ∧ iW' (s * 8 + a) = 0) → post (nI th, nI wd, nI rl, nI kl, nI nw, nI rc, bas, sm_fs (-1) hd 8, sm_fs 0 ph 4, sm_fs 0 ou 4, sm_fs (nI nw) st 4, sm_fs 0 pt 4, sm_fs (nI rc) be 4, sm_fs 0 re 4, sm_fs (-1) ta 4, iR', se, ck, iW', tw, bk, rT, rS, rB, rP, yR, ys, yW, yw)) : ∀ (d i : Nat), i + d = 8 → wY_init_232 post (nI th) (nI wd) (nI rl) (nI kl) (nI nw) (nI rc) (d + 1) (nI i) bas (sm_fs (-1) hd i) ph ou st pt be re ta iR se ck iW tw bk rT rS rB rP yR ys yW yw := by
  intro d
  induction d with
  | zero =>
    intro i hi
    have : i = 8 := by omega
    subst this
    refine br_t (by decide) (Exists.intro 5 ?_)
    exact yi_256 hp 4 0 iR iW (by omega) fun s hs => absurd hs (Nat.not_lt_zero s)
  | succ d ih =>
    intro i hi
    exact br_f (nI_ge (b := 8) (by omega) (by omega)) (sm_st (by omega) (by omega) (nm_r (nI_1 i) (ih (i + 1) (by omega))))
theorem i_vc0 (k0 : Int32) (k1 : Int32) (k2 : Int32) (k3 : Int32) : wpX_init (fun u => wpY_init (fun v => i_Rel 4 u v) k0 k1 k2 k3) k0 k1 k2 k3 := by
  obtain ⟨th, a1, a2, a3⟩ := sm_Kp_ex k0 (H := 4) (by omega) (by omega)
  obtain ⟨wd, b1, b2, b3⟩ := sm_Kp_ex k1 (H := 8) (by omega) (by omega)
  obtain ⟨rl, c1, c2, c3⟩ := sm_Kp_ex k2 (H := 32) (by omega) (by omega)
  obtain ⟨kl, d1, d2, d3⟩ := sm_Kp_ex k3 (H := 32) (by omega) (by omega)
  unfold wpX_init
  refine xk_clamp a3 (xk_clamp b3 (xk_clamp c3 (xk_clamp d3 (Exists.intro 5 ?_))))
  refine xi_285 (nw := 0) (rc := 0) ?_ 4 0 (by omega)
  unfold wpY_init
  refine yk_clamp a3 (yk_clamp b3 (yk_clamp c3 (yk_clamp d3 (Exists.intro 9 ?_))))
  refine yi_232 (nw := 0) (rc := 0) (fun iR' iW' z => zz_in (nw := 0) (rc := 0) ?_) 8 0 (by omega)
  refine sm_fresh ⟨a1, a2, b1, b2, c1, c2, d1, d2, Nat.zero_le _, Nat.zero_le _⟩ (fun t ht => ⟨sm_fs_i 4 (by omega), sm_fs_i 4 (by omega), sm_fs_i 4 (by omega), sm_fs_i 4 (by omega), sm_fs_i 4 (by omega), z t (by omega)⟩) (fun a ha => sm_fs_i 8 ha) fun a ha => ⟨rfl, rfl, rfl⟩
end
end
section
section
theorem i_vc_begin {k : Nat} {u : SX} {v : SY} (I : i_Rel k u v) (hk : k + 4 ≤ 2052) (v1 : Int32) : wpX_begin (fun r u' => wpY_begin (fun r' v' => r' = r ∧ i_Rel (k + 4) u' v') v v1) u v1 :=
  zz_el (P := fun u v => wpX_begin (fun r u' => wpY_begin (fun r' v' => r' = r ∧ i_Rel (k + 4) u' v') v v1) u v1) (fun th wd rl kl nw rc lw me bas ph ou st pt be re ta ld rm wm hm km bm se tw rT rS rB rP xR xW xs xw od po ch cl hd iR ck iW bk yR ys yW yw F => aa_begin F v1) I
theorem i_vc_read {k : Nat} {u : SX} {v : SY} (I : i_Rel k u v) (hk : k + 4 ≤ 2052) (v1 : Int32) (v2 : Int32) : wpX_read (fun r u' => wpY_read (fun r' v' => r' = r ∧ i_Rel (k + 4) u' v') v v1 v2) u v1 v2 :=
  zz_el (P := fun u v => wpX_read (fun r u' => wpY_read (fun r' v' => r' = r ∧ i_Rel (k + 4) u' v') v v1 v2) u v1 v2) (fun th wd rl kl nw rc lw me bas ph ou st pt be re ta ld rm wm hm km bm se tw rT rS rB rP xR xW xs xw od po ch cl hd iR ck iW bk yR ys yW yw F => aa_read F v1 v2) I
theorem i_vc_write {k : Nat} {u : SX} {v : SY} (I : i_Rel k u v) (hk : k + 4 ≤ 2052) (v1 : Int32) (v2 : Int32) (v3 : Int32) : wpX_write (fun r u' => wpY_write (fun r' v' => r' = r ∧ i_Rel (k + 4) u' v') v v1 v2 v3) u v1 v2 v3 :=
  zz_el (P := fun u v => wpX_write (fun r u' => wpY_write (fun r' v' => r' = r ∧ i_Rel (k + 4) u' v') v v1 v2 v3) u v1 v2 v3) (fun th wd rl kl nw rc lw me bas ph ou st pt be re ta ld rm wm hm km bm se tw rT rS rB rP xR xW xs xw od po ch cl hd iR ck iW bk yR ys yW yw F => aa_write F v1 v2 v3) I
theorem i_vc_writeSum {k : Nat} {u : SX} {v : SY} (I : i_Rel k u v) (hk : k + 4 ≤ 2052) (v1 : Int32) (v2 : Int32) (v3 : Int32) : wpX_writeSum (fun r u' => wpY_writeSum (fun r' v' => r' = r ∧ i_Rel (k + 4) u' v') v v1 v2 v3) u v1 v2 v3 :=
  zz_el (P := fun u v => wpX_writeSum (fun r u' => wpY_writeSum (fun r' v' => r' = r ∧ i_Rel (k + 4) u' v') v v1 v2 v3) u v1 v2 v3) (fun th wd rl kl nw rc lw me bas ph ou st pt be re ta ld rm wm hm km bm se tw rT rS rB rP xR xW xs xw od po ch cl hd iR ck iW bk yR ys yW yw F => aa_writeSum F v1 v2 v3) I
theorem i_vc_commit {k : Nat} {u : SX} {v : SY} (I : i_Rel k u v) (hk : k + 4 ≤ 2052) (v1 : Int32) : wpX_commit (fun r u' => wpY_commit (fun r' v' => r' = r ∧ i_Rel (k + 4) u' v') v v1) u v1 :=
  zz_el (P := fun u v => wpX_commit (fun r u' => wpY_commit (fun r' v' => r' = r ∧ i_Rel (k + 4) u' v') v v1) u v1) (fun th wd rl kl nw rc lw me bas ph ou st pt be re ta ld rm wm hm km bm se tw rT rS rB rP xR xW xs xw od po ch cl hd iR ck iW bk yR ys yW yw F => aa_commit F v1) I
theorem i_vc_cancel {k : Nat} {u : SX} {v : SY} (I : i_Rel k u v) (hk : k + 4 ≤ 2052) (v1 : Int32) : wpX_cancel (fun r u' => wpY_cancel (fun r' v' => r' = r ∧ i_Rel (k + 4) u' v') v v1) u v1 :=
  zz_el (P := fun u v => wpX_cancel (fun r u' => wpY_cancel (fun r' v' => r' = r ∧ i_Rel (k + 4) u' v') v v1) u v1) (fun th wd rl kl nw rc lw me bas ph ou st pt be re ta ld rm wm hm km bm se tw rT rS rB rP xR xW xs xw od po ch cl hd iR ck iW bk yR ys yW yw F => aa_cancel F v1) I
theorem i_vc_step {k : Nat} {u : SX} {v : SY} (I : i_Rel k u v) (hk : k + 4 ≤ 2052) (v1 : Int32) : wpX_step (fun r u' => wpY_step (fun r' v' => r' = r ∧ i_Rel (k + 4) u' v') v v1) u v1 :=
  zz_el (P := fun u v => wpX_step (fun r u' => wpY_step (fun r' v' => r' = r ∧ i_Rel (k + 4) u' v') v v1) u v1) (fun th wd rl kl nw rc lw me bas ph ou st pt be re ta ld rm wm hm km bm se tw rT rS rB rP xR xW xs xw od po ch cl hd iR ck iW bk yR ys yW yw F => aa_step F v1) I
theorem i_vc_settle {k : Nat} {u : SX} {v : SY} (I : i_Rel k u v) (hk : k + 4 ≤ 2052) : wpX_settle (fun r u' => wpY_settle (fun r' v' => r' = r ∧ i_Rel (k + 4) u' v') v) u :=
  zz_el (P := fun u v => wpX_settle (fun r u' => wpY_settle (fun r' v' => r' = r ∧ i_Rel (k + 4) u' v') v) u) (fun th wd rl kl nw rc lw me bas ph ou st pt be re ta ld rm wm hm km bm se tw rT rS rB rP xR xW xs xw od po ch cl hd iR ck iW bk yR ys yW yw F => aa_settle F) I
theorem i_vc_threadInfo {k : Nat} {u : SX} {v : SY} (I : i_Rel k u v) (hk : k + 4 ≤ 2052) (v1 : Int32) (v2 : Int32) : wpX_threadInfo (fun r => wpY_threadInfo (fun r' => r' = r ∧ i_Rel (k + 4) u v) v v1 v2) u v1 v2 :=
  zz_el (P := fun u v => ∀ q : Prop, q → wpX_threadInfo (fun r => wpY_threadInfo (fun r' => r' = r ∧ q) v v1 v2) u v1 v2) (fun th wd rl kl nw rc lw me bas ph ou st pt be re ta ld rm wm hm km bm se tw rT rS rB rP xR xW xs xw od po ch cl hd iR ck iW bk yR ys yW yw F q hq => gg_threadInfo F hq v1 v2) I _ (i_up I)
theorem i_vc_cell {k : Nat} {u : SX} {v : SY} (I : i_Rel k u v) (hk : k + 4 ≤ 2052) (v1 : Int32) (v2 : Int32) (v3 : Int32) : wpX_cell (fun r => wpY_cell (fun r' => r' = r ∧ i_Rel (k + 4) u v) v v1 v2 v3) u v1 v2 v3 :=
  zz_el (P := fun u v => ∀ q : Prop, q → wpX_cell (fun r => wpY_cell (fun r' => r' = r ∧ q) v v1 v2 v3) u v1 v2 v3) (fun th wd rl kl nw rc lw me bas ph ou st pt be re ta ld rm wm hm km bm se tw rT rS rB rP xR xW xs xw od po ch cl hd iR ck iW bk yR ys yW yw F q hq => gg_cell F hq v1 v2 v3) I _ (i_up I)
theorem i_vc_holder {k : Nat} {u : SX} {v : SY} (I : i_Rel k u v) (hk : k + 4 ≤ 2052) (v1 : Int32) : wpX_holder (fun r => wpY_holder (fun r' => r' = r ∧ i_Rel (k + 4) u v) v v1) u v1 :=
  zz_el (P := fun u v => ∀ q : Prop, q → wpX_holder (fun r => wpY_holder (fun r' => r' = r ∧ q) v v1) u v1) (fun th wd rl kl nw rc lw me bas ph ou st pt be re ta ld rm wm hm km bm se tw rT rS rB rP xR xW xs xw od po ch cl hd iR ck iW bk yR ys yW yw F q hq => gg_holder F hq v1) I _ (i_up I)
theorem i_vc_stamp {k : Nat} {u : SX} {v : SY} (I : i_Rel k u v) (hk : k + 4 ≤ 2052) (v1 : Int32) : wpX_stamp (fun r => wpY_stamp (fun r' => r' = r ∧ i_Rel (k + 4) u v) v v1) u v1 :=
  zz_el (P := fun u v => ∀ q : Prop, q → wpX_stamp (fun r => wpY_stamp (fun r' => r' = r ∧ q) v v1) u v1) (fun th wd rl kl nw rc lw me bas ph ou st pt be re ta ld rm wm hm km bm se tw rT rS rB rP xR xW xs xw od po ch cl hd iR ck iW bk yR ys yW yw F q hq => gg_stamp F hq v1) I _ (i_up I)
theorem i_vc_clock {k : Nat} {u : SX} {v : SY} (I : i_Rel k u v) (hk : k + 4 ≤ 2052) : wpX_clock (fun r => wpY_clock (fun r' => r' = r ∧ i_Rel (k + 4) u v) v) u :=
  zz_el (P := fun u v => ∀ q : Prop, q → wpX_clock (fun r => wpY_clock (fun r' => r' = r ∧ q) v) u) (fun th wd rl kl nw rc lw me bas ph ou st pt be re ta ld rm wm hm km bm se tw rT rS rB rP xR xW xs xw od po ch cl hd iR ck iW bk yR ys yW yw F q hq => gg_clock F hq) I _ (i_up I)
theorem i_vc_valueAt {k : Nat} {u : SX} {v : SY} (I : i_Rel k u v) (hk : k + 4 ≤ 2052) (v1 : Int32) (v2 : Int32) : wpX_valueAt (fun r => wpY_valueAt (fun r' => r' = r ∧ i_Rel (k + 4) u v) v v1 v2) u v1 v2 :=
  zz_el (P := fun u v => ∀ q : Prop, q → wpX_valueAt (fun r => wpY_valueAt (fun r' => r' = r ∧ q) v v1 v2) u v1 v2) (fun th wd rl kl nw rc lw me bas ph ou st pt be re ta ld rm wm hm km bm se tw rT rS rB rP xR xW xs xw od po ch cl hd iR ck iW bk yR ys yW yw F q hq => gg_valueAt F hq v1 v2) I _ (i_up I)
theorem i_vc_agrees {k : Nat} {u : SX} {v : SY} (I : i_Rel k u v) (hk : k + 4 ≤ 2052) (v1 : Int32) (v2 : Int32) : wpX_agrees (fun r => wpY_agrees (fun r' => r' = r ∧ i_Rel (k + 4) u v) v v1 v2) u v1 v2 :=
  zz_el (P := fun u v => ∀ q : Prop, q → wpX_agrees (fun r => wpY_agrees (fun r' => r' = r ∧ q) v v1 v2) u v1 v2) (fun th wd rl kl nw rc lw me bas ph ou st pt be re ta ld rm wm hm km bm se tw rT rS rB rP xR xW xs xw od po ch cl hd iR ck iW bk yR ys yW yw F q hq => gg_agrees F hq v1 v2) I _ (i_up I)
theorem i_vc_firstFit {k : Nat} {u : SX} {v : SY} (I : i_Rel k u v) (hk : k + 4 ≤ 2052) (v1 : Int32) : wpX_firstFit (fun r => wpY_firstFit (fun r' => r' = r ∧ i_Rel (k + 4) u v) v v1) u v1 :=
  zz_el (P := fun u v => ∀ q : Prop, q → wpX_firstFit (fun r => wpY_firstFit (fun r' => r' = r ∧ q) v v1) u v1) (fun th wd rl kl nw rc lw me bas ph ou st pt be re ta ld rm wm hm km bm se tw rT rS rB rP xR xW xs xw od po ch cl hd iR ck iW bk yR ys yW yw F q hq => gg_firstFit F hq v1) I _ (i_up I)
theorem i_vc_lastFit {k : Nat} {u : SX} {v : SY} (I : i_Rel k u v) (hk : k + 4 ≤ 2052) (v1 : Int32) : wpX_lastFit (fun r => wpY_lastFit (fun r' => r' = r ∧ i_Rel (k + 4) u v) v v1) u v1 :=
  zz_el (P := fun u v => ∀ q : Prop, q → wpX_lastFit (fun r => wpY_lastFit (fun r' => r' = r ∧ q) v v1) u v1) (fun th wd rl kl nw rc lw me bas ph ou st pt be re ta ld rm wm hm km bm se tw rT rS rB rP xR xW xs xw od po ch cl hd iR ck iW bk yR ys yW yw F q hq => gg_lastFit F hq v1) I _ (i_up I)
theorem i_vc_records {k : Nat} {u : SX} {v : SY} (I : i_Rel k u v) (hk : k + 4 ≤ 2052) : wpX_records (fun r => wpY_records (fun r' => r' = r ∧ i_Rel (k + 4) u v) v) u :=
  zz_el (P := fun u v => ∀ q : Prop, q → wpX_records (fun r => wpY_records (fun r' => r' = r ∧ q) v) u) (fun th wd rl kl nw rc lw me bas ph ou st pt be re ta ld rm wm hm km bm se tw rT rS rB rP xR xW xs xw od po ch cl hd iR ck iW bk yR ys yW yw F q hq => gg_records F hq) I _ (i_up I)
theorem i_vc_recordInfo {k : Nat} {u : SX} {v : SY} (I : i_Rel k u v) (hk : k + 4 ≤ 2052) (v1 : Int32) (v2 : Int32) : wpX_recordInfo (fun r => wpY_recordInfo (fun r' => r' = r ∧ i_Rel (k + 4) u v) v v1 v2) u v1 v2 :=
  zz_el (P := fun u v => ∀ q : Prop, q → wpX_recordInfo (fun r => wpY_recordInfo (fun r' => r' = r ∧ q) v v1 v2) u v1 v2) (fun th wd rl kl nw rc lw me bas ph ou st pt be re ta ld rm wm hm km bm se tw rT rS rB rP xR xW xs xw od po ch cl hd iR ck iW bk yR ys yW yw F q hq => gg_recordInfo F hq v1 v2) I _ (i_up I)
theorem i_vc_recordCell {k : Nat} {u : SX} {v : SY} (I : i_Rel k u v) (hk : k + 4 ≤ 2052) (v1 : Int32) (v2 : Int32) (v3 : Int32) : wpX_recordCell (fun r => wpY_recordCell (fun r' => r' = r ∧ i_Rel (k + 4) u v) v v1 v2 v3) u v1 v2 v3 :=
  zz_el (P := fun u v => ∀ q : Prop, q → wpX_recordCell (fun r => wpY_recordCell (fun r' => r' = r ∧ q) v v1 v2 v3) u v1 v2 v3) (fun th wd rl kl nw rc lw me bas ph ou st pt be re ta ld rm wm hm km bm se tw rT rS rB rP xR xW xs xw od po ch cl hd iR ck iW bk yR ys yW yw F q hq => gg_recordCell F hq v1 v2 v3) I _ (i_up I)
theorem i_vc_inOrder {k : Nat} {u : SX} {v : SY} (I : i_Rel k u v) (hk : k + 4 ≤ 2052) (v1 : Int32) : wpX_inOrder (fun r => wpY_inOrder (fun r' => r' = r ∧ i_Rel (k + 4) u v) v v1) u v1 :=
  zz_el (P := fun u v => ∀ q : Prop, q → wpX_inOrder (fun r => wpY_inOrder (fun r' => r' = r ∧ q) v v1) u v1) (fun th wd rl kl nw rc lw me bas ph ou st pt be re ta ld rm wm hm km bm se tw rT rS rB rP xR xW xs xw od po ch cl hd iR ck iW bk yR ys yW yw F q hq => gg_inOrder F hq v1) I _ (i_up I)
theorem i_vc_serialValue {k : Nat} {u : SX} {v : SY} (I : i_Rel k u v) (hk : k + 4 ≤ 2052) (v1 : Int32) (v2 : Int32) : wpX_serialValue (fun r => wpY_serialValue (fun r' => r' = r ∧ i_Rel (k + 4) u v) v v1 v2) u v1 v2 :=
  zz_el (P := fun u v => ∀ q : Prop, q → wpX_serialValue (fun r => wpY_serialValue (fun r' => r' = r ∧ q) v v1 v2) u v1 v2) (fun th wd rl kl nw rc lw me bas ph ou st pt be re ta ld rm wm hm km bm se tw rT rS rB rP xR xW xs xw od po ch cl hd iR ck iW bk yR ys yW yw F q hq => gg_serialValue F hq v1 v2) I _ (i_up I)
end
end
