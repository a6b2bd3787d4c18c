section
/-! rows on bits, shifts and unsigned numbers, to paste: each family out of a closed proof of our own, whole with what it rests on; each by itself clean at Lean in its own claim (generation 39, form 5). Take a family whole -/
/-! ===== Int32 by its bits: bt x i ===== -/
def bt (x : Int32) (i : Nat) : Bool := x.toBitVec.getLsbD i
theorem b_ext {x y : Int32} (h : ∀ i, i < 32 → bt x i = bt y i) : x = y := Int32.toBitVec_inj.mp (BitVec.eq_of_getLsbD_eq (fun i hi => h i hi))
theorem b_or (x y : Int32) (i : Nat) : bt (x ||| y) i = (bt x i || bt y i) := by unfold bt; rw [Int32.toBitVec_or, BitVec.getLsbD_or]
theorem b_and (x y : Int32) (i : Nat) : bt (x &&& y) i = (bt x i && bt y i) := by unfold bt; rw [Int32.toBitVec_and, BitVec.getLsbD_and]
theorem b_xor (x y : Int32) (i : Nat) : bt (x ^^^ y) i = (bt x i ^^ bt y i) := by unfold bt; rw [Int32.toBitVec_xor, BitVec.getLsbD_xor]
theorem b_big {x : Int32} {i : Nat} (h : 32 ≤ i) : bt x i = false := BitVec.getLsbD_of_ge _ _ h
theorem b_255 (i : Nat) : bt 255 i = decide (i < 8) := by
  rcases Nat.lt_or_ge i 32 with h | h
  · exact (by decide +kernel : ∀ i, i < 32 → bt 255 i = decide (i < 8)) i h
  · rw [b_big h, decide_eq_false (by omega)]
theorem b_65535 (i : Nat) : bt 65535 i = decide (i < 16) := by
  rcases Nat.lt_or_ge i 32 with h | h
  · exact (by decide +kernel : ∀ i, i < 32 → bt 65535 i = decide (i < 16)) i h
  · rw [b_big h, decide_eq_false (by omega)]
theorem b_m1 : ∀ i, i < 32 → bt (-1) i = true := by decide +kernel
theorem b_0 (i : Nat) : bt 0 i = false := BitVec.getLsbD_zero
theorem s_l : ∀ n, n < 32 → ((nI n &&& 31).toBitVec.smod 32).toNat = n := by decide +kernel
theorem s_u : ∀ n, n < 32 → (((nI n).toUInt32 &&& Int32.toUInt32 31).toBitVec % 32).toNat = n := by decide +kernel
theorem b_shl (n : Nat) (hn : n < 32) (x : Int32) {i : Nat} (hi : i < 32) : bt (x <<< (nI n &&& 31)) i = (decide (n ≤ i) && bt x (i - n)) := by
  unfold bt
  rw [Int32.toBitVec_shiftLeft]
  show (x.toBitVec <<< ((nI n &&& 31).toBitVec.smod 32).toNat).getLsbD i = _
  rw [s_l n hn, BitVec.getLsbD_shiftLeft]
  rcases Nat.lt_or_ge i n with h | h
  · simp [h, Nat.not_le.mpr h]
  · simp [hi, h, Nat.not_lt.mpr h]
theorem b_ushr (n : Nat) (hn : n < 32) (x : Int32) (i : Nat) : bt ((x.toUInt32 >>> ((nI n).toUInt32 &&& Int32.toUInt32 31)).toInt32) i = bt x (n + i) := by
  show (x.toUInt32 >>> ((nI n).toUInt32 &&& Int32.toUInt32 31)).toBitVec.getLsbD i = x.toUInt32.toBitVec.getLsbD (n + i)
  rw [UInt32.toBitVec_shiftRight]
  show (x.toUInt32.toBitVec >>> (((nI n).toUInt32 &&& Int32.toUInt32 31).toBitVec % 32).toNat).getLsbD i = _
  rw [s_u n hn, BitVec.getLsbD_ushiftRight]
theorem b_sshr (n : Nat) (hn : n < 32) (x : Int32) {i : Nat} (hi : i < 32) : bt (x >>> (nI n &&& 31)) i = if n + i < 32 then bt x (n + i) else bt x 31 := by
  unfold bt
  rw [Int32.toBitVec_shiftRight]
  show (x.toBitVec.sshiftRight ((nI n &&& 31).toBitVec.smod 32).toNat).getLsbD i = _
  rw [s_l n hn, BitVec.getLsbD_sshiftRight, BitVec.msb_eq_getLsbD_last]
  simp [hi]
theorem b_shl8 (x : Int32) {i : Nat} (hi : i < 32) : bt (x <<< ((8 : Int32) &&& 31)) i = (decide (8 ≤ i) && bt x (i - 8)) := b_shl 8 (by omega) x hi
theorem b_shl16 (x : Int32) {i : Nat} (hi : i < 32) : bt (x <<< ((16 : Int32) &&& 31)) i = (decide (16 ≤ i) && bt x (i - 16)) := b_shl 16 (by omega) x hi
theorem b_shl24 (x : Int32) {i : Nat} (hi : i < 32) : bt (x <<< ((24 : Int32) &&& 31)) i = (decide (24 ≤ i) && bt x (i - 24)) := b_shl 24 (by omega) x hi
theorem b_sshr8 (x : Int32) {i : Nat} (hi : i < 32) : bt (x >>> ((8 : Int32) &&& 31)) i = if 8 + i < 32 then bt x (8 + i) else bt x 31 := b_sshr 8 (by omega) x hi
/-! ===== nI under and, xor, >>>, one bit, 65535 ===== -/
theorem nx_and (a b : Nat) : nI a &&& nI b = nI (a &&& b) := by
  apply Int32.toBitVec_inj.1
  show BitVec.ofNat 32 a &&& BitVec.ofNat 32 b = BitVec.ofNat 32 (a &&& b)
  apply BitVec.eq_of_getLsbD_eq
  intro i hi
  simp [hi]
theorem nx_xor (a b : Nat) : nI a ^^^ nI b = nI (a ^^^ b) := by
  apply Int32.toBitVec_inj.1
  show BitVec.ofNat 32 a ^^^ BitVec.ofNat 32 b = BitVec.ofNat 32 (a ^^^ b)
  apply BitVec.eq_of_getLsbD_eq
  intro i hi
  simp [hi]
theorem nx_cnt : ∀ j : Fin 32, (UInt32.ofNat j.val &&& Int32.toUInt32 31).toNat % 32 = j.val := by decide +kernel
theorem nx_ush {k j : Nat} (hk : k < 65536) (hj : j < 32) : ((nI k).toUInt32 >>> ((nI j).toUInt32 &&& Int32.toUInt32 31)).toInt32 = nI (k >>> j) := by
  have hs : k >>> j ≤ k := by
    rw [Nat.shiftRight_eq_div_pow]
    exact Nat.div_le_self _ _
  have e2 : UInt32.ofNat k >>> (UInt32.ofNat j &&& Int32.toUInt32 31) = UInt32.ofNat (k >>> j) := by
    apply UInt32.toNat_inj.1
    have h1 : (UInt32.ofNat k).toNat = k := Nat.mod_eq_of_lt (by omega)
    have h2 : (UInt32.ofNat (k >>> j)).toNat = k >>> j := Nat.mod_eq_of_lt (by omega)
    rw [UInt32.toNat_shiftRight, nx_cnt ⟨j, hj⟩, h1, h2]
  show (UInt32.ofNat k >>> (UInt32.ofNat j &&& Int32.toUInt32 31)).toInt32 = _
  rw [e2]
  rfl
theorem nx_bit {k j : Nat} (hk : k < 65536) (hj : j < 16) : (((nI k).toUInt32 >>> ((nI j).toUInt32 &&& Int32.toUInt32 31)).toInt32 &&& 1) = 0 ↔ k.testBit j = false := by
  rw [nx_ush hk (by omega)]
  show nI (k >>> j) &&& nI 1 = 0 ↔ _
  rw [nx_and, Nat.and_one_is_mod, ← nI_0, nI_eq (by omega) (by omega), Nat.testBit_eq_decide_div_mod_eq, Nat.shiftRight_eq_div_pow, decide_eq_false_iff_not]
  generalize k / 2 ^ j = z
  omega
theorem nx_mod (k : Nat) : nI k &&& 65535 = nI (k % 65536) := by
  show nI k &&& nI 65535 = _
  rw [nx_and, show (65535 : Nat) = 2 ^ 16 - 1 from rfl, Nat.and_two_pow_sub_one_eq_mod]
theorem nx_m16 {k : Nat} (h : k < 65536) : nI k &&& 65535 = nI k := by rw [nx_mod, Nat.mod_eq_of_lt h]
theorem nx_mask (x : Int32) : ∃ k, k < 65536 ∧ x &&& 65535 = nI k := by
  have e : x = nI x.toBitVec.toNat := by
    apply Int32.toBitVec_inj.1
    show x.toBitVec = BitVec.ofNat 32 x.toBitVec.toNat
    simp
  refine ⟨x.toBitVec.toNat % 65536, Nat.mod_lt _ (by omega), ?_⟩
  rw [← nx_mod, ← e]
/-! ===== Int32 as a set of bits: test, set ===== -/
def nf_M (m : Int32) : Nat := 4294967296 - m.toBitVec.toNat
theorem nf_sh : ∀ l, l < 32 → ((1 : Int32) <<< (nI l &&& 31)).toBitVec = BitVec.twoPow 32 l := by decide +kernel
theorem nf_sl : ∀ l, l < 32 → (((nI l).toUInt32 &&& Int32.toUInt32 31).toBitVec % 32).toNat = l := by decide +kernel
theorem nf_tp : ∀ l, l < 32 → BitVec.twoPow 32 l ≠ 0#32 := by decide +kernel
theorem nf_bit (m : Int32) (l : Nat) (hl : l < 32) : ((m.toUInt32 >>> ((nI l).toUInt32 &&& Int32.toUInt32 31)).toInt32 &&& 1) = 0 ↔ (m &&& ((1 : Int32) <<< (nI l &&& 31))) = 0 := by
  have e : ((m.toUInt32 >>> ((nI l).toUInt32 &&& Int32.toUInt32 31)).toInt32).toBitVec = m.toBitVec >>> l := by
    show m.toBitVec >>> (((nI l).toUInt32 &&& Int32.toUInt32 31).toBitVec % 32) = m.toBitVec >>> l
    rw [BitVec.ushiftRight_eq', nf_sl l hl]
  rw [← Int32.toBitVec_inj, ← Int32.toBitVec_inj, Int32.toBitVec_and, Int32.toBitVec_and, nf_sh l hl, e, BitVec.and_twoPow]
  show (m.toBitVec >>> l &&& 1#32) = 0#32 ↔ _ = 0#32
  rw [BitVec.and_one_eq_setWidth_ofBool_getLsbD, BitVec.getLsbD_ushiftRight, Nat.add_zero]
  cases hb : m.toBitVec.getLsbD l
  · exact ⟨fun _ => by simp, fun _ => by decide⟩
  · exact ⟨fun z => absurd z (by decide), fun z => absurd ((if_pos rfl).symm.trans z) (nf_tp l hl)⟩
theorem nf_gr (m k : Int32) (h : m &&& k = 0) (hk : k ≠ 0) : nf_M (m ||| k) < nf_M m := by
  have hm := m.toBitVec.isLt
  have hm' := (m ||| k).toBitVec.isLt
  have h1 : m.toBitVec.toNat ≤ (m ||| k).toBitVec.toNat := by
    rw [Int32.toBitVec_or, BitVec.toNat_or]
    exact Nat.left_le_or
  have h2 : m.toBitVec.toNat ≠ (m ||| k).toBitVec.toNat := by
    intro e
    have e2 : m = m ||| k := Int32.toBitVec_inj.mp (BitVec.eq_of_toNat_eq e)
    apply hk
    apply Int32.toBitVec_inj.mp
    show k.toBitVec = 0#32
    apply BitVec.eq_of_getLsbD_eq
    intro i hi
    have a : m.toBitVec.getLsbD i = (m.toBitVec.getLsbD i || k.toBitVec.getLsbD i) := by rw [← BitVec.getLsbD_or, ← Int32.toBitVec_or, ← e2]
    have b : (m.toBitVec.getLsbD i && k.toBitVec.getLsbD i) = false := by
      rw [← BitVec.getLsbD_and, ← Int32.toBitVec_and, h]
      exact BitVec.getLsbD_zero
    rw [BitVec.getLsbD_zero]
    revert a b
    cases m.toBitVec.getLsbD i <;> cases k.toBitVec.getLsbD i <;> simp
  unfold nf_M
  omega
/-! ===== a byte read unsigned ===== -/
theorem bp_b (x : Int32) : x.toInt8.toInt32 &&& 255 = x &&& 255 := by
  apply Int32.toBitVec_inj.mp
  rw [Int32.toBitVec_and, Int32.toBitVec_and, Int8.toBitVec_toInt32, Int32.toBitVec_toInt8]
  apply BitVec.eq_of_getLsbD_eq
  intro i hi
  rw [BitVec.getLsbD_and, BitVec.getLsbD_and]
  have hm : ∀ i < 32, 8 ≤ i → (255 : Int32).toBitVec.getLsbD i = false := by decide
  rcases Nat.lt_or_ge i 8 with z | z
  · rw [BitVec.getLsbD_signExtend, BitVec.getLsbD_signExtend, if_pos z, if_pos hi]
    simp only [z, hi, decide_true, Bool.true_and]
  · rw [hm i hi z]; simp
/-! ===== the char cast and 65535 ===== -/
theorem em_w (v : Int32) : ∃ w : Nat, w < 65536 ∧ (v.toUInt32 % 65536).toInt32 = nI w ∧ v &&& 65535 = nI w := by
  have hr := lw_u16_r v
  have h0 : (0 : Int32).toInt = 0 := by decide
  obtain ⟨w, h1, h2⟩ := nI_of (x := lw_u16 v) (by rw [Int32.lt_iff_toInt_lt]; omega)
  have h3 : (v.toUInt32 % 65536).toInt32 = nI w := h2
  rw [h2, nI_toInt h1] at hr
  exact ⟨w, by omega, h3, by rw [← lg_i2c_mask, ← lg_i2c_nf, h3]⟩
/-! ===== Int64 as a set of bits: test, set, clear ===== -/
theorem ts_nf {x : Bool} (h : ¬ x = false) : x = true := by cases x <;> first | rfl | exact absurd rfl h
theorem ts_nt {x : Bool} (h : ¬ x = true) : x = false := by cases x <;> first | rfl | exact absurd rfl h
theorem ts_bit {w : Int64} {s : UInt64} {j : Nat} (hj : j < 64) (hs : s.toNat = j) : ((w.toUInt64 >>> s).toInt64 &&& 1) = 0 ↔ w.toBitVec.getLsbD j = false := by
  have e : (w.toUInt64 >>> s).toInt64.toBitVec = w.toBitVec >>> j := by
    apply BitVec.eq_of_toNat_eq
    show (w.toUInt64 >>> s).toNat = _
    rw [UInt64.toNat_shiftRight, hs, Nat.mod_eq_of_lt hj, BitVec.toNat_ushiftRight]
    rfl
  rw [← Int64.toBitVec_inj, Int64.toBitVec_and, e]
  show w.toBitVec >>> j &&& 1#64 = 0#64 ↔ _
  constructor
  · intro h
    have t := congrArg (fun x => x.getLsbD 0) h
    simpa using t
  · intro h
    apply BitVec.eq_of_getLsbD_eq
    intro i hi
    cases i with
    | zero => simp [h]
    | succ i => simp
theorem ts_or {w m : Int64} {j : Nat} (hj : j < 64) (hm : m.toBitVec = BitVec.twoPow 64 j) : (w ||| m) = w ↔ w.toBitVec.getLsbD j = true := by
  rw [← Int64.toBitVec_inj, Int64.toBitVec_or, hm]
  constructor
  · intro h
    have t := congrArg (fun x => x.getLsbD j) h
    simp only [BitVec.getLsbD_or, BitVec.getLsbD_twoPow] at t
    simpa [hj] using t.symm
  · intro h
    apply BitVec.eq_of_getLsbD_eq
    intro i hi
    rw [BitVec.getLsbD_or, BitVec.getLsbD_twoPow]
    by_cases e : j = i
    · subst e; rw [h, Bool.true_or]
    · simp [e]
theorem ts_and {w m : Int64} {j : Nat} (hj : j < 64) (hm : m.toBitVec = BitVec.twoPow 64 j) : (w &&& (m ^^^ (-1))) = w ↔ w.toBitVec.getLsbD j = false := by
  have ha : (-1 : Int64).toBitVec = BitVec.allOnes 64 := by decide
  rw [← Int64.toBitVec_inj, Int64.toBitVec_and, Int64.toBitVec_xor, hm, ha]
  constructor
  · intro h
    have t := congrArg (fun x => x.getLsbD j) h
    simp only [BitVec.getLsbD_and, BitVec.getLsbD_xor, BitVec.getLsbD_twoPow, BitVec.getLsbD_allOnes] at t
    simpa [hj] using t.symm
  · intro h
    apply BitVec.eq_of_getLsbD_eq
    intro i hi
    rw [BitVec.getLsbD_and, BitVec.getLsbD_xor, BitVec.getLsbD_twoPow, BitVec.getLsbD_allOnes]
    by_cases e : j = i
    · subst e; rw [h, Bool.false_and]
    · simp [e, hi]
/-! ===== lN n to 2^64: shifts, and, or, masks, one bit ===== -/
theorem wb_tb (n : Nat) : (lN n).toBitVec = BitVec.ofNat 64 n := rfl
theorem wb_inj {a b : Int64} (h : a.toBitVec = b.toBitVec) : a = b := Int64.toBitVec_inj.mp h
theorem wb_tn {n : Nat} (h : n < 2 ^ 64) : (lN n).toBitVec.toNat = n := by rw [wb_tb, BitVec.toNat_ofNat, Nat.mod_eq_of_lt h]
theorem wb_of (x : Int64) : ∃ n, n < 2 ^ 64 ∧ x = lN n := ⟨x.toBitVec.toNat, x.toBitVec.isLt, wb_inj (by rw [wb_tb]; simp)⟩
theorem wb_of32 (x : Int32) : ∃ n, n < 2 ^ 32 ∧ x = nI n := ⟨x.toBitVec.toNat, x.toBitVec.isLt, Int32.toBitVec_inj.mp (by show _ = BitVec.ofNat 32 _; simp)⟩
theorem wb_c : ∀ k, k < 64 → ((nI k).toInt64 &&& 63) = lN k := by decide +kernel
theorem wb_cu : ∀ k, k < 64 → ((nI k).toInt64.toUInt64 &&& Int64.toUInt64 63) = UInt64.ofNat k := by decide +kernel
theorem wb_sm : ∀ k, k < 64 → (BitVec.ofNat 64 k).smod 64 = BitVec.ofNat 64 k := by decide +kernel
theorem wb_pw {a b : Nat} (h : a ≤ b) : 2 ^ b = 2 ^ a * 2 ^ (b - a) := by rw [← Nat.pow_add]; congr 1; omega
theorem wb_lt2 {a b : Nat} (h : a < b) : 2 ^ a < 2 ^ b := Nat.pow_lt_pow_right (by decide) h
theorem wb_mod (n : Nat) : lN n = lN (n % 2 ^ 64) := wb_inj (by rw [wb_tb, wb_tb]; apply BitVec.eq_of_toNat_eq; rw [BitVec.toNat_ofNat, BitVec.toNat_ofNat, Nat.mod_mod])
theorem wb_shr {n k : Nat} (hn : n < 2 ^ 64) (hk : k < 64) : ((lN n).toUInt64 >>> ((nI k).toInt64.toUInt64 &&& Int64.toUInt64 63)).toInt64 = lN (n / 2 ^ k) := by
  rw [wb_cu k hk]
  apply wb_inj
  apply BitVec.eq_of_toNat_eq
  show ((lN n).toUInt64 >>> UInt64.ofNat k).toNat = (BitVec.ofNat 64 _).toNat
  have h1 : (UInt64.ofNat k).toNat = k := by
    show (BitVec.ofNat 64 k).toNat = k
    rw [BitVec.toNat_ofNat, Nat.mod_eq_of_lt (by omega)]
  have h2 : (lN n).toUInt64.toNat = n := wb_tn hn
  rw [UInt64.toNat_shiftRight, h1, h2, Nat.mod_eq_of_lt hk, Nat.shiftRight_eq_div_pow, BitVec.toNat_ofNat, Nat.mod_eq_of_lt (Nat.lt_of_le_of_lt (Nat.div_le_self _ _) hn)]
theorem wb_shl (n : Nat) {k : Nat} (hk : k < 64) : lN n <<< ((nI k).toInt64 &&& 63) = lN (n * 2 ^ k) := by
  rw [wb_c k hk]
  apply wb_inj
  rw [Int64.toBitVec_shiftLeft, wb_tb, wb_tb, wb_tb, wb_sm k hk]
  apply BitVec.eq_of_toNat_eq
  rw [BitVec.shiftLeft_eq', BitVec.toNat_shiftLeft, BitVec.toNat_ofNat, BitVec.toNat_ofNat, BitVec.toNat_ofNat, Nat.mod_eq_of_lt (show k < 2 ^ 64 by omega), Nat.shiftLeft_eq, Nat.mul_mod, Nat.mod_mod, ← Nat.mul_mod]
theorem wb_and {a b : Nat} (ha : a < 2 ^ 64) (hb : b < 2 ^ 64) : lN a &&& lN b = lN (a &&& b) := by
  apply wb_inj
  rw [Int64.toBitVec_and, wb_tb, wb_tb, wb_tb]
  apply BitVec.eq_of_toNat_eq
  rw [BitVec.toNat_and, BitVec.toNat_ofNat, BitVec.toNat_ofNat, BitVec.toNat_ofNat, Nat.mod_eq_of_lt ha, Nat.mod_eq_of_lt hb, Nat.mod_eq_of_lt (Nat.and_lt_two_pow _ hb)]
theorem wb_or {a b : Nat} (ha : a < 2 ^ 64) (hb : b < 2 ^ 64) : lN a ||| lN b = lN (a ||| b) := by
  apply wb_inj
  rw [Int64.toBitVec_or, wb_tb, wb_tb, wb_tb]
  apply BitVec.eq_of_toNat_eq
  rw [BitVec.toNat_or, BitVec.toNat_ofNat, BitVec.toNat_ofNat, BitVec.toNat_ofNat, Nat.mod_eq_of_lt ha, Nat.mod_eq_of_lt hb, Nat.mod_eq_of_lt (Nat.or_lt_two_pow ha hb)]
theorem wb_mask {n k : Nat} (hn : n < 2 ^ 64) (hk : k < 64) : lN n &&& lN (2 ^ k - 1) = lN (n % 2 ^ k) := by
  rw [wb_and hn (by have := wb_lt2 hk; omega), Nat.and_two_pow_sub_one_eq_mod]
theorem wb_a1 {n : Nat} (hn : n < 2 ^ 64) : lN n &&& 1 = lN (n % 2) := wb_mask (k := 1) hn (by decide)
theorem wb_bit {n k : Nat} (hn : n < 2 ^ 64) (hk : k < 64) : ((lN n).toUInt64 >>> ((nI k).toInt64.toUInt64 &&& Int64.toUInt64 63)).toInt64 &&& 1 = lN (n / 2 ^ k % 2) := by
  rw [wb_shr hn hk, wb_a1 (Nat.lt_of_le_of_lt (Nat.div_le_self _ _) hn)]
theorem wb_xor {q k : Nat} (hk : k < 63) (h : 2 ^ k ≤ q) (h2 : q < 2 ^ (k + 1)) : lN q ^^^ lN (2 ^ k) = lN (q - 2 ^ k) := by
  obtain ⟨r, rfl⟩ : ∃ r, q = 2 ^ k + r := ⟨q - 2 ^ k, by omega⟩
  have hr : r < 2 ^ k := by rw [Nat.pow_succ] at h2; omega
  have hx : (2 ^ k + r) ^^^ 2 ^ k = r := by
    apply Nat.eq_of_testBit_eq
    intro i
    rw [Nat.testBit_xor, Nat.testBit_two_pow]
    rcases Nat.lt_trichotomy i k with h | h | h
    · rw [Nat.testBit_two_pow_add_gt h]
      simp [show ¬ k = i by omega]
    · subst h
      rw [Nat.testBit_two_pow_add_eq]
      simp
    · have a1 : 2 ^ (k + 1) ≤ 2 ^ i := Nat.pow_le_pow_right (by decide) h
      rw [Nat.testBit_lt_two_pow (show 2 ^ k + r < 2 ^ i by omega), Nat.testBit_lt_two_pow (show r < 2 ^ i by omega)]
      simp [show ¬ k = i by omega]
  have b1 := wb_lt2 (show k + 1 < 64 by omega)
  have b2 := wb_lt2 (show k < 64 by omega)
  apply wb_inj
  rw [Int64.toBitVec_xor, wb_tb, wb_tb, wb_tb]
  apply BitVec.eq_of_toNat_eq
  rw [BitVec.toNat_xor, BitVec.toNat_ofNat, BitVec.toNat_ofNat, BitVec.toNat_ofNat, Nat.mod_eq_of_lt (by omega : 2 ^ k + r < 2 ^ 64), Nat.mod_eq_of_lt b2, hx, Nat.add_sub_cancel_left, Nat.mod_eq_of_lt (by omega)]
/-! ===== lN: masks, 'or' of parts that don't overlap is a sum ===== -/
theorem u_tn {n : Nat} (h : n < 2 ^ 64) : (UInt64.ofNat n).toNat = n := Nat.mod_eq_of_lt h
theorem g_and {a b c : Nat} (ha : a < 2 ^ 64) (hb : b < 2 ^ 64) (hc : a &&& b = c) : lN a &&& lN b = lN c := by
  subst hc
  have h : UInt64.ofNat a &&& UInt64.ofNat b = UInt64.ofNat (a &&& b) := UInt64.toNat_inj.mp (by rw [UInt64.toNat_and, u_tn ha, u_tn hb, u_tn (Nat.and_lt_two_pow a hb)])
  have h2 := congrArg UInt64.toInt64 h
  exact h2
theorem g_and1 {a : Nat} (ha : a < 2 ^ 64) : lN a &&& 1 = lN (a % 2) := g_and (b := 1) ha (by decide) (Nat.and_two_pow_sub_one_eq_mod a 1)
theorem g_mask {a s p : Nat} (hp : 2 ^ s = p) (hs : s < 64) (ha : a < 2 ^ 64) : lN a &&& lN (p - 1) = lN (a % p) := by
  subst hp
  have := Nat.pow_lt_pow_right (show 1 < 2 by decide) hs
  exact g_and ha (by omega) (Nat.and_two_pow_sub_one_eq_mod a s)
theorem g_or {k p a b : Nat} (hp : 2 ^ k = p) (ha : a < p) (h : b * p + a < 2 ^ 64) : lN (b * p) ||| lN a = lN (b * p + a) := by
  subst hp
  have h1 : b * 2 ^ k ||| a = b * 2 ^ k + a := by rw [← Nat.shiftLeft_eq, Nat.shiftLeft_add_eq_or_of_lt ha]
  have h3 : UInt64.ofNat (b * 2 ^ k) ||| UInt64.ofNat a = UInt64.ofNat (b * 2 ^ k + a) := UInt64.toNat_inj.mp (by rw [UInt64.toNat_or, u_tn (by omega), u_tn (by omega), u_tn h, h1])
  have h2 := congrArg UInt64.toInt64 h3
  exact h2
theorem g_or' {k p a b : Nat} (hp : 2 ^ k = p) (ha : a < p) (h : a + b * p < 2 ^ 64) : lN a ||| lN (b * p) = lN (a + b * p) := by
  rw [Int64.or_comm, g_or hp ha (by omega), Nat.add_comm]
theorem g_ushr {a k p : Nat} {y : UInt64} (hy : y = UInt64.ofNat k) (hk : k < 64) (hp : 2 ^ k = p) (ha : a < 2 ^ 64) : ((lN a).toUInt64 >>> y).toInt64 = lN (a / p) := by
  subst hy hp
  have h : UInt64.ofNat a >>> UInt64.ofNat k = UInt64.ofNat (a / 2 ^ k) := UInt64.toNat_inj.mp (by rw [UInt64.toNat_shiftRight, u_tn ha, u_tn (by omega), u_tn (Nat.lt_of_le_of_lt (Nat.div_le_self _ _) ha), Nat.mod_eq_of_lt hk, Nat.shiftRight_eq_div_pow])
  have h2 := congrArg UInt64.toInt64 h
  exact h2
theorem g_shl {a k p : Nat} {y : Int64} (hy : y.toBitVec.smod 64 = BitVec.ofNat 64 k) (hk : k < 64) (hp : 2 ^ k = p) (ha : a < 2 ^ 64) : lN a <<< y = lN (a * p) := by
  subst hp
  apply Int64.toBitVec_inj.mp
  rw [Int64.toBitVec_shiftLeft, hy]
  apply BitVec.eq_of_toNat_eq
  have hb : (lN a).toBitVec.toNat = a := Nat.mod_eq_of_lt ha
  have hk' : (BitVec.ofNat 64 k).toNat = k := Nat.mod_eq_of_lt (by omega)
  have h : ((lN a).toBitVec <<< BitVec.ofNat 64 k).toNat = (a * 2 ^ k) % 2 ^ 64 := by simp only [BitVec.shiftLeft_eq', BitVec.toNat_shiftLeft, hb, hk', Nat.shiftLeft_eq]
  exact h
/-! ===== lN to 2^62 under >> and >>> ===== -/
theorem pf_lI {a : Nat} (h : a < 2 ^ 63) : (lN a).toInt = (a : Int) := lg_ofNat_toInt h
theorem pf_shr {a d : Nat} {D : Int64} (hD : (D.toBitVec.smod 64).toNat = d) (h : a < 2 ^ 62) : lN a >>> D = lN (a / 2 ^ d) := by
  have hd : a / 2 ^ d ≤ a := Nat.div_le_self _ _
  apply Int64.toInt_inj.mp
  have e : (lN a >>> D).toInt = (lN a).toInt >>> d := by
    rw [← hD]
    exact BitVec.toInt_sshiftRight ..
  rw [e, Int.shiftRight_eq_div_pow, pf_lI (by omega), pf_lI (by omega)]
  rfl
theorem pf_ushr {a d : Nat} {D : UInt64} (hD : D.toNat % 64 = d) (h : a < 2 ^ 62) : ((lN a).toUInt64 >>> D).toInt64 = lN (a / 2 ^ d) := by
  have hd : a / 2 ^ d ≤ a := Nat.div_le_self _ _
  have e : (lN a).toUInt64 >>> D = UInt64.ofNat (a / 2 ^ d) := UInt64.toNat_inj.mp (by
    rw [UInt64.toNat_shiftRight, hD, Nat.shiftRight_eq_div_pow, UInt64.toNat_ofNat']
    show (UInt64.ofNat a).toNat / 2 ^ d = _
    rw [UInt64.toNat_ofNat', Nat.mod_eq_of_lt (by omega), Nat.mod_eq_of_lt (by omega)])
  rw [e]
  rfl
theorem pf_andw (x : Int64) : ∃ m, m < 2 ^ 32 ∧ x &&& 4294967295 = lN m := ⟨x.toBitVec.toNat % 2 ^ 32, Nat.mod_lt _ (by decide), Int64.toBitVec_inj.mp (BitVec.eq_of_toNat_eq (by
  show (x.toBitVec &&& 4294967295#64).toNat = (BitVec.ofNat 64 (x.toBitVec.toNat % 2 ^ 32)).toNat
  rw [BitVec.toNat_and, show (4294967295#64).toNat = 2 ^ 32 - 1 from by decide, Nat.and_two_pow_sub_one_eq_mod, BitVec.toNat_ofNat]
  omega))⟩
/-! ===== Int64 as an unsigned number: uN x ===== -/
def uN (x : Int64) : Nat := x.toUInt64.toNat
theorem uN_lt (x : Int64) : uN x < 18446744073709551616 := x.toUInt64.toNat_lt
theorem uN_inj {x y : Int64} (h : uN x = uN y) : x = y := congrArg UInt64.toInt64 (UInt64.toNat_inj.mp h)
theorem uN_add (x y : Int64) : uN (x + y) = (uN x + uN y) % 18446744073709551616 := by
  show (x.toUInt64 + y.toUInt64).toNat = _
  exact UInt64.toNat_add _ _
theorem uN_mul (x y : Int64) : uN (x * y) = (uN x * uN y) % 18446744073709551616 := by
  show (x.toUInt64 * y.toUInt64).toNat = _
  exact UInt64.toNat_mul _ _
theorem uN_shl (x : Int64) : uN (x <<< ((1 : Int32).toInt64 &&& 63)) = (2 * uN x) % 18446744073709551616 := by
  have h : (((1 : Int32).toInt64 &&& 63).toBitVec.smod 64).toNat = 1 := by decide
  show (x.toBitVec <<< (((1 : Int32).toInt64 &&& 63).toBitVec.smod 64).toNat).toNat = _
  rw [h, BitVec.toNat_shiftLeft, Nat.shiftLeft_eq, Nat.mul_comm]
  rfl
theorem uN_shr (x : Int64) (s : UInt64) : uN (x.toUInt64 >>> s).toInt64 = uN x / 2 ^ (s.toNat % 64) := by
  show (x.toUInt64 >>> s).toNat = _
  rw [UInt64.toNat_shiftRight, Nat.shiftRight_eq_div_pow]
  rfl
theorem uN_s32 (x : Int64) : uN (x.toUInt64 >>> ((32 : Int32).toInt64.toUInt64 &&& Int64.toUInt64 63)).toInt64 = uN x / 4294967296 := by
  have h : ((32 : Int32).toInt64.toUInt64 &&& Int64.toUInt64 63).toNat % 64 = 32 := by decide
  rw [uN_shr, h]
theorem uN_s63 (x : Int64) : uN (x.toUInt64 >>> ((63 : Int32).toInt64.toUInt64 &&& Int64.toUInt64 63)).toInt64 = uN x / 9223372036854775808 := by
  have h : ((63 : Int32).toInt64.toUInt64 &&& Int64.toUInt64 63).toNat % 64 = 63 := by decide
  rw [uN_shr, h]
theorem uN_lo (x : Int64) : uN (x &&& 4294967295) = uN x % 4294967296 := by
  show (x.toUInt64 &&& Int64.toUInt64 4294967295).toNat = _
  rw [UInt64.toNat_and]
  exact Nat.and_two_pow_sub_one_eq_mod _ 32
theorem uN_bit (x : Int64) : (x &&& 1) = 0 ↔ uN x % 2 = 0 := by
  have h : uN (x &&& 1) = uN x % 2 := by
    show (x.toUInt64 &&& Int64.toUInt64 1).toNat = _
    rw [UInt64.toNat_and]
    exact Nat.and_two_pow_sub_one_eq_mod _ 1
  rw [← h]
  exact ⟨fun z => by rw [z]; rfl, fun z => uN_inj (z.trans rfl)⟩
theorem uN_or {x y : Int64} (hy : uN y < 2) : uN ((x <<< ((1 : Int32).toInt64 &&& 63)) ||| y) = (2 * uN x) % 18446744073709551616 + uN y := by
  have h1 : uN ((x <<< ((1 : Int32).toInt64 &&& 63)) ||| y) = uN (x <<< ((1 : Int32).toInt64 &&& 63)) ||| uN y := UInt64.toNat_or _ _
  have h2 : (2 * uN x) % 18446744073709551616 = 2 ^ 1 * (uN x % 9223372036854775808) := by omega
  rw [h1, uN_shl, h2]
  exact (Nat.two_pow_add_eq_or_of_lt (i := 1) hy _).symm
theorem nat_xor {a : Nat} (h : a < 18446744073709551616) : a ^^^ 2 ^ 63 = (a + 9223372036854775808) % 18446744073709551616 := by
  have h1 : (a ^^^ 2 ^ 63) % 2 ^ 63 = a % 2 ^ 63 := by rw [Nat.xor_mod_two_pow, Nat.mod_self, Nat.xor_zero]
  have h2 : (a ^^^ 2 ^ 63) / 2 ^ 63 = (a / 2 ^ 63) ^^^ 1 := by rw [Nat.xor_div_two_pow, Nat.div_self (Nat.two_pow_pos 63)]
  have h3 : a / 2 ^ 63 = 0 ∨ a / 2 ^ 63 = 1 := by omega
  generalize a ^^^ 2 ^ 63 = t at h1 h2
  rcases h3 with h3 | h3
  · rw [h3] at h2
    have h2 : t / 2 ^ 63 = 1 := h2
    omega
  · rw [h3] at h2
    have h2 : t / 2 ^ 63 = 0 := h2
    omega
theorem uN_xor (x : Int64) : uN (x ^^^ (-9223372036854775808)) = (uN x + 9223372036854775808) % 18446744073709551616 := by
  rw [← nat_xor (uN_lt x)]
  exact UInt64.toNat_xor _ _
theorem uN_int (x : Int64) : x.toInt = if 2 * uN x < 18446744073709551616 then (uN x : Int) else (uN x : Int) - 18446744073709551616 := BitVec.toInt_eq_toNat_cond _
theorem uN_le (x y : Int64) : (x ^^^ (-9223372036854775808)) ≤ (y ^^^ (-9223372036854775808)) ↔ uN x ≤ uN y := by
  have hx := uN_lt x
  have hy := uN_lt y
  rw [Int64.le_iff_toInt_le, uN_int, uN_int, uN_xor, uN_xor]
  omega
theorem uN_sk (x : Int64) {k : Nat} (hk : k < 64) : uN (x.toUInt64 >>> ((nI k).toInt64.toUInt64 &&& Int64.toUInt64 63)).toInt64 = uN x / 2 ^ k := by
  have h : ((nI k).toInt64.toUInt64 &&& Int64.toUInt64 63).toNat % 64 = k := by
    rw [nI_l (by omega), UInt64.toNat_and]
    have e : (lN k).toUInt64.toNat = k % 2 ^ 64 := rfl
    have e2 : (Int64.toUInt64 63).toNat = 2 ^ 6 - 1 := by decide
    rw [e, e2, Nat.and_two_pow_sub_one_eq_mod]
    omega
  rw [uN_shr, h]
/-! ===== unsigned comparison by xor with the least ===== -/
theorem lN_bv (n : Nat) : (lN n).toBitVec = BitVec.ofNat 64 n := rfl
theorem lN_nat {n : Nat} (h : n < 2 ^ 64) : (lN n).toBitVec.toNat = n := by rw [lN_bv, BitVec.toNat_ofNat]; exact Nat.mod_eq_of_lt h
theorem lN_xor (a b : Nat) : lN a ^^^ lN b = lN (a ^^^ b) := by
  apply Int64.toBitVec_inj.mp; rw [Int64.toBitVec_xor, lN_bv, lN_bv, lN_bv]; apply BitVec.eq_of_getLsbD_eq; intro i hi; simp [BitVec.getLsbD_ofNat, Nat.testBit_xor, hi]
theorem lN_ti {m : Nat} (h : m < 2 ^ 64) : (lN m).toInt = if m < 2 ^ 63 then (m : Int) else (m : Int) - 2 ^ 64 := by
  have c := BitVec.toInt_eq_toNat_cond (lN m).toBitVec
  rw [lN_nat h] at c
  show (lN m).toBitVec.toInt = _
  rw [c]
  split <;> split <;> omega
theorem xor63 {x : Nat} (h : x < 2 ^ 63) : x ^^^ 2 ^ 63 = 2 ^ 63 + x := by
  apply Nat.eq_of_testBit_eq
  intro i
  rw [Nat.testBit_xor, Nat.testBit_two_pow]
  rcases Nat.lt_trichotomy i 63 with z | z | z
  · rw [Nat.testBit_two_pow_add_gt z, decide_eq_false (by omega)]; simp
  · subst z; rw [Nat.testBit_two_pow_add_eq]; simp
  · have hp : 2 ^ 64 ≤ 2 ^ i := Nat.pow_le_pow_right (by decide) z
    rw [Nat.testBit_lt_two_pow (show x < 2 ^ i by omega), Nat.testBit_lt_two_pow (show 2 ^ 63 + x < 2 ^ i by omega), decide_eq_false (by omega)]; rfl
theorem xorS {a : Nat} (h : a < 2 ^ 64) : (lN a ^^^ (-9223372036854775808)).toInt = (a : Int) - 2 ^ 63 := by
  rw [show (-9223372036854775808 : Int64) = lN (2 ^ 63) from by decide +kernel, lN_xor]
  rcases Nat.lt_or_ge a (2 ^ 63) with z | z
  · rw [xor63 z, lN_ti (by omega), if_neg (by omega)]; omega
  · obtain ⟨x, rfl⟩ : ∃ x, a = 2 ^ 63 + x := ⟨a - 2 ^ 63, by omega⟩
    rw [← xor63 (by omega), Nat.xor_assoc, Nat.xor_self, Nat.xor_zero, lN_ti (by omega), if_pos (by omega), xor63 (by omega)]; omega
theorem ultL {a b : Nat} (ha : a < 2 ^ 64) (hb : b < 2 ^ 64) : ((lN b ^^^ (-9223372036854775808)) ≤ (lN a ^^^ (-9223372036854775808))) ↔ b ≤ a := by
  rw [Int64.le_iff_toInt_le, xorS ha, xorS hb]; omega
/-! ===== Int64 masks of n low bits ===== -/
theorem cr_bits (W U M : BitVec 64) : ((W &&& U) &&& (U &&& (M ^^^ BitVec.allOnes 64))) = 0#64 ↔ (W &&& U) &&& M = W &&& U := by
  constructor
  · intro h
    apply BitVec.eq_of_getLsbD_eq
    intro i hi
    have e := congrArg (fun x => BitVec.getLsbD x i) h
    simp only [BitVec.getLsbD_and, BitVec.getLsbD_xor, BitVec.getLsbD_allOnes, BitVec.getLsbD_zero, hi, decide_true] at e ⊢
    revert e
    cases W.getLsbD i <;> cases U.getLsbD i <;> cases M.getLsbD i <;> decide
  · intro h
    apply BitVec.eq_of_getLsbD_eq
    intro i hi
    have e := congrArg (fun x => BitVec.getLsbD x i) h
    simp only [BitVec.getLsbD_and, BitVec.getLsbD_xor, BitVec.getLsbD_allOnes, BitVec.getLsbD_zero, hi, decide_true] at e ⊢
    revert e
    cases W.getLsbD i <;> cases U.getLsbD i <;> cases M.getLsbD i <;> decide
theorem cr_mask (w U m : Int64) (n : Nat) (hm : m.toBitVec.toNat = 2 ^ n - 1) : ((w &&& U) &&& (U &&& (m ^^^ (-1)))) = 0 ↔ (w &&& U).toBitVec.toNat < 2 ^ n := by
  have e0 : (-1 : Int64).toBitVec = BitVec.allOnes 64 := by decide
  have z0 : (0 : Int64).toBitVec = 0#64 := by decide
  rw [← Int64.toBitVec_inj, z0, Int64.toBitVec_and, Int64.toBitVec_and, Int64.toBitVec_and, Int64.toBitVec_xor, e0, cr_bits]
  generalize w.toBitVec &&& U.toBitVec = T
  rw [← BitVec.toNat_inj, BitVec.toNat_and, hm, Nat.and_two_pow_sub_one_eq_mod]
  constructor
  · intro h
    have t := Nat.mod_lt T.toNat (Nat.two_pow_pos n)
    rw [h] at t
    exact t
  · exact Nat.mod_eq_of_lt
theorem cr_shr (t : Int64) (x : UInt64) (n : Nat) (hx : x.toNat % 64 = n) : (t.toUInt64 >>> x).toInt64 = 0 ↔ t.toBitVec.toNat < 2 ^ n := by
  rw [← Int64.toBitVec_inj, ← BitVec.toNat_inj]
  show (t.toUInt64 >>> x).toNat = 0 ↔ t.toUInt64.toNat < 2 ^ n
  rw [UInt64.toNat_shiftRight, hx, Nat.shiftRight_eq_div_pow]
  constructor
  · intro h
    have d : t.toUInt64.toNat / 2 ^ n < 1 := by
      rw [h]
      decide
    have e := (Nat.div_lt_iff_lt_mul (Nat.two_pow_pos n)).mp d
    rw [Nat.one_mul] at e
    exact e
  · exact Nat.div_eq_of_lt
theorem cr_amt (s : Int64) : ∃ n, n < 64 ∧ s &&& 63 = lN n ∧ (s.toUInt64 &&& Int64.toUInt64 63).toNat % 64 = n := by
  have e : (s.toUInt64 &&& Int64.toUInt64 63).toNat = s.toUInt64.toNat % 2 ^ 6 := by
    rw [UInt64.toNat_and, show (Int64.toUInt64 63).toNat = 2 ^ 6 - 1 from by decide, Nat.and_two_pow_sub_one_eq_mod]
  refine ⟨s.toUInt64.toNat % 2 ^ 6, by omega, ?_, by omega⟩
  rw [← Int64.toBitVec_inj, ← BitVec.toNat_inj]
  show (s.toUInt64 &&& Int64.toUInt64 63).toNat = (BitVec.ofNat 64 (s.toUInt64.toNat % 2 ^ 6)).toNat
  rw [e, BitVec.toNat_ofNat]
  omega
theorem pk_us {f : Nat → Int32} {k : Nat} {x : Int32} : upd f k x k = x := if_pos rfl
theorem pk_un {f : Nat → Int32} {k j : Nat} {x : Int32} (h : j ≠ k) : upd f k x j = f j := if_neg h
theorem pk_uLs {f : Nat → Int64} {k : Nat} {x : Int64} : vp_updL f k x k = x := if_pos rfl
theorem pk_uLn {f : Nat → Int64} {k j : Nat} {x : Int64} (h : j ≠ k) : vp_updL f k x j = f j := if_neg h
theorem pk_sub {a b : Nat} (h : b ≤ a) : nI a - nI b = nI (a - b) := by
  obtain ⟨c, rfl⟩ : ∃ c, a = c + b := ⟨a - b, by omega⟩
  rw [← nI_add, Int32.add_sub_cancel, Nat.add_sub_cancel]
theorem pk_m1 (n : Nat) : nI (n + 1) + (-1) = nI n := by
  rw [← nI_1, Int32.add_assoc, show (1 : Int32) + (-1) = 0 from rfl, Int32.add_zero]
theorem pk_mul (a b : Nat) : nI a * nI b = nI (a * b) := (Int32.ofNat_mul a b).symm
theorem pk_ix (x : Int32) {n : Nat} (hn : n < 2 ^ 31) : x < 0 ∨ nI n ≤ x ∨ ∃ j : Nat, j < n ∧ x = nI j := by
  by_cases h : x < 0
  · exact Or.inl h
  · obtain ⟨j, hj, rfl⟩ := nI_of h
    by_cases h2 : j < n
    · exact Or.inr (Or.inr ⟨j, h2, rfl⟩)
    · exact Or.inr (Or.inl (nI_le (by omega) hj))
theorem pk_in {x : Int32} (n N : Nat) (h : n < N) (hx : x = nI n := by rfl) (hN : N < 2 ^ 31 := by omega) : vp_in x N := by
  subst hx
  exact vp_in_nI h hN
theorem pk_cl {x : Int32} (n : Nat) (hx : x = nI n := by rfl) (h : n < 2 ^ 31 := by omega) : x.toNatClampNeg = n := by
  subst hx
  exact nI_clamp h
theorem pk_tn {n : Nat} (h : n < 2 ^ 32) : (nI n).toBitVec.toNat = n := Nat.mod_eq_of_lt h
theorem pk_and (x : Int32) {m : Int32} (k : Nat) (hm : m.toBitVec.toNat = 2 ^ k - 1) : x &&& m = nI (x.toBitVec.toNat % 2 ^ k) := by
  apply Int32.toBitVec_inj.mp
  apply BitVec.eq_of_toNat_eq
  rw [Int32.toBitVec_and, BitVec.toNat_and, hm, Nat.and_two_pow_sub_one_eq_mod]
  show _ = (BitVec.ofNat 32 _).toNat
  rw [BitVec.toNat_ofNat]
  exact (Nat.mod_eq_of_lt (Nat.lt_of_le_of_lt (Nat.mod_le _ _) x.toBitVec.isLt)).symm
theorem pk_andE (x : Int32) {m : Int32} (k : Nat) (hm : m.toBitVec.toNat = 2 ^ k - 1) : ∃ j : Nat, j < 2 ^ k ∧ x &&& m = nI j := ⟨_, Nat.mod_lt _ (Nat.two_pow_pos k), pk_and x k hm⟩
theorem pk_andIn (x : Int32) {m : Int32} (k : Nat) (hm : m.toBitVec.toNat = 2 ^ k - 1) (hk : k ≤ 30) : vp_in (x &&& m) (2 ^ k) := by
  obtain ⟨j, hj, e⟩ := pk_andE x k hm
  rw [e]
  exact vp_in_nI hj (Nat.lt_of_le_of_lt (Nat.pow_le_pow_right (by decide) hk) (by decide))
theorem pk_shl (a s : Int32) (k : Nat) (hs : (s.toBitVec.smod 32).toNat = k) : (a <<< s).toBitVec.toNat = a.toBitVec.toNat * 2 ^ k % 2 ^ 32 := by
  show (a.toBitVec <<< (s.toBitVec.smod 32).toNat).toNat = _
  rw [hs, BitVec.toNat_shiftLeft, Nat.shiftLeft_eq]
theorem pk_shr (a s : Int32) (k : Nat) (hs : (s.toBitVec.smod 32).toNat = k) : (a >>> s).toInt = a.toInt >>> k := by
  show (a.toBitVec.sshiftRight (s.toBitVec.smod 32).toNat).toInt = _
  rw [hs, BitVec.toInt_sshiftRight]
  rfl
theorem pk_shrN {n : Nat} (h : n < 2 ^ 31) (s : Int32) (k : Nat) (hs : (s.toBitVec.smod 32).toNat = k) : nI n >>> s = nI (n / 2 ^ k) := by
  apply Int32.toInt_inj.mp
  have h2 : n / 2 ^ k ≤ n := Nat.div_le_self _ _
  rw [pk_shr _ _ k hs, nI_toInt h, nI_toInt (by omega), Int.shiftRight_eq_div_pow]
  rfl
theorem pk_ushr (x s : Int32) (k : Nat) (hs : ((s.toUInt32 &&& Int32.toUInt32 31).toBitVec % 32).toNat = k) : (x.toUInt32 >>> (s.toUInt32 &&& Int32.toUInt32 31)).toInt32.toBitVec.toNat = x.toBitVec.toNat / 2 ^ k := by
  have e : (x.toUInt32 >>> (s.toUInt32 &&& Int32.toUInt32 31)).toInt32.toBitVec = x.toBitVec >>> k := by
    rw [← hs]
    exact UInt32.toBitVec_shiftRight _ _
  rw [e, BitVec.toNat_ushiftRight, Nat.shiftRight_eq_div_pow]
theorem pk_lT {n : Nat} (h : n < 2 ^ 63) : (lN n).toInt = (n : Int) := lg_ofNat_toInt h
theorem pk_lLT {a b : Nat} (ha : a < 2 ^ 63) (hb : b < 2 ^ 63) : lN a < lN b ↔ a < b := by
  rw [Int64.lt_iff_toInt_lt, pk_lT ha, pk_lT hb]; omega
theorem pk_lLE {a b : Nat} (ha : a < 2 ^ 63) (hb : b < 2 ^ 63) : lN a ≤ lN b ↔ a ≤ b := by
  rw [Int64.le_iff_toInt_le, pk_lT ha, pk_lT hb]; omega
theorem pk_lEQ {a b : Nat} (ha : a < 2 ^ 63) (hb : b < 2 ^ 63) : lN a = lN b ↔ a = b := by
  rw [← Int64.toInt_inj, pk_lT ha, pk_lT hb]; omega
theorem pk_lOf {x : Int64} (h : ¬ x < 0) : ∃ k : Nat, k < 2 ^ 63 ∧ x = lN k := by
  rw [Int64.lt_iff_toInt_lt] at h
  have h0 : (0 : Int64).toInt = 0 := by decide
  have hx := Int64.toInt_lt x
  refine ⟨x.toInt.toNat, by omega, Int64.toInt_inj.mp ?_⟩
  rw [pk_lT (by omega)]
  omega
theorem pk_lDiv {a b : Nat} (ha : a < 2 ^ 63) (h0 : 0 < b) (hb : b < 2 ^ 63) : lN a / lN b = lN (a / b) := by
  apply Int64.toInt_inj.mp
  rw [lg_ldiv_nonneg (by rw [pk_lT ha]; omega) (by rw [pk_lT hb]; omega), pk_lT ha, pk_lT hb, pk_lT (Nat.lt_of_le_of_lt (Nat.div_le_self a b) ha)]
  rfl
theorem pk_least (P : Nat → Prop) (h : ∃ k, P k) : ∃ k, P k ∧ ∀ j, j < k → ¬ P j := by
  obtain ⟨k, hk⟩ := h
  induction k using Nat.strongRecOn with
  | ind k ih =>
    by_cases e : ∃ j, j < k ∧ P j
    · obtain ⟨j, hj, pj⟩ := e
      exact ih j hj pj
    · exact ⟨k, hk, fun j hj pj => e ⟨j, hj, pj⟩⟩
end
section
/-! ===== Int32 as an unsigned number: wn_u; the join of two halves: wn_j ===== -/
def wn_u (x : Int32) : Nat := x.toUInt32.toNat
theorem wn_lt (x : Int32) : wn_u x < 4294967296 := x.toUInt32.toNat_lt
theorem wn_inj {x y : Int32} (h : wn_u x = wn_u y) : x = y := congrArg UInt32.toInt32 (UInt32.toNat_inj.mp h)
theorem wn_add (x y : Int32) : wn_u (x + y) = (wn_u x + wn_u y) % 4294967296 := by
  show (x.toUInt32 + y.toUInt32).toNat = _
  exact UInt32.toNat_add _ _
theorem wn_mul (x y : Int32) : wn_u (x * y) = (wn_u x * wn_u y) % 4294967296 := by
  show (x.toUInt32 * y.toUInt32).toNat = _
  exact UInt32.toNat_mul _ _
theorem wn_sub (x y : Int32) : wn_u (x - y) = (4294967296 - wn_u y + wn_u x) % 4294967296 := by
  show (x.toUInt32 - y.toUInt32).toNat = _
  exact UInt32.toNat_sub _ _
theorem wn_or (x y : Int32) : wn_u (x ||| y) = wn_u x ||| wn_u y := UInt32.toNat_or _ _
theorem wn_nI {n : Nat} (h : n < 4294967296) : wn_u (nI n) = n := pk_tn h
theorem wn_of (x : Int32) : x = nI (wn_u x) := wn_inj (wn_nI (wn_lt x)).symm
theorem wn_u0 : wn_u 0 = 0 := by decide
theorem wn_u1 : wn_u 1 = 1 := by decide
theorem wn_um : wn_u (-1) = 4294967295 := by decide
theorem wn_ne {x y : Int32} (h : ¬ x = y) : wn_u x ≠ wn_u y := fun e => h (wn_inj e)
theorem uN_sub (x y : Int64) : uN (x - y) = (18446744073709551616 - uN y + uN x) % 18446744073709551616 := by
  show (x.toUInt64 - y.toUInt64).toNat = _
  exact UInt64.toNat_sub _ _
theorem uN_lN {n : Nat} (h : n < 18446744073709551616) : uN (lN n) = n := wb_tn h
theorem uN_of (x : Int64) : x = lN (uN x) := uN_inj (uN_lN (uN_lt x)).symm
theorem uN_0 : uN 0 = 0 := by decide
theorem uN_m1 : uN (-1) = 18446744073709551615 := by decide
theorem uN_ne {x y : Int64} (h : ¬ x = y) : uN x ≠ uN y := fun e => h (uN_inj e)

def wn_j (h l : Int32) : Int64 := Int64.ofBitVec (h.toBitVec ++ l.toBitVec)
theorem wn_ju (h l : Int32) : uN (wn_j h l) = wn_u h * 4294967296 + wn_u l := by
  have e : uN (wn_j h l) = (h.toBitVec.toNat <<< 32 ||| l.toBitVec.toNat) := rfl
  have z : l.toBitVec.toNat < 2 ^ 32 := l.toBitVec.isLt
  rw [e, ← Nat.shiftLeft_add_eq_or_of_lt z, Nat.shiftLeft_eq]
  rfl
theorem wn_jeq {h l : Int32} {x : Int64} (e : wn_u h * 4294967296 + wn_u l = uN x) : wn_j h l = x := uN_inj ((wn_ju h l).trans e)
theorem wn_j00 : wn_j 0 0 = 0 := wn_jeq (by rw [wn_u0, uN_0])

/-! the bits of an Int64 -/
def wn_b (x : Int64) (i : Nat) : Bool := x.toBitVec.getLsbD i
theorem wn_bext {x y : Int64} (h : ∀ i, i < 64 → wn_b x i = wn_b y i) : x = y := Int64.toBitVec_inj.mp (BitVec.eq_of_getLsbD_eq (fun i hi => h i hi))
theorem wn_bj (h l : Int32) (i : Nat) : wn_b (wn_j h l) i = if i < 32 then bt l i else bt h (i - 32) := BitVec.getLsbD_append
theorem wn_bjl {h l : Int32} {i : Nat} (z : i < 32) : wn_b (wn_j h l) i = bt l i := (wn_bj h l i).trans (if_pos z)
theorem wn_bjh {h l : Int32} {i : Nat} (z : 32 ≤ i) : wn_b (wn_j h l) i = bt h (i - 32) := (wn_bj h l i).trans (if_neg (Nat.not_lt.mpr z))
theorem wn_bor (x y : Int64) (i : Nat) : wn_b (x ||| y) i = (wn_b x i || wn_b y i) := by unfold wn_b; rw [Int64.toBitVec_or, BitVec.getLsbD_or]
theorem wn_band (x y : Int64) (i : Nat) : wn_b (x &&& y) i = (wn_b x i && wn_b y i) := by unfold wn_b; rw [Int64.toBitVec_and, BitVec.getLsbD_and]
theorem wn_bxor (x y : Int64) (i : Nat) : wn_b (x ^^^ y) i = (wn_b x i ^^ wn_b y i) := by unfold wn_b; rw [Int64.toBitVec_xor, BitVec.getLsbD_xor]
theorem wn_jor (a b c d : Int32) : wn_j (a ||| c) (b ||| d) = wn_j a b ||| wn_j c d := wn_bext fun i _ => by
  rw [wn_bor, wn_bj, wn_bj, wn_bj]
  split
  · exact b_or ..
  · exact b_or ..
theorem wn_jand (a b c d : Int32) : wn_j (a &&& c) (b &&& d) = wn_j a b &&& wn_j c d := wn_bext fun i _ => by
  rw [wn_band, wn_bj, wn_bj, wn_bj]
  split
  · exact b_and ..
  · exact b_and ..
theorem wn_jxor (a b c d : Int32) : wn_j (a ^^^ c) (b ^^^ d) = wn_j a b ^^^ wn_j c d := wn_bext fun i _ => by
  rw [wn_bxor, wn_bj, wn_bj, wn_bj]
  split
  · exact b_xor ..
  · exact b_xor ..
theorem wn_sl : ∀ n, n < 64 → (((nI n).toInt64 &&& 63).toBitVec.smod 64).toNat = n := by decide +kernel
theorem wn_bshl (n : Nat) (hn : n < 64) (x : Int64) {i : Nat} (hi : i < 64) : wn_b (x <<< ((nI n).toInt64 &&& 63)) i = (decide (n ≤ i) && wn_b x (i - n)) := by
  unfold wn_b
  rw [Int64.toBitVec_shiftLeft]
  show (x.toBitVec <<< (((nI n).toInt64 &&& 63).toBitVec.smod 64).toNat).getLsbD i = _
  rw [wn_sl n hn, BitVec.getLsbD_shiftLeft]
  rcases Nat.lt_or_ge i n with h | h
  · simp [h, Nat.not_le.mpr h]
  · simp [hi, h, Nat.not_lt.mpr h]
theorem wn_cu {k : Nat} (hk : k < 64) : ((nI k).toInt64.toUInt64 &&& Int64.toUInt64 63).toNat = k := by
  rw [wb_cu k hk]
  exact u_tn (by omega)
theorem wn_bshr (n : Nat) (hn : n < 64) (x : Int64) (i : Nat) : wn_b ((x.toUInt64 >>> ((nI n).toInt64.toUInt64 &&& Int64.toUInt64 63)).toInt64) i = wn_b x (n + i) := by
  have e : (x.toUInt64 >>> ((nI n).toInt64.toUInt64 &&& Int64.toUInt64 63)).toInt64.toBitVec = x.toBitVec >>> n := by
    apply BitVec.eq_of_toNat_eq
    show (x.toUInt64 >>> ((nI n).toInt64.toUInt64 &&& Int64.toUInt64 63)).toNat = _
    rw [UInt64.toNat_shiftRight, wn_cu hn, Nat.mod_eq_of_lt hn, BitVec.toNat_ushiftRight]
    rfl
  unfold wn_b
  rw [e, BitVec.getLsbD_ushiftRight]
theorem wn_bsar (n : Nat) (hn : n < 64) (x : Int64) {i : Nat} (hi : i < 64) : wn_b (x >>> ((nI n).toInt64 &&& 63)) i = if n + i < 64 then wn_b x (n + i) else wn_b x 63 := by
  unfold wn_b
  rw [Int64.toBitVec_shiftRight]
  show (x.toBitVec.sshiftRight (((nI n).toInt64 &&& 63).toBitVec.smod 64).toNat).getLsbD i = _
  rw [wn_sl n hn, BitVec.getLsbD_sshiftRight, BitVec.msb_eq_getLsbD_last]
  simp [hi]

/-! masks, single shifts, casts -/
theorem wn_x63 (x : Int32) : x &&& 63 = nI (wn_u x % 64) := pk_and x 6 (by decide)
theorem wn_y63 (y : Int64) : (y &&& 63).toInt32 = nI (uN y % 64) := by
  have e : lN (uN y) &&& 63 = lN (uN y % 2 ^ 6) := wb_mask (k := 6) (uN_lt y) (by decide)
  rw [← uN_of] at e
  rw [e, lN_i]
theorem wn_ti (x : Int64) : wn_u x.toInt32 = uN x % 4294967296 := by
  have e := lN_i (uN x)
  rw [← uN_of] at e
  rw [e]
  rfl
theorem wn_m16 (x : Int32) : wn_u (x &&& 65535) = wn_u x % 65536 := by
  have e : x &&& 65535 = nI (wn_u x % 2 ^ 16) := pk_and x 16 (by decide)
  rw [e, wn_nI (by omega)]
theorem wn_s16 (x : Int32) : wn_u (x.toUInt32 >>> ((16 : Int32).toUInt32 &&& Int32.toUInt32 31)).toInt32 = wn_u x / 65536 := pk_ushr x 16 16 (by decide)
theorem wn_s31 (x : Int32) : wn_u (x.toUInt32 >>> ((31 : Int32).toUInt32 &&& Int32.toUInt32 31)).toInt32 = wn_u x / 2147483648 := pk_ushr x 31 31 (by decide)
theorem wn_l16 (x : Int32) : wn_u (x <<< ((16 : Int32) &&& 31)) = wn_u x * 65536 % 4294967296 := pk_shl x _ 16 (by decide)
theorem wn_l1 (x : Int32) : wn_u (x <<< ((1 : Int32) &&& 31)) = wn_u x * 2 % 4294967296 := pk_shl x _ 1 (by decide)
theorem wn_or16 {x y : Int32} (hy : wn_u y < 65536) : wn_u ((x <<< ((16 : Int32) &&& 31)) ||| y) = wn_u x * 65536 % 4294967296 + wn_u y := by
  have h2 : wn_u x * 65536 % 4294967296 = 2 ^ 16 * (wn_u x % 65536) := by omega
  rw [wn_or, wn_l16, h2]
  exact (Nat.two_pow_add_eq_or_of_lt (i := 16) hy _).symm
theorem wn_or1 {x y : Int32} (hy : wn_u y < 2) : wn_u ((x <<< ((1 : Int32) &&& 31)) ||| y) = wn_u x * 2 % 4294967296 + wn_u y := by
  have h2 : wn_u x * 2 % 4294967296 = 2 ^ 1 * (wn_u x % 2147483648) := by omega
  rw [wn_or, wn_l1, h2]
  exact (Nat.two_pow_add_eq_or_of_lt (i := 1) hy _).symm
theorem wn_bit (x : Int32) {i : Nat} (hi : i < 32) : wn_u (((x.toUInt32 >>> ((nI i).toUInt32 &&& Int32.toUInt32 31)).toInt32) &&& 1) = wn_u x / 2 ^ i % 2 := by
  have e : ∀ y : Int32, wn_u (y &&& 1) = wn_u y % 2 := fun y => by
    have z : y &&& 1 = nI (wn_u y % 2 ^ 1) := pk_and y 1 (by decide)
    rw [z, wn_nI (by omega)]
  have f : wn_u (x.toUInt32 >>> ((nI i).toUInt32 &&& Int32.toUInt32 31)).toInt32 = wn_u x / 2 ^ i := pk_ushr x (nI i) i (s_u i hi)
  rw [e, f]
theorem wn_bt (x : Int32) (i : Nat) : (bt x i).toNat = wn_u x / 2 ^ i % 2 := Nat.toNat_testBit _ _
theorem wn_bt0 (x : Int32) {i : Nat} (hi : i < 32) : (((x.toUInt32 >>> ((nI i).toUInt32 &&& Int32.toUInt32 31)).toInt32) &&& 1) = 0 ↔ bt x i = false := by
  have e := wn_bit x hi
  rw [← wn_bt] at e
  generalize (((x.toUInt32 >>> ((nI i).toUInt32 &&& Int32.toUInt32 31)).toInt32) &&& 1) = w at e
  cases h : bt x i
  · rw [h] at e
    exact ⟨fun _ => rfl, fun _ => wn_inj e⟩
  · rw [h] at e
    refine ⟨fun z => ?_, fun z => nomatch z⟩
    rw [z, wn_u0] at e
    exact nomatch e
theorem wn_wb (x : Int64) (i : Nat) : (wn_b x i).toNat = uN x / 2 ^ i % 2 := Nat.toNat_testBit _ _
theorem wn_wb0 (x : Int64) {i : Nat} (hi : i < 64) : ((x.toUInt64 >>> ((nI i).toInt64.toUInt64 &&& Int64.toUInt64 63)).toInt64 &&& 1) = 0 ↔ wn_b x i = false := ts_bit hi (wn_cu hi)

/-! comparisons -/
theorem wn_nx {a : Nat} (h : a < 4294967296) : a ^^^ 2 ^ 31 = (a + 2147483648) % 4294967296 := by
  have h1 : (a ^^^ 2 ^ 31) % 2 ^ 31 = a % 2 ^ 31 := by rw [Nat.xor_mod_two_pow, Nat.mod_self, Nat.xor_zero]
  have h2 : (a ^^^ 2 ^ 31) / 2 ^ 31 = (a / 2 ^ 31) ^^^ 1 := by rw [Nat.xor_div_two_pow, Nat.div_self (Nat.two_pow_pos 31)]
  have h3 : a / 2 ^ 31 = 0 ∨ a / 2 ^ 31 = 1 := by omega
  generalize a ^^^ 2 ^ 31 = t at h1 h2
  rcases h3 with h3 | h3
  · rw [h3] at h2
    have h2 : t / 2 ^ 31 = 1 := h2
    omega
  · rw [h3] at h2
    have h2 : t / 2 ^ 31 = 0 := h2
    omega
theorem wn_xor (x : Int32) : wn_u (x ^^^ (-2147483648)) = (wn_u x + 2147483648) % 4294967296 := by
  rw [← wn_nx (wn_lt x)]
  exact UInt32.toNat_xor _ _
theorem wn_int (x : Int32) : x.toInt = if 2 * wn_u x < 4294967296 then (wn_u x : Int) else (wn_u x : Int) - 4294967296 := BitVec.toInt_eq_toNat_cond _
theorem wn_le (x y : Int32) : (x ^^^ (-2147483648)) ≤ (y ^^^ (-2147483648)) ↔ wn_u x ≤ wn_u y := by
  have hx := wn_lt x
  have hy := wn_lt y
  rw [Int32.le_iff_toInt_le, wn_int, wn_int, wn_xor, wn_xor]
  omega
theorem wn_nn (x : Int32) : 0 ≤ x ↔ wn_u x < 2147483648 := by
  have hx := wn_lt x
  rw [Int32.le_iff_toInt_le, wn_int x, show (0 : Int32).toInt = 0 from by decide]
  omega
theorem uN_nn (x : Int64) : 0 ≤ x ↔ uN x < 9223372036854775808 := by
  have hx := uN_lt x
  rw [Int64.le_iff_toInt_le, uN_int x, show (0 : Int64).toInt = 0 from by decide]
  omega
theorem wn_jint (h l : Int32) : (wn_j h l).toInt = h.toInt * 4294967296 + wn_u l := by
  have hx := wn_lt h
  have hy := wn_lt l
  rw [uN_int, wn_int, wn_ju]
  omega
end
section
/-! ===== the component: comparing, adding, products ===== -/
theorem xw_lower {P : Int32 → Prop} {a b : Int32} (h0 : wn_u b ≤ wn_u a → P 0) (h1 : wn_u a < wn_u b → P 1) : wpX_lower P a b :=
  And.intro (fun z => h0 ((wn_le _ _).mp z)) (fun z => h1 (Nat.lt_of_not_le fun q => z ((wn_le _ _).mpr q)))
theorem xw_lowerPair {P : Int32 → Prop} {a b c d : Int32} (h0 : uN (wn_j c d) ≤ uN (wn_j a b) → P 0) (h1 : uN (wn_j a b) < uN (wn_j c d) → P 1) : wpX_lowerPair P a b c d := by
  have hb := wn_lt b
  have hd := wn_lt d
  rw [wn_ju, wn_ju] at h0 h1
  by_cases e : a = c
  · subst e
    exact br_t rfl (xw_lower (fun z => ⟨rfl, h0 (by omega)⟩) (fun z => ⟨rfl, h1 (by omega)⟩))
  · have f := wn_ne e
    exact br_f e (xw_lower (fun z => ⟨rfl, h0 (by omega)⟩) (fun z => ⟨rfl, h1 (by omega)⟩))
theorem xw_badN {P : Int32 → Prop} {x : Int32} (h : x < 0 ∨ nI 8 ≤ x) (p : P 1) : wpX_bad P x := by
  by_cases z : x < 0
  · exact br_t z p
  · have h8 : nI 8 ≤ x := h.resolve_left z
    refine br_f z (br_f (fun q => ?_) p)
    have q2 : nI 8 ≤ 7 := Int32.le_trans h8 q
    exact absurd q2 (by decide)
theorem xw_badY {P : Int32 → Prop} {j : Nat} (h : j < 8) (p : P 0) : wpX_bad P (nI j) := by
  have e : nI j ≤ nI 7 := nI_le (by omega) (by decide)
  exact br_f (nI_pos (by omega)) (br_t e p)

section
variable {post : SX → Prop} {oh ol th tl qh ql rh rl : Int32} {ah al : Nat → Int32}
theorem xw_add {a b c d : Int32} (h : ∀ o p, wn_j o p = wn_j a b + wn_j c d → post (o, p, th, tl, qh, ql, rh, rl, ah, al)) : wpX_add post (oh, ol, th, tl, qh, ql, rh, rl, ah, al) a b c d := by
  have ha := wn_lt a
  have hb := wn_lt b
  have hc := wn_lt c
  have hd := wn_lt d
  intro x5 e5
  subst e5
  refine xw_lower (fun z => br_t rfl (h _ _ (wn_jeq ?_))) (fun z => br_f (by decide) (h _ _ (wn_jeq ?_)))
  · rw [wn_add] at z
    rw [uN_add, wn_ju, wn_ju, wn_add, wn_add]
    omega
  · rw [wn_add] at z
    rw [uN_add, wn_ju, wn_ju, wn_add, wn_add, wn_add, wn_u1]
    omega
theorem xw_sub {a b c d : Int32} (h : ∀ o p, wn_j o p = wn_j a b - wn_j c d → post (o, p, th, tl, qh, ql, rh, rl, ah, al)) : wpX_subtract post (oh, ol, th, tl, qh, ql, rh, rl, ah, al) a b c d := by
  have ha := wn_lt a
  have hb := wn_lt b
  have hc := wn_lt c
  have hd := wn_lt d
  unfold wpX_subtract
  refine xw_lower (fun z => br_t rfl (h _ _ (wn_jeq ?_))) (fun z => br_f (by decide) (h _ _ (wn_jeq ?_)))
  · rw [uN_sub, wn_ju, wn_ju, wn_sub, wn_sub]
    omega
  · rw [uN_sub, wn_ju, wn_ju, wn_sub, wn_sub, wn_sub, wn_u1]
    omega
theorem wn_b16 {a b : Nat} (ha : a < 65536) (hb : b < 65536) : a * b ≤ 4294836225 := Nat.mul_le_mul (show a ≤ 65535 by omega) (show b ≤ 65535 by omega)
theorem wn_b32 {a b : Nat} (ha : a < 4294967296) (hb : b < 4294967296) : a * b ≤ 18446744065119617025 := Nat.mul_le_mul (show a ≤ 4294967295 by omega) (show b ≤ 4294967295 by omega)
theorem wn_exp (k a b c d : Nat) : (a * k + b) * (c * k + d) = (a * c) * (k * k) + (a * d + b * c) * k + b * d := by
  grind
theorem wn_exp32 (a b c d : Nat) : (a * 4294967296 + b) * (c * 4294967296 + d) = (a * c) * 18446744073709551616 + (a * d + b * c) * 4294967296 + b * d := wn_exp 4294967296 a b c d
theorem wn_mh (a b : Nat) (ha : a < 4294967296) (hb : b < 4294967296) :
    ((a / 65536 * (b / 65536) % 4294967296 + (a / 65536 * (b % 65536) % 4294967296 + a % 65536 * (b % 65536) % 4294967296 / 65536) % 4294967296 / 65536) % 4294967296
      + (a % 65536 * (b / 65536) % 4294967296 + (a / 65536 * (b % 65536) % 4294967296 + a % 65536 * (b % 65536) % 4294967296 / 65536) % 4294967296 % 65536) % 4294967296 / 65536) % 4294967296 * 4294967296
    + ((a % 65536 * (b / 65536) % 4294967296 + (a / 65536 * (b % 65536) % 4294967296 + a % 65536 * (b % 65536) % 4294967296 / 65536) % 4294967296 % 65536) % 4294967296 * 65536 % 4294967296
      + a % 65536 * (b % 65536) % 4294967296 % 65536) = a * b := by
  have e1 : a = a / 65536 * 65536 + a % 65536 := by omega
  have e2 : b = b / 65536 * 65536 + b % 65536 := by omega
  have e3 := wn_exp 65536 (a / 65536) (a % 65536) (b / 65536) (b % 65536)
  rw [← e1, ← e2] at e3
  have h1 := wn_b16 (show a / 65536 < 65536 by omega) (show b / 65536 < 65536 by omega)
  have h2 := wn_b16 (show a / 65536 < 65536 by omega) (show b % 65536 < 65536 by omega)
  have h3 := wn_b16 (show a % 65536 < 65536 by omega) (show b / 65536 < 65536 by omega)
  have h4 := wn_b16 (show a % 65536 < 65536 by omega) (show b % 65536 < 65536 by omega)
  rw [e3]
  generalize a / 65536 * (b / 65536) = S at *
  generalize a / 65536 * (b % 65536) = Q at *
  generalize a % 65536 * (b / 65536) = R at *
  generalize a % 65536 * (b % 65536) = P at *
  clear e1 e2 e3 ha hb
  omega
theorem xw_mulH {a b : Int32} (h : ∀ o p, uN (wn_j o p) = wn_u a * wn_u b → post (o, p, th, tl, qh, ql, rh, rl, ah, al)) : wpX_multiplyHalves post (oh, ol, th, tl, qh, ql, rh, rl, ah, al) a b := by
  intro x3 e3 x4 e4 x5 e5 x6 e6 x7 e7 x8 e8 x9 e9
  refine h _ _ ?_
  have f3 : wn_u x3 = wn_u a % 65536 := by rw [e3, wn_m16]
  have f4 : wn_u x4 = wn_u a / 65536 := by rw [e4, wn_s16]
  have f5 : wn_u x5 = wn_u b % 65536 := by rw [e5, wn_m16]
  have f6 : wn_u x6 = wn_u b / 65536 := by rw [e6, wn_s16]
  have f7 : wn_u x7 = wn_u a % 65536 * (wn_u b % 65536) % 4294967296 := by rw [e7, wn_mul, f3, f5]
  have f8 : wn_u x8 = (wn_u a / 65536 * (wn_u b % 65536) % 4294967296 + wn_u x7 / 65536) % 4294967296 := by rw [e8, wn_add, wn_mul, wn_s16, f4, f5]
  have f9 : wn_u x9 = (wn_u a % 65536 * (wn_u b / 65536) % 4294967296 + wn_u x8 % 65536) % 4294967296 := by rw [e9, wn_add, wn_mul, wn_m16, f3, f6]
  rw [wn_ju, wn_or16 (by rw [wn_m16]; omega), wn_m16, wn_add, wn_add, wn_mul, wn_s16, wn_s16, f4, f6, f9, f8, f7]
  exact wn_mh _ _ (wn_lt a) (wn_lt b)
theorem wn_mp1 {P h l c H L : Nat} (e : h * 4294967296 + l = P) (f : H * 4294967296 + L = (h * 4294967296 + l + c) % 18446744073709551616) (g : P + c < 18446744073709551616) : H * 4294967296 + L = P + c := by
  rw [e] at f
  rw [f]
  exact Nat.mod_eq_of_lt g
theorem wn_mp {P0 P1 P2 P3 h0 p0 h1 l1 h2 l2 h3 l3 h4 l4 h5 l5 h6 l6 h7 l7 : Nat} (e0 : h0 * 4294967296 + p0 = P0) (e1 : h1 * 4294967296 + l1 = P1) (e3 : h3 * 4294967296 + l3 = P2) (e5 : h5 * 4294967296 + l5 = P3)
    (f2 : h2 * 4294967296 + l2 = (h1 * 4294967296 + l1 + h0) % 18446744073709551616)
    (f4 : h4 * 4294967296 + l4 = (h3 * 4294967296 + l3 + l2) % 18446744073709551616)
    (f6 : h6 * 4294967296 + l6 = (h5 * 4294967296 + l5 + h2) % 18446744073709551616)
    (f7 : h7 * 4294967296 + l7 = (h6 * 4294967296 + l6 + h4) % 18446744073709551616)
    (g1 : P1 ≤ 18446744065119617025) (g2 : P2 ≤ 18446744065119617025) (g3 : P3 ≤ 18446744065119617025)
    (k0 : h0 < 4294967296) (k2 : h2 < 4294967296) (kl : l2 < 4294967296) (k4 : h4 < 4294967296) :
    (h7 * 4294967296 + l7) * 18446744073709551616 + (l4 * 4294967296 + p0) = P3 * 18446744073709551616 + (P1 + P2) * 4294967296 + P0 := by
  have m2 := wn_mp1 e1 f2 (by omega)
  have m4 := wn_mp1 e3 f4 (by omega)
  have m6 := wn_mp1 e5 f6 (by omega)
  have m7 := wn_mp1 m6 f7 (by omega)
  clear f2 f4 f6 f7 e1 e3 e5 g1 g2 g3 k0 k2 kl k4 m6
  rw [m7]
  have key : ∀ K : Nat, h0 * K + p0 = P0 → h2 * K + l2 = P1 + h0 → h4 * K + l4 = P2 + l2 → (P3 + h2 + h4) * (K * K) + (l4 * K + p0) = P3 * (K * K) + (P1 + P2) * K + P0 := by
    intro K a b c
    grind
  exact key 4294967296 e0 m2 m4
theorem xw_mulP {a b c d : Int32} (h : ∀ o p s t, uN (wn_j s t) * 18446744073709551616 + uN (wn_j o p) = uN (wn_j a b) * uN (wn_j c d) → post (o, p, s, t, qh, ql, rh, rl, ah, al)) : wpX_multiplyPairs post (oh, ol, th, tl, qh, ql, rh, rl, ah, al) a b c d := by
  unfold wpX_multiplyPairs
  refine xw_mulH fun h0 p0 e0 => ?_
  refine xw_mulH fun h1 l1 e1 => ?_
  refine xw_add fun h2 l2 e2 => ?_
  refine xw_mulH fun h3 l3 e3 => ?_
  refine xw_add fun h4 l4 e4 => ?_
  refine xw_mulH fun h5 l5 e5 => ?_
  refine xw_add fun h6 l6 e6 => ?_
  refine xw_add fun h7 l7 e7 => ?_
  refine h _ _ _ _ ?_
  have f2 := congrArg uN e2
  have f4 := congrArg uN e4
  have f6 := congrArg uN e6
  have f7 := congrArg uN e7
  clear e2 e4 e6 e7 h
  rw [uN_add, wn_ju, wn_ju, wn_ju, wn_u0, Nat.zero_mul, Nat.zero_add] at f2 f4 f6 f7
  rw [wn_ju] at e0 e1 e3 e5
  rw [wn_ju a b, wn_ju c d, wn_exp32, wn_ju, wn_ju]
  exact wn_mp e0 e1 e3 e5 f2 f4 f6 f7 (wn_b32 (wn_lt a) (wn_lt d)) (wn_b32 (wn_lt b) (wn_lt c)) (wn_b32 (wn_lt a) (wn_lt c)) (wn_lt _) (wn_lt _) (wn_lt _) (wn_lt _)
end
end
section
/-! ===== the component: shifts, by bits ===== -/
theorem wn_32n {n : Nat} (h : n ≤ 32) : (32 : Int32) - nI n = nI (32 - n) := pk_sub (a := 32) h
theorem wn_n32 {n : Nat} (h : 32 ≤ n) : nI n - (32 : Int32) = nI (n - 32) := pk_sub (b := 32) h
theorem wn_64n {n : Nat} (h : n ≤ 64) : (64 : Int32) - nI n = nI (64 - n) := pk_sub (a := 64) h
theorem wn_63n {n : Nat} (h : n ≤ 63) : (63 : Int32) - nI n = nI (63 - n) := pk_sub (a := 63) h
theorem wn_31n {n : Nat} (h : n ≤ 31) : (31 : Int32) - nI n = nI (31 - n) := pk_sub (a := 31) h
theorem wn_shl0 (x : Int64) : x <<< ((nI 0).toInt64 &&& 63) = x := wn_bext fun i hi => by
  rw [wn_bshl 0 (by decide) x hi]
  simp
theorem wn_shr0 (x : Int64) : (x.toUInt64 >>> ((nI 0).toInt64.toUInt64 &&& Int64.toUInt64 63)).toInt64 = x := wn_bext fun i hi => by
  rw [wn_bshr 0 (by decide) x i, Nat.zero_add]
theorem wn_sar0 (x : Int64) : x >>> ((nI 0).toInt64 &&& 63) = x := wn_bext fun i hi => by
  rw [wn_bsar 0 (by decide) x hi, Nat.zero_add, if_pos hi]
theorem wn_shlA (a b : Int32) {n : Nat} (h0 : 0 < n) (h1 : n < 32) : wn_j ((a <<< (nI n &&& 31)) ||| ((b.toUInt32 >>> ((nI (32 - n)).toUInt32 &&& Int32.toUInt32 31)).toInt32)) (b <<< (nI n &&& 31)) = wn_j a b <<< ((nI n).toInt64 &&& 63) := wn_bext fun i hi => by
  rw [wn_bshl n (by omega) _ hi]
  rcases Nat.lt_or_ge i 32 with z | z
  · rw [wn_bjl z, wn_bjl (show i - n < 32 by omega), b_shl n h1 b z]
  · rw [wn_bjh z, b_or, b_shl n h1 a (by omega), b_ushr (32 - n) (by omega), decide_eq_true (show n ≤ i by omega), Bool.true_and]
    rcases Nat.lt_or_ge (i - n) 32 with w | w
    · rw [wn_bjl w, decide_eq_false (show ¬ n ≤ i - 32 by omega), Bool.false_and, Bool.false_or]
      exact congrArg _ (by omega)
    · rw [wn_bjh w, decide_eq_true (show n ≤ i - 32 by omega), Bool.true_and, b_big (x := b) (show 32 ≤ 32 - n + (i - 32) by omega), Bool.or_false]
      exact congrArg _ (by omega)
theorem wn_shlB (a b : Int32) {n : Nat} (h0 : 32 ≤ n) (h1 : n < 64) : wn_j (b <<< (nI (n - 32) &&& 31)) 0 = wn_j a b <<< ((nI n).toInt64 &&& 63) := wn_bext fun i hi => by
  rw [wn_bshl n (by omega) _ hi]
  rcases Nat.lt_or_ge i 32 with z | z
  · rw [wn_bjl z, b_0, decide_eq_false (show ¬ n ≤ i by omega), Bool.false_and]
  · rw [wn_bjh z, b_shl (n - 32) (by omega) b (by omega)]
    rcases Nat.lt_or_ge i n with w | w
    · rw [decide_eq_false (show ¬ n ≤ i by omega), decide_eq_false (show ¬ n - 32 ≤ i - 32 by omega), Bool.false_and, Bool.false_and]
    · rw [decide_eq_true (show n ≤ i by omega), decide_eq_true (show n - 32 ≤ i - 32 by omega), wn_bjl (show i - n < 32 by omega), Bool.true_and, Bool.true_and]
      exact congrArg _ (by omega)
theorem wn_shrA (a b : Int32) {n : Nat} (h0 : 0 < n) (h1 : n < 32) : wn_j ((a.toUInt32 >>> ((nI n).toUInt32 &&& Int32.toUInt32 31)).toInt32) (((b.toUInt32 >>> ((nI n).toUInt32 &&& Int32.toUInt32 31)).toInt32) ||| (a <<< (nI (32 - n) &&& 31))) = ((wn_j a b).toUInt64 >>> ((nI n).toInt64.toUInt64 &&& Int64.toUInt64 63)).toInt64 := wn_bext fun i hi => by
  rw [wn_bshr n (by omega)]
  rcases Nat.lt_or_ge i 32 with z | z
  · rw [wn_bjl z, b_or, b_ushr n h1, b_shl (32 - n) (by omega) a z]
    rcases Nat.lt_or_ge (n + i) 32 with w | w
    · rw [wn_bjl w, decide_eq_false (show ¬ 32 - n ≤ i by omega), Bool.false_and, Bool.or_false]
    · rw [wn_bjh w, b_big (x := b) w, decide_eq_true (show 32 - n ≤ i by omega), Bool.true_and, Bool.false_or]
      exact congrArg _ (by omega)
  · rw [wn_bjh z, wn_bjh (show 32 ≤ n + i by omega), b_ushr n h1]
    exact congrArg _ (by omega)
theorem wn_shrB (a b : Int32) {n : Nat} (h0 : 32 ≤ n) (h1 : n < 64) : wn_j 0 ((a.toUInt32 >>> ((nI (n - 32)).toUInt32 &&& Int32.toUInt32 31)).toInt32) = ((wn_j a b).toUInt64 >>> ((nI n).toInt64.toUInt64 &&& Int64.toUInt64 63)).toInt64 := wn_bext fun i hi => by
  rw [wn_bshr n (by omega), wn_bjh (show 32 ≤ n + i by omega)]
  rcases Nat.lt_or_ge i 32 with z | z
  · rw [wn_bjl z, b_ushr (n - 32) (by omega)]
    exact congrArg _ (by omega)
  · rw [wn_bjh z, b_0, b_big (x := a) (show 32 ≤ n + i - 32 by omega)]
theorem wn_sarA (a b : Int32) {n : Nat} (h0 : 0 < n) (h1 : n < 32) : wn_j (a >>> (nI n &&& 31)) (((b.toUInt32 >>> ((nI n).toUInt32 &&& Int32.toUInt32 31)).toInt32) ||| (a <<< (nI (32 - n) &&& 31))) = wn_j a b >>> ((nI n).toInt64 &&& 63) := wn_bext fun i hi => by
  rw [wn_bsar n (by omega) _ hi]
  rcases Nat.lt_or_ge i 32 with z | z
  · rw [wn_bjl z, b_or, b_ushr n h1, b_shl (32 - n) (by omega) a z, if_pos (show n + i < 64 by omega)]
    rcases Nat.lt_or_ge (n + i) 32 with w | w
    · rw [wn_bjl w, decide_eq_false (show ¬ 32 - n ≤ i by omega), Bool.false_and, Bool.or_false]
    · rw [wn_bjh w, b_big (x := b) w, decide_eq_true (show 32 - n ≤ i by omega), Bool.true_and, Bool.false_or]
      exact congrArg _ (by omega)
  · rw [wn_bjh z, b_sshr n h1 a (show i - 32 < 32 by omega), wn_bjh (show 32 ≤ 63 by omega)]
    rcases Nat.lt_or_ge (n + i) 64 with w | w
    · rw [if_pos w, if_pos (show n + (i - 32) < 32 by omega), wn_bjh (show 32 ≤ n + i by omega)]
      exact congrArg _ (by omega)
    · rw [if_neg (show ¬ n + i < 64 by omega), if_neg (show ¬ n + (i - 32) < 32 by omega)]
theorem wn_sarB (a b : Int32) {n : Nat} (h0 : 32 ≤ n) (h1 : n < 64) : wn_j (a >>> ((31 : Int32) &&& 31)) (a >>> (nI (n - 32) &&& 31)) = wn_j a b >>> ((nI n).toInt64 &&& 63) := wn_bext fun i hi => by
  rw [wn_bsar n (by omega) _ hi, wn_bjh (show 32 ≤ 63 by omega)]
  rcases Nat.lt_or_ge i 32 with z | z
  · rw [wn_bjl z, b_sshr (n - 32) (by omega) a z]
    rcases Nat.lt_or_ge (n + i) 64 with w | w
    · rw [if_pos w, if_pos (show n - 32 + i < 32 by omega), wn_bjh (show 32 ≤ n + i by omega)]
      exact congrArg _ (by omega)
    · rw [if_neg (show ¬ n + i < 64 by omega), if_neg (show ¬ n - 32 + i < 32 by omega)]
  · have e : bt (a >>> ((31 : Int32) &&& 31)) (i - 32) = if 31 + (i - 32) < 32 then bt a (31 + (i - 32)) else bt a 31 := b_sshr 31 (by decide) a (show i - 32 < 32 by omega)
    rw [wn_bjh z, e, if_neg (show ¬ n + i < 64 by omega)]
    rcases Nat.lt_or_ge (31 + (i - 32)) 32 with w | w
    · rw [if_pos w]
      exact congrArg _ (by omega)
    · rw [if_neg (show ¬ 31 + (i - 32) < 32 by omega)]

section
variable {post : SX → Prop} {oh ol th tl qh ql rh rl : Int32} {ah al : Nat → Int32}
theorem xw_shl {a b : Int32} {n : Nat} (hn : n < 64) (h : ∀ o p, wn_j o p = wn_j a b <<< ((nI n).toInt64 &&& 63) → post (o, p, th, tl, qh, ql, rh, rl, ah, al)) : wpX_shiftLeft post (oh, ol, th, tl, qh, ql, rh, rl, ah, al) a b (nI n) := by
  by_cases h0 : n = 0
  · subst h0
    exact br_t nI_0 (h _ _ (wn_shl0 _).symm)
  · refine br_f (nI_ne0 (by omega) (by omega)) ?_
    by_cases h1 : n < 32
    · refine br_f (nI_ge (b := 32) h1 (by decide)) (h _ _ ?_)
      rw [wn_32n (by omega)]
      exact wn_shlA a b (by omega) h1
    · refine br_t (nI_le (a := 32) (by omega) (by omega)) (h _ _ ?_)
      rw [wn_n32 (by omega)]
      exact wn_shlB a b (by omega) hn
theorem xw_shr {a b : Int32} {n : Nat} (hn : n < 64) (h : ∀ o p, wn_j o p = ((wn_j a b).toUInt64 >>> ((nI n).toInt64.toUInt64 &&& Int64.toUInt64 63)).toInt64 → post (o, p, th, tl, qh, ql, rh, rl, ah, al)) : wpX_shiftRight post (oh, ol, th, tl, qh, ql, rh, rl, ah, al) a b (nI n) := by
  by_cases h0 : n = 0
  · subst h0
    exact br_t nI_0 (h _ _ (wn_shr0 _).symm)
  · refine br_f (nI_ne0 (by omega) (by omega)) ?_
    by_cases h1 : n < 32
    · refine br_f (nI_ge (b := 32) h1 (by decide)) (h _ _ ?_)
      rw [wn_32n (by omega)]
      exact wn_shrA a b (by omega) h1
    · refine br_t (nI_le (a := 32) (by omega) (by omega)) (h _ _ ?_)
      rw [wn_n32 (by omega)]
      exact wn_shrB a b (by omega) hn
theorem xw_sar {a b : Int32} {n : Nat} (hn : n < 64) (h : ∀ o p, wn_j o p = wn_j a b >>> ((nI n).toInt64 &&& 63) → post (o, p, th, tl, qh, ql, rh, rl, ah, al)) : wpX_shiftSigned post (oh, ol, th, tl, qh, ql, rh, rl, ah, al) a b (nI n) := by
  by_cases h0 : n = 0
  · subst h0
    exact br_t nI_0 (h _ _ (wn_sar0 _).symm)
  · refine br_f (nI_ne0 (by omega) (by omega)) ?_
    by_cases h1 : n < 32
    · refine br_f (nI_ge (b := 32) h1 (by decide)) (h _ _ ?_)
      rw [wn_32n (by omega)]
      exact wn_sarA a b (by omega) h1
    · refine br_t (nI_le (a := 32) (by omega) (by omega)) (h _ _ ?_)
      rw [wn_n32 (by omega)]
      exact wn_sarB a b (by omega) hn
/-- the turn's value, as the reference has it -/
def wn_turn (x : Int64) (n : Nat) : Int64 := if n = 0 then x else (x <<< ((nI n).toInt64 &&& 63)) ||| ((x.toUInt64 >>> ((nI (64 - n)).toInt64.toUInt64 &&& Int64.toUInt64 63)).toInt64)
theorem xw_turn {a b : Int32} {n : Nat} (hn : n < 64) (h : ∀ o p, wn_j o p = wn_turn (wn_j a b) n → post (o, p, th, tl, qh, ql, rh, rl, ah, al)) : wpX_turnLeft post (oh, ol, th, tl, qh, ql, rh, rl, ah, al) a b (nI n) := by
  unfold wpX_turnLeft
  refine xw_shl hn fun o p e => ?_
  by_cases h0 : n = 0
  · subst h0
    refine br_t (Int32.le_refl _) (h _ _ ?_)
    rw [e, wn_shl0]
    exact (if_pos rfl).symm
  · refine br_f (nI_nle (by omega) (by omega)) ?_
    rw [wn_64n (by omega)]
    refine xw_shr (by omega) fun o2 p2 e2 => h _ _ ?_
    rw [wn_jor, e, e2]
    exact (if_neg h0).symm
end

/-! leading zeros -/
def wn_lz (W : Nat) (f : Nat → Bool) (r : Nat) : Prop := r ≤ W ∧ (∀ j, j < r → f (W - 1 - j) = false) ∧ (r < W → f (W - 1 - r) = true)
theorem wn_lzu {W : Nat} {f : Nat → Bool} {r s : Nat} (hr : wn_lz W f r) (hs : wn_lz W f s) : r = s := by
  obtain ⟨r1, r2, r3⟩ := hr
  obtain ⟨s1, s2, s3⟩ := hs
  rcases Nat.lt_trichotomy r s with h | h | h
  · have e := r3 (by omega)
    rw [s2 r h] at e
    exact nomatch e
  · exact h
  · have e := s3 (by omega)
    rw [r2 s h] at e
    exact nomatch e
theorem xw_lz2 {P : Int32 → Prop} {x : Int32} (h : ∀ r, wn_lz 32 (bt x) r → P (nI r)) : ∀ d j : Nat, j + d = 32 → (∀ i, i < j → bt x (31 - i) = false) → wX_leadingZeros_2 P x (d + 1) (nI j) := by
  intro d
  induction d with
  | zero =>
    intro j hj hb
    exact br_t (nI_le (a := 32) (by omega) (by omega)) (h j ⟨by omega, hb, fun z => absurd z (by omega)⟩)
  | succ d ih =>
    intro j hj hb
    refine br_f (nI_ge (b := 32) (by omega) (by decide)) ?_
    rw [wn_31n (by omega)]
    cases z : bt x (31 - j)
    · refine br_t ((wn_bt0 x (by omega)).mpr z) (nm_r (nI_1 j) (ih (j + 1) (by omega) fun i hi => ?_))
      rcases Nat.lt_or_ge i j with w | w
      · exact hb i w
      · have e : i = j := by omega
        rw [e]
        exact z
    · refine br_f (fun w => ?_) (h j ⟨by omega, hb, fun _ => z⟩)
      have e := (wn_bt0 x (by omega)).mp w
      rw [z] at e
      exact nomatch e
theorem xw_lz {P : Int32 → Prop} {x : Int32} (h : ∀ r, wn_lz 32 (bt x) r → P (nI r)) : wpX_leadingZeros P x :=
  ⟨33, xw_lz2 h 32 0 rfl (fun i hi => absurd hi (by omega))⟩
theorem xw_lzP {P : Int32 → Prop} {a b : Int32} (h : ∀ r, wn_lz 64 (wn_b (wn_j a b)) r → P (nI r)) : wpX_leadingZerosPair P a b := by
  unfold wpX_leadingZerosPair
  refine xw_lz fun r hr => xw_lz fun s hs => ?_
  obtain ⟨r1, r2, r3⟩ := hr
  obtain ⟨s1, s2, s3⟩ := hs
  by_cases z : r < 32
  · refine br_f (nI_ge (b := 32) z (by decide)) (h r ⟨by omega, fun j hj => ?_, fun _ => ?_⟩)
    · rw [wn_bjh (by omega), show 64 - 1 - j - 32 = 32 - 1 - j by omega]
      exact r2 j hj
    · rw [wn_bjh (by omega), show 64 - 1 - r - 32 = 32 - 1 - r by omega]
      exact r3 z
  · have e : (32 : Int32) + nI s = nI (32 + s) := nI_add 32 s
    refine br_t (nI_le (a := 32) (by omega) (by omega)) ?_
    rw [e]
    refine h (32 + s) ⟨by omega, fun j hj => ?_, fun w => ?_⟩
    · rcases Nat.lt_or_ge j 32 with y | y
      · rw [wn_bjh (by omega), show 64 - 1 - j - 32 = 32 - 1 - j by omega]
        exact r2 j (by omega)
      · rw [wn_bjl (by omega), show 64 - 1 - j = 32 - 1 - (j - 32) by omega]
        exact s2 (j - 32) (by omega)
    · rw [wn_bjl (by omega), show 64 - 1 - (32 + s) = 32 - 1 - s by omega]
      exact s3 (by omega)
end
section
/-! ===== the component: division ===== -/
/-- one step of the long division: rest R, quotient Q, divisor D, the next bit b -/
def wn_ds (Q R D b Q' R' : Nat) : Prop := (2 * R + b < D ∧ Q' = 2 * Q ∧ R' = 2 * R + b) ∨ (D ≤ 2 * R + b ∧ Q' = 2 * Q + 1 ∧ R' = 2 * R + b - D)
theorem wn_dsN {Q R D b Q' R' M : Nat} (c : wn_ds Q R D b Q' R') (hb : b < 2) (hR : R < D) (hM : Q * D + R = M) : R' < D ∧ Q' * D + R' = 2 * M + b := by
  rcases c with ⟨c1, c2, c3⟩ | ⟨c1, c2, c3⟩
  · subst c2 c3
    refine ⟨c1, ?_⟩
    have e : 2 * Q * D = 2 * (Q * D) := Nat.mul_assoc 2 Q D
    rw [e]
    omega
  · subst c2 c3
    have e : (2 * Q + 1) * D = 2 * (Q * D) + D := by rw [Nat.add_mul, Nat.one_mul, Nat.mul_assoc]
    refine ⟨by omega, ?_⟩
    rw [e]
    omega
theorem wn_lowbit {N l i : Nat} (h : N % 4294967296 = l) (hi : i < 32) : l / 2 ^ i % 2 = N / 2 ^ i % 2 := by
  rw [← Nat.toNat_testBit, ← Nat.toNat_testBit, ← h]
  have e := Nat.testBit_mod_two_pow N 32 i
  rw [decide_eq_true hi, Bool.true_and] at e
  exact congrArg Bool.toNat e
theorem wn_half (N i : Nat) : N / 2 ^ i = 2 * (N / 2 ^ (i + 1)) + N / 2 ^ i % 2 := by
  rw [Nat.pow_succ, ← Nat.div_div_eq_div_mul]
  generalize N / 2 ^ i = m
  omega
theorem wn_qlt {Q R D N i : Nat} (hR : R < D) (hM : Q * D + R = N / 2 ^ (i + 1)) (hN : N < 18446744073709551616) : Q < 9223372036854775808 := by
  have e : N / 2 ^ (i + 1) = N / 2 / 2 ^ i := by rw [Nat.div_div_eq_div_mul, Nat.pow_succ, Nat.mul_comm]
  have f : N / 2 / 2 ^ i ≤ N / 2 := Nat.div_le_self _ _
  have g : Q * 1 ≤ Q * D := Nat.mul_le_mul (Nat.le_refl Q) (by omega)
  omega

section
variable {post : SX → Prop} {th tl : Int32} {ah al : Nat → Int32}
theorem xw_ds97 {oh ol qh ql rh rl : Int32} {d1 d2 : Int32} (h : ∀ r1 r2, wn_j r1 r2 = wn_j rh rl - wn_j d1 d2 → post (r1, r2, th, tl, qh, ql ||| 1, r1, r2, ah, al)) : wX_divideStep_97 post d1 d2 oh ol th tl qh ql rh rl ah al := by
  unfold wX_divideStep_97
  refine xw_sub fun o p e => ?_
  exact nm_e (h o p e)
theorem xw_ds12 {oh ol qh ql rh rl : Int32} {b d1 d2 z : Int32} (hb : wn_u b < 2) (hR : uN (wn_j rh rl) < uN (wn_j d1 d2)) (hQ : uN (wn_j qh ql) < 9223372036854775808)
    (hz : (z = 0 ∧ wn_u rh < 2147483648) ∨ (z = 1 ∧ 2147483648 ≤ wn_u rh))
    (h : ∀ o p q1 q2 r1 r2, wn_ds (uN (wn_j qh ql)) (uN (wn_j rh rl)) (uN (wn_j d1 d2)) (wn_u b) (uN (wn_j q1 q2)) (uN (wn_j r1 r2)) → post (o, p, th, tl, q1, q2, r1, r2, ah, al)) :
    wX_divideStep_12 post b d1 d2 z oh ol th tl qh ql rh rl ah al := by
  intro R1 e1 R2 e2 Q1 e3 Q2 e4
  have hrh := wn_lt rh
  have hrl := wn_lt rl
  have hqh := wn_lt qh
  have hql := wn_lt ql
  have hD := uN_lt (wn_j d1 d2)
  have f1 : wn_u R1 = wn_u rh * 2 % 4294967296 + wn_u rl / 2147483648 := by
    rw [e1, wn_or1 (by rw [wn_s31]; omega), wn_s31]
  have f2 : wn_u R2 = wn_u rl * 2 % 4294967296 + wn_u b := by
    rw [e2, wn_or1 hb]
  have f3 : wn_u Q1 = wn_u qh * 2 % 4294967296 + wn_u ql / 2147483648 := by
    rw [e3, wn_or1 (by rw [wn_s31]; omega), wn_s31]
  have f4 : wn_u Q2 = wn_u ql * 2 % 4294967296 := by rw [e4, wn_l1]
  have f5 : wn_u (Q2 ||| 1) = wn_u ql * 2 % 4294967296 + 1 := by
    rw [e4, wn_or1 (by rw [wn_u1]; omega), wn_u1]
  have gR : uN (wn_j R1 R2) = (2 * uN (wn_j rh rl) + wn_u b) % 18446744073709551616 := by
    rw [wn_ju, wn_ju, f1, f2]
    clear h hR hQ hz hD f3 f4 f5
    omega
  have gQ : uN (wn_j Q1 Q2) = 2 * uN (wn_j qh ql) := by
    rw [wn_ju] at hQ
    rw [wn_ju, wn_ju, f3, f4]
    clear h hR hz hD gR f1 f2 f5
    omega
  have gQ1 : uN (wn_j Q1 (Q2 ||| 1)) = 2 * uN (wn_j qh ql) + 1 := by
    rw [wn_ju] at hQ
    rw [wn_ju, wn_ju, f3, f5]
    clear h hR hz hD gR gQ f1 f2 f4
    omega
  have gz : (z = 0 ∧ 2 * uN (wn_j rh rl) + wn_u b < 18446744073709551616) ∨ (z = 1 ∧ 18446744073709551616 ≤ 2 * uN (wn_j rh rl) + wn_u b) := by
    rw [wn_ju]
    clear h hR hQ hD gR gQ gQ1 f1 f2 f3 f4 f5
    rcases hz with ⟨w, hz⟩ | ⟨w, hz⟩
    · exact Or.inl ⟨w, by omega⟩
    · exact Or.inr ⟨w, by omega⟩
  clear hz f1 f2 f3 f4 f5 hrh hrl hqh hql e1 e2 e3 e4
  have yes : uN (wn_j d1 d2) ≤ 2 * uN (wn_j rh rl) + wn_u b → wX_divideStep_97 post d1 d2 oh ol th tl Q1 Q2 R1 R2 ah al := fun w => by
    refine xw_ds97 fun r1 r2 e => h _ _ _ _ _ _ (Or.inr ⟨w, gQ1, ?_⟩)
    rw [e, uN_sub, gR]
    clear h gQ gQ1 gz gR
    omega
  refine xw_lowerPair (fun w => ?_) (fun w => ?_)
  · rw [gR] at w
    have w2 : uN (wn_j d1 d2) ≤ 2 * uN (wn_j rh rl) + wn_u b := by
      clear yes h gQ gQ1
      omega
    rcases gz with ⟨k, gz⟩ | ⟨k, gz⟩
    · subst k
      exact br_t rfl (br_t rfl (yes w2))
    · subst k
      exact br_f (by decide) (yes w2)
  · rw [gR] at w
    rcases gz with ⟨k, gz⟩ | ⟨k, gz⟩
    · subst k
      refine br_t rfl (br_f (by decide) (h _ _ _ _ _ _ (Or.inl ⟨?_, gQ, ?_⟩)))
      · clear yes h gQ gQ1
        omega
      · rw [gR]
        clear yes h gQ gQ1
        omega
    · subst k
      refine br_f (by decide) (yes ?_)
      clear yes h gQ gQ1
      omega
theorem xw_divStep {oh ol qh ql rh rl : Int32} {b d1 d2 : Int32} (hb : wn_u b < 2) (hR : uN (wn_j rh rl) < uN (wn_j d1 d2)) (hQ : uN (wn_j qh ql) < 9223372036854775808)
    (h : ∀ o p q1 q2 r1 r2, wn_ds (uN (wn_j qh ql)) (uN (wn_j rh rl)) (uN (wn_j d1 d2)) (wn_u b) (uN (wn_j q1 q2)) (uN (wn_j r1 r2)) → post (o, p, th, tl, q1, q2, r1, r2, ah, al)) :
    wpX_divideStep post (oh, ol, th, tl, qh, ql, rh, rl, ah, al) b d1 d2 :=
  br_c (fun z => xw_ds12 hb hR hQ (Or.inl ⟨rfl, (wn_nn _).mp z⟩) h)
    (fun z => xw_ds12 hb hR hQ (Or.inr ⟨rfl, Nat.le_of_not_lt fun w => z ((wn_nn _).mpr w)⟩) h)
theorem xw_du82 {nl d1 d2 : Int32} {N : Nat} (hN : N < 18446744073709551616) (hl : N % 4294967296 = wn_u nl)
    (h : ∀ o p q1 q2 r1 r2, uN (wn_j r1 r2) < uN (wn_j d1 d2) → uN (wn_j q1 q2) * uN (wn_j d1 d2) + uN (wn_j r1 r2) = N → post (o, p, th, tl, q1, q2, r1, r2, ah, al)) :
    ∀ (i : Nat) (oh ol qh ql rh rl x : Int32) (n : Nat), i ≤ 32 → i < n → x = nI i + (-1) → uN (wn_j rh rl) < uN (wn_j d1 d2) → uN (wn_j qh ql) * uN (wn_j d1 d2) + uN (wn_j rh rl) = N / 2 ^ i →
      wX_divideUnsigned_82 post nl d1 d2 n x oh ol th tl qh ql rh rl ah al := by
  intro i
  induction i with
  | zero =>
    intro oh ol qh ql rh rl x n hi hn hx hR hM
    obtain ⟨m, rfl⟩ : ∃ m, n = m + 1 := ⟨n - 1, by omega⟩
    rw [Nat.pow_zero, Nat.div_one] at hM
    subst hx
    exact br_t (by decide) (h _ _ _ _ _ _ hR hM)
  | succ i ih =>
    intro oh ol qh ql rh rl x n hi hn hx hR hM
    obtain ⟨m, rfl⟩ : ∃ m, n = m + 1 := ⟨n - 1, by omega⟩
    rw [pk_m1] at hx
    subst hx
    have eb := wn_bit nl (show i < 32 by omega)
    rw [wn_lowbit hl (by omega)] at eb
    have hb : N / 2 ^ i % 2 < 2 := Nat.mod_lt _ (by decide)
    refine br_f (nI_pos (by omega)) (xw_divStep (by rw [eb]; exact hb) hR (wn_qlt hR hM hN) fun o p q1 q2 r1 r2 c => ?_)
    rw [eb] at c
    obtain ⟨c1, c2⟩ := wn_dsN c hb hR hM
    rw [← wn_half] at c2
    exact fun y ey => ih o p q1 q2 r1 r2 y m (by omega) (by omega) ey c1 c2
theorem xw_du54 {nh nl d1 d2 : Int32}
    (h : ∀ o p q1 q2 r1 r2, uN (wn_j r1 r2) < uN (wn_j d1 d2) → uN (wn_j q1 q2) * uN (wn_j d1 d2) + uN (wn_j r1 r2) = uN (wn_j nh nl) → post (o, p, th, tl, q1, q2, r1, r2, ah, al)) :
    ∀ (i : Nat) (oh ol qh ql rh rl x : Int32) (n : Nat), i ≤ 32 → i < n → x = nI i + (-1) → uN (wn_j rh rl) < uN (wn_j d1 d2) → uN (wn_j qh ql) * uN (wn_j d1 d2) + uN (wn_j rh rl) = wn_u nh / 2 ^ i →
      wX_divideUnsigned_54 post nh nl d1 d2 n x oh ol th tl qh ql rh rl ah al := by
  have hnl := wn_lt nl
  have hnh := wn_lt nh
  intro i
  induction i with
  | zero =>
    intro oh ol qh ql rh rl x n hi hn hx hR hM
    obtain ⟨m, rfl⟩ : ∃ m, n = m + 1 := ⟨n - 1, by omega⟩
    rw [Nat.pow_zero, Nat.div_one] at hM
    subst hx
    have e1 : uN (wn_j nh nl) % 4294967296 = wn_u nl := by rw [wn_ju]; omega
    have e2 : uN (wn_j nh nl) / 2 ^ 32 = wn_u nh := by rw [wn_ju]; omega
    exact br_t (by decide) ⟨33, xw_du82 (uN_lt _) e1 h 32 oh ol qh ql rh rl 31 33 (by omega) (by omega) (by decide) hR (by rw [e2]; exact hM)⟩
  | succ i ih =>
    intro oh ol qh ql rh rl x n hi hn hx hR hM
    obtain ⟨m, rfl⟩ : ∃ m, n = m + 1 := ⟨n - 1, by omega⟩
    rw [pk_m1] at hx
    subst hx
    have eb := wn_bit nh (show i < 32 by omega)
    have hb : wn_u nh / 2 ^ i % 2 < 2 := Nat.mod_lt _ (by decide)
    refine br_f (nI_pos (by omega)) (xw_divStep (by rw [eb]; exact hb) hR (wn_qlt hR hM (by omega)) fun o p q1 q2 r1 r2 c => ?_)
    rw [eb] at c
    obtain ⟨c1, c2⟩ := wn_dsN c hb hR hM
    rw [← wn_half] at c2
    exact fun y ey => ih o p q1 q2 r1 r2 y m (by omega) (by omega) ey c1 c2
/-- the unsigned quotient as both sides give it -/
def wn_q (x y : Nat) : Nat := if y = 0 then 18446744073709551615 else x / y
theorem wn_q0 (x : Nat) : wn_q x 0 = 18446744073709551615 := if_pos rfl
theorem wn_qn {x y : Nat} (h : y ≠ 0) : wn_q x y = x / y := if_neg h
theorem xw_divU {oh ol qh ql rh rl : Int32} {a b c d : Int32}
    (h : ∀ o p q1 q2 r1 r2, uN (wn_j q1 q2) = wn_q (uN (wn_j a b)) (uN (wn_j c d)) → uN (wn_j r1 r2) = uN (wn_j a b) % uN (wn_j c d) → post (o, p, th, tl, q1, q2, r1, r2, ah, al)) :
    wpX_divideUnsigned post (oh, ol, th, tl, qh, ql, rh, rl, ah, al) a b c d := by
  have key : uN (wn_j c d) ≠ 0 → ∃ n54 : Nat, wX_divideUnsigned_54 post a b c d n54 31 oh ol th tl 0 0 0 0 ah al := fun hD => by
    refine ⟨33, xw_du54 (fun o p q1 q2 r1 r2 f1 f2 => h _ _ _ _ _ _ ?_ ?_) 32 oh ol 0 0 0 0 31 33 (by omega) (by omega) (by decide) ?_ ?_⟩
    · rw [wn_qn hD, ← f2, Nat.add_comm, Nat.add_mul_div_right _ _ (by omega), Nat.div_eq_of_lt f1, Nat.zero_add]
    · rw [← f2, Nat.add_comm, Nat.add_mul_mod_self_right, Nat.mod_eq_of_lt f1]
    · rw [wn_j00, uN_0]
      omega
    · have e : wn_u a / 2 ^ 32 = 0 := Nat.div_eq_of_lt (wn_lt a)
      rw [wn_j00, uN_0, Nat.zero_mul, e]
  by_cases hc : c = 0
  · by_cases hd : d = 0
    · refine br_t hc (br_t hd (h _ _ _ _ _ _ ?_ ?_))
      · rw [hc, hd, wn_j00, uN_0, wn_q0, wn_ju, wn_um]
      · rw [hc, hd, wn_j00, uN_0, Nat.mod_zero]
    · refine br_t hc (br_f hd (key fun e => hd (wn_inj ?_)))
      rw [wn_ju] at e
      rw [wn_u0]
      omega
  · refine br_f hc (key fun e => hc (wn_inj ?_))
    rw [wn_ju] at e
    rw [wn_u0]
    omega
/-- the magnitude -/
def wn_mg (x m : Int64) : Prop := (m = x ∧ uN x < 9223372036854775808) ∨ (m = 0 - x ∧ 9223372036854775808 ≤ uN x)
theorem xw_mag {oh ol qh ql rh rl : Int32} {a b : Int32} (h : ∀ o p, wn_mg (wn_j a b) (wn_j o p) → post (o, p, th, tl, qh, ql, rh, rl, ah, al)) : wpX_magnitude post (oh, ol, th, tl, qh, ql, rh, rl, ah, al) a b := by
  have hb := wn_lt b
  refine br_c (fun z => h _ _ (Or.inl ⟨rfl, ?_⟩)) (fun z => xw_sub fun o p e => h _ _ (Or.inr ⟨?_, ?_⟩))
  · have z2 := (wn_nn _).mp z
    rw [wn_ju]
    omega
  · rw [e, wn_j00]
  · have z2 : ¬ wn_u a < 2147483648 := fun w => z ((wn_nn _).mpr w)
    rw [wn_ju]
    omega
end

/-! signed division from the unsigned one -/
theorem wn_tb (z : Int64) : z.toInt = Int.bmod (uN z : Int) (2 ^ 64) := BitVec.toInt_eq_toNat_bmod _
theorem wn_tn (z : Int64) : (0 - z).toInt = Int.bmod (-(uN z : Int)) (2 ^ 64) := by
  rw [Int64.toInt_sub, wn_tb z, show (0 : Int64).toInt = 0 from by decide, Int.sub_bmod_bmod, Int.zero_sub]
theorem wn_mgp {x m : Int64} (h : wn_mg x m) : (x.toInt = (uN m : Int) ∧ x = m ∧ uN x < 9223372036854775808) ∨ (x.toInt = -(uN m : Int) ∧ x = 0 - m ∧ 9223372036854775808 ≤ uN x) := by
  have hx := uN_lt x
  rcases h with ⟨rfl, h⟩ | ⟨rfl, h⟩
  · refine Or.inl ⟨?_, rfl, h⟩
    rw [uN_int]
    omega
  · refine Or.inr ⟨?_, by grind, h⟩
    rw [uN_int, uN_sub, uN_0]
    omega
theorem wn_eucl {mx my q r : Int64} (hq : uN q = uN mx / uN my) (hr : uN r = uN mx % uN my) : mx = q * my + r := by
  have hx := uN_lt mx
  apply uN_inj
  have e : uN q * uN my + uN r = uN mx := by rw [hq, hr]; exact Nat.div_add_mod' _ _
  rw [uN_add, uN_mul]
  generalize uN q * uN my = t at *
  omega
theorem wn_sdiv {x y mx my q r : Int64} (hx : wn_mg x mx) (hy : wn_mg y my) (hq : uN q = uN mx / uN my) (hr : uN r = uN mx % uN my) :
    (uN x < 9223372036854775808 → uN y < 9223372036854775808 → q = x / y ∧ r = x - x / y * y)
    ∧ (uN x < 9223372036854775808 → 9223372036854775808 ≤ uN y → 0 - q = x / y ∧ r = x - x / y * y)
    ∧ (9223372036854775808 ≤ uN x → uN y < 9223372036854775808 → 0 - q = x / y ∧ 0 - r = x - x / y * y)
    ∧ (9223372036854775808 ≤ uN x → 9223372036854775808 ≤ uN y → q = x / y ∧ 0 - r = x - x / y * y) := by
  have e := wn_eucl hq hr
  have cq : ((uN mx : Int).tdiv (uN my : Int)) = (uN q : Int) := by
    rw [hq, Int.natCast_tdiv_eq_ediv]
    exact (Int.natCast_ediv _ _).symm
  rcases wn_mgp hx with ⟨x1, x2, x3⟩ | ⟨x1, x2, x3⟩
  · rcases wn_mgp hy with ⟨y1, y2, y3⟩ | ⟨y1, y2, y3⟩
    · have f : q = x / y := Int64.toInt_inj.mp (by rw [Int64.toInt_div, x1, y1, cq, ← wn_tb])
      refine ⟨fun _ _ => ⟨f, ?_⟩, fun _ w => absurd w (by omega), fun w _ => absurd w (by omega), fun w _ => absurd w (by omega)⟩
      rw [← f, x2, y2, e]
      grind
    · have f : 0 - q = x / y := Int64.toInt_inj.mp (by rw [Int64.toInt_div, x1, y1, Int.tdiv_neg, cq, ← wn_tn])
      refine ⟨fun _ w => absurd w (by omega), fun _ _ => ⟨f, ?_⟩, fun w _ => absurd w (by omega), fun w _ => absurd w (by omega)⟩
      rw [← f, x2, y2, e]
      grind
  · rcases wn_mgp hy with ⟨y1, y2, y3⟩ | ⟨y1, y2, y3⟩
    · have f : 0 - q = x / y := Int64.toInt_inj.mp (by rw [Int64.toInt_div, x1, y1, Int.neg_tdiv, cq, ← wn_tn])
      refine ⟨fun w _ => absurd w (by omega), fun w _ => absurd w (by omega), fun _ _ => ⟨f, ?_⟩, fun _ w => absurd w (by omega)⟩
      rw [← f, x2, y2, e]
      grind
    · have f : q = x / y := Int64.toInt_inj.mp (by rw [Int64.toInt_div, x1, y1, Int.neg_tdiv_neg, cq, ← wn_tb])
      refine ⟨fun w _ => absurd w (by omega), fun w _ => absurd w (by omega), fun _ w => absurd w (by omega), fun _ _ => ⟨f, ?_⟩⟩
      rw [← f, x2, y2, e]
      grind
theorem wn_jnn (a b : Int32) : (0 ≤ a → uN (wn_j a b) < 9223372036854775808) ∧ (¬ 0 ≤ a → 9223372036854775808 ≤ uN (wn_j a b)) := by
  have hb := wn_lt b
  rw [wn_ju]
  refine ⟨fun z => ?_, fun z => ?_⟩
  · have z2 := (wn_nn _).mp z
    omega
  · have z2 : ¬ wn_u a < 2147483648 := fun w => z ((wn_nn _).mpr w)
    omega

section
variable {post : SX → Prop} {th tl : Int32} {ah al : Nat → Int32}
theorem xw_ds18 {oh ol qh ql rh rl : Int32} {a b c d : Int32} (hD : uN (wn_j c d) ≠ 0)
    (h : ∀ o p q1 q2 r1 r2, wn_j q1 q2 = wn_j a b / wn_j c d → wn_j r1 r2 = wn_j a b - wn_j a b / wn_j c d * wn_j c d → post (o, p, th, tl, q1, q2, r1, r2, ah, al)) :
    wX_divideSigned_18 post a b c d oh ol th tl qh ql rh rl ah al := by
  unfold wX_divideSigned_18
  refine xw_mag fun o1 p1 m1 => ?_
  refine xw_mag fun o2 p2 m2 => ?_
  refine xw_divU fun o p q1 q2 r1 r2 f1 f2 => ?_
  have hm : uN (wn_j o2 p2) ≠ 0 := by
    have hd := uN_lt (wn_j c d)
    rcases m2 with ⟨e, w⟩ | ⟨e, w⟩
    · rw [e]; exact hD
    · rw [e, uN_sub, uN_0]; omega
  rw [wn_qn hm] at f1
  obtain ⟨k1, k2, k3, k4⟩ := wn_sdiv m1 m2 f1 f2
  obtain ⟨n1, n2⟩ := wn_jnn a b
  obtain ⟨n3, n4⟩ := wn_jnn c d
  by_cases za : 0 ≤ a
  · by_cases zc : 0 ≤ c
    · obtain ⟨g1, g2⟩ := k1 (n1 za) (n3 zc)
      exact br_t za (br_t zc (br_t rfl (br_t za (h _ _ _ _ _ _ g1 g2))))
    · obtain ⟨g1, g2⟩ := k2 (n1 za) (n4 zc)
      refine br_t za (br_f zc (br_f (by decide) ?_))
      refine xw_sub fun s t e => br_t za (h _ _ _ _ _ _ ?_ g2)
      rw [e, wn_j00]
      exact g1
  · by_cases zc : 0 ≤ c
    · obtain ⟨g1, g2⟩ := k3 (n2 za) (n3 zc)
      refine br_f za (br_t zc (br_f (by decide) ?_))
      refine xw_sub fun s t e => br_f za ?_
      refine xw_sub fun s2 t2 e2 => h _ _ _ _ _ _ ?_ ?_
      · rw [e, wn_j00]
        exact g1
      · rw [e2, wn_j00]
        exact g2
    · obtain ⟨g1, g2⟩ := k4 (n2 za) (n4 zc)
      refine br_f za (br_f zc (br_t rfl (br_f za ?_)))
      refine xw_sub fun s2 t2 e2 => h _ _ _ _ _ _ g1 ?_
      rw [e2, wn_j00]
      exact g2
/-- the signed quotient and rest as both sides give them -/
def wn_sq (x y : Int64) : Int64 := if y = 0 then -1 else x / y
def wn_sr (x y : Int64) : Int64 := if y = 0 then x else x - x / y * y
theorem xw_divS {oh ol qh ql rh rl : Int32} {a b c d : Int32}
    (h : ∀ o p q1 q2 r1 r2, wn_j q1 q2 = wn_sq (wn_j a b) (wn_j c d) → wn_j r1 r2 = wn_sr (wn_j a b) (wn_j c d) → post (o, p, th, tl, q1, q2, r1, r2, ah, al)) :
    wpX_divideSigned post (oh, ol, th, tl, qh, ql, rh, rl, ah, al) a b c d := by
  have key : uN (wn_j c d) ≠ 0 → wX_divideSigned_18 post a b c d oh ol th tl qh ql rh rl ah al := fun hD => by
    have hy : ¬ wn_j c d = 0 := fun e => hD (by rw [e, uN_0])
    exact xw_ds18 hD fun o p q1 q2 r1 r2 g1 g2 => h _ _ _ _ _ _ (g1.trans (if_neg hy).symm) (g2.trans (if_neg hy).symm)
  by_cases hc : c = 0
  · by_cases hd : d = 0
    · refine br_t hc (br_t hd ?_)
      refine xw_divU fun o p q1 q2 r1 r2 f1 f2 => h _ _ _ _ _ _ ?_ ?_
      · rw [wn_j00, uN_0, wn_q0] at f1
        rw [hc, hd, wn_j00]
        exact uN_inj f1
      · rw [wn_j00, uN_0, Nat.mod_zero] at f2
        rw [hc, hd, wn_j00]
        exact uN_inj f2
    · refine br_t hc (br_f hd (key fun e => hd (wn_inj ?_)))
      rw [wn_ju] at e
      rw [wn_u0]
      omega
  · refine br_f hc (key fun e => hc (wn_inj ?_))
    rw [wn_ju] at e
    rw [wn_u0]
    omega
end
end
section
/-! ===== the reference ===== -/
theorem yw_regN {P : Int32 → Prop} {v : SY} {x : Int32} (h : x < 0 ∨ nI 8 ≤ x) (p : P 0) : wpY_isRegister P v x := by
  by_cases z : x < 0
  · exact br_t z p
  · exact br_f z (br_t (h.resolve_left z) p)
theorem yw_regY {P : Int32 → Prop} {v : SY} {j : Nat} (h : j < 8) (p : P 1) : wpY_isRegister P v (nI j) :=
  br_f (nI_pos (by omega)) (br_f (nI_ge (b := 8) h (by decide)) p)
theorem yw_less {P : Int32 → Prop} {v : SY} {x y : Int64} (h0 : uN y ≤ uN x → P 0) (h1 : uN x < uN y → P 1) : wpY_lessUnsigned P v x y :=
  And.intro (fun z => h0 ((uN_le _ _).mp z)) (fun z => h1 (Nat.lt_of_not_le fun q => z ((uN_le _ _).mpr q)))
theorem wn_qh {X Y : Nat} (hY : 0 < Y) : X / 2 / Y * 2 * Y ≤ X ∧ X - X / 2 / Y * 2 * Y < 2 * Y ∧ X / Y = (if X - X / 2 / Y * 2 * Y < Y then X / 2 / Y * 2 else X / 2 / Y * 2 + 1) := by
  have e := Nat.div_add_mod' (X / 2) Y
  have f := Nat.mod_lt (X / 2) hY
  generalize hk : X / 2 / Y = k at *
  generalize X / 2 % Y = s at *
  have g : k * 2 * Y = 2 * (k * Y) := by rw [Nat.mul_comm k 2, Nat.mul_assoc]
  rw [g]
  generalize ht : k * Y = t at *
  refine ⟨by omega, by omega, ?_⟩
  split
  · apply (Nat.div_eq_iff hY).mpr
    rw [g]
    omega
  · apply (Nat.div_eq_iff hY).mpr
    rw [Nat.add_mul, Nat.one_mul, g]
    omega
theorem yw_quot {P : Int64 → Prop} {v : SY} {x y : Int64} (h : ∀ r, uN r = wn_q (uN x) (uN y) → P r) : wpY_quotient P v x y := by
  have hx := uN_lt x
  have hyl := uN_lt y
  by_cases hy : y = 0
  · refine br_t hy (h _ ?_)
    rw [hy, uN_0, wn_q0, uN_m1]
  · have hy0 : uN y ≠ 0 := fun e => hy (uN_inj (e.trans uN_0.symm))
    refine br_f hy (br_c (fun z => ⟨hy, ?_⟩) (fun z => ?_))
    · have hp := (uN_nn y).mp z
      intro q eq
      obtain ⟨k1, k2, k3⟩ := wn_qh (X := uN x) (Y := uN y) (by omega)
      have e1 : (x.toUInt64 >>> ((1 : Int32).toInt64.toUInt64 &&& Int64.toUInt64 63)).toInt64 = lN (uN x / 2) := uN_inj (by
        rw [uN_lN (by omega)]
        exact uN_sk x (k := 1) (by decide))
      have e2 : lN (uN x / 2) / y = lN (uN x / 2 / uN y) := by
        have e3 := pk_lDiv (a := uN x / 2) (b := uN y) (by omega) (by omega) hp
        rw [← uN_of] at e3
        exact e3
      have hd : uN x / 2 / uN y ≤ uN x / 2 := Nat.div_le_self _ _
      have eq2 : uN q = uN x / 2 / uN y * 2 := by
        rw [eq, e1, e2, uN_shl, uN_lN (by omega)]
        omega
      have es : uN (x - q * y) = uN x - uN x / 2 / uN y * 2 * uN y := by
        rw [uN_sub, uN_mul, eq2]
        generalize uN x / 2 / uN y * 2 * uN y = t at *
        omega
      rw [wn_qn hy0] at h
      refine yw_less (fun w => br_t rfl (h _ ?_)) (fun w => br_f (by decide) (h _ ?_))
      · rw [es] at w
        rw [if_neg (by omega)] at k3
        rw [k3, uN_add, eq2, show uN 1 = 1 from by decide]
        omega
      · rw [es] at w
        rw [if_pos w] at k3
        rw [k3, eq2]
    · have hp : ¬ uN y < 9223372036854775808 := fun w => z ((uN_nn y).mpr w)
      rw [wn_qn hy0] at h
      refine yw_less (fun w => br_t rfl (h _ ?_)) (fun w => br_f (by decide) (h _ ?_))
      · rw [show uN 1 = 1 from by decide]
        refine ((Nat.div_eq_iff (by omega)).mpr ?_).symm
        omega
      · rw [uN_0, Nat.div_eq_of_lt w]

/-! the upper half of a product -/
theorem wn_up {K T P hi lo x1 x2 : Nat} (hK : 0 < K) (hT : hi * K + lo = T) (hP : P = x1 * K + x2) (h2 : x2 < K) (hl : lo < K) (hb : T + P < K * K) :
    ((lo + x2) % K < x2 → ((hi + x1) % K + 1) % K * K + (lo + x2) % K = T + P)
    ∧ (x2 ≤ (lo + x2) % K → (hi + x1) % K * K + (lo + x2) % K = T + P) := by
  have s : T + P = (hi + x1) * K + (lo + x2) := by
    rw [← hT, hP, Nat.add_mul]
    omega
  refine ⟨fun w => ?_, fun w => ?_⟩
  · have c : K ≤ lo + x2 := by
      rcases Nat.lt_or_ge (lo + x2) K with z | z
      · rw [Nat.mod_eq_of_lt z] at w
        omega
      · exact z
    have m : (lo + x2) % K = lo + x2 - K := by rw [Nat.mod_eq_sub_mod c, Nat.mod_eq_of_lt (by omega)]
    have s2 : T + P = (hi + x1 + 1) * K + (lo + x2 - K) := by
      rw [s, Nat.add_mul (hi + x1) 1 K, Nat.one_mul]
      omega
    have t : (hi + x1 + 1) * K < K * K := by omega
    have t2 : hi + x1 + 1 < K := Nat.lt_of_mul_lt_mul_right t
    rw [Nat.mod_eq_of_lt (show hi + x1 < K by omega), Nat.mod_eq_of_lt t2, m, s2]
  · have c : lo + x2 < K := by
      rcases Nat.lt_or_ge (lo + x2) K with z | z
      · exact z
      · rw [Nat.mod_eq_sub_mod z, Nat.mod_eq_of_lt (by omega)] at w
        omega
    have t : (hi + x1) * K < K * K := by omega
    have t2 : hi + x1 < K := Nat.lt_of_mul_lt_mul_right t
    rw [Nat.mod_eq_of_lt t2, Nat.mod_eq_of_lt c, s]
theorem wn_ux {x b : Nat} (hx : x < 18446744073709551616) (h0 : 0 < b) (hb : b < 64) : x * 2 ^ b = x / 2 ^ (64 - b) * 18446744073709551616 + x * 2 ^ b % 18446744073709551616 := by
  have e : (18446744073709551616 : Nat) = 2 ^ (64 - b) * 2 ^ b := by
    rw [← Nat.pow_add, show 64 - b + b = 64 by omega]
  have f : x * 2 ^ b / 18446744073709551616 = x / 2 ^ (64 - b) := by
    rw [e, Nat.mul_div_mul_right _ _ (Nat.two_pow_pos b)]
  rw [← f]
  exact (Nat.div_add_mod' _ _).symm
theorem wn_yb (y b : Nat) : y % 2 ^ (b + 1) = y % 2 ^ b + 2 ^ b * (y / 2 ^ b % 2) := by
  rw [Nat.pow_succ]
  exact Nat.mod_mul
theorem wn_xy {x y : Nat} (hx : x < 18446744073709551616) (hy : y < 18446744073709551616) : x * y < 340282366920938463463374607431768211456 :=
  Nat.lt_of_le_of_lt (Nat.mul_le_mul (show x ≤ 18446744073709551615 by omega) (show y ≤ 18446744073709551615 by omega)) (by decide)
section
variable {P : Int64 → Prop} {v : SY} {x y : Int64}
theorem yw_up51 {J : Int64 → Int64 → Int32 → Prop} {hi lo z : Int64} {b T : Nat} (hT : uN hi * 18446744073709551616 + uN lo = T)
    (hz : uN x * 2 ^ b = uN z * 18446744073709551616 + uN x * 2 ^ b % 18446744073709551616) (hb : b < 64) (hB : T + uN x * 2 ^ b < 340282366920938463463374607431768211456)
    (h : ∀ hi' lo', uN hi' * 18446744073709551616 + uN lo' = T + uN x * 2 ^ b → J hi' lo' (nI (b + 1))) :
    wY_upper_51 P J x y lo (nI b) (x <<< ((nI b).toInt64 &&& 63)) z hi v := by
  have hp : uN (x <<< ((nI b).toInt64 &&& 63)) = uN x * 2 ^ b % 18446744073709551616 := by
    have e := wb_shl (uN x) hb
    rw [← uN_of] at e
    rw [e]
    rfl
  generalize x <<< ((nI b).toInt64 &&& 63) = p at *
  have hm : uN p < 18446744073709551616 := uN_lt p
  rw [← hp] at hz
  obtain ⟨k1, k2⟩ := wn_up (K := 18446744073709551616) (by decide) hT hz hm (uN_lt lo) hB
  intro x5 e5 x7 e7
  have f5 : uN x5 = (uN hi + uN z) % 18446744073709551616 := by rw [e5, uN_add]
  have f7 : uN x7 = (uN lo + uN p) % 18446744073709551616 := by rw [e7, uN_add]
  rw [← f5, ← f7] at k1 k2
  refine yw_less (fun w => br_t rfl (nm_r (nI_1 b) (h _ _ (k2 w)))) (fun w => br_f (by decide) (nm_e (nm_r (nI_1 b) (h _ _ ?_))))
  rw [uN_add, show uN 1 = 1 from by decide]
  exact k1 w
theorem yw_up9 (h : ∀ r, uN r = uN x * uN y / 18446744073709551616 → P r) :
    ∀ (d b : Nat) (hi lo : Int64), b + d = 64 → uN hi * 18446744073709551616 + uN lo = uN x * (uN y % 2 ^ b) → wY_upper_9 P x y v (d + 1) hi lo (nI b) := by
  have hxl := uN_lt x
  have hyl := uN_lt y
  intro d
  induction d with
  | zero =>
    intro b hi lo hb hT
    have e : b = 64 := by omega
    subst e
    refine br_t (nI_le (a := 64) (by omega) (by omega)) (h _ ?_)
    have f : uN y % 2 ^ 64 = uN y := Nat.mod_eq_of_lt hyl
    rw [f] at hT
    have hl := uN_lt lo
    rw [← hT]
    omega
  | succ d ih =>
    intro b hi lo hb hT
    refine br_f (nI_ge (b := 64) (by omega) (by decide)) ?_
    have eb := wn_yb (uN y) b
    have ew := wn_wb y b
    cases z : wn_b y b
    · refine br_t ((wn_wb0 y (by omega)).mpr z) (nm_r (nI_1 b) (ih (b + 1) hi lo (by omega) ?_))
      rw [z] at ew
      rw [eb, ← ew, hT]
      rfl
    · refine br_f (fun w => ?_) (nm_e ?_)
      · have e := (wn_wb0 y (by omega)).mp w
        rw [z] at e
        exact nomatch e
      · rw [z] at ew
        have e3 : uN x * (uN y % 2 ^ (b + 1)) = uN x * (uN y % 2 ^ b) + uN x * 2 ^ b := by
          rw [eb, ← ew, Nat.mul_add]
          show uN x * (uN y % 2 ^ b) + uN x * (2 ^ b * 1) = _
          rw [Nat.mul_one]
        have hB : uN x * (uN y % 2 ^ b) + uN x * 2 ^ b < 340282366920938463463374607431768211456 := by
          rw [← e3]
          exact wn_xy hxl (Nat.lt_of_le_of_lt (Nat.mod_le _ _) hyl)
        by_cases hb0 : b = 0
        · subst hb0
          refine br_t nI_0 (yw_up51 hT ?_ (by omega) hB fun hi' lo' e => ih _ _ _ (by omega) (e.trans e3.symm))
          rw [uN_0, Nat.pow_zero, Nat.mul_one]
          omega
        · refine br_f (nI_ne0 (by omega) (by omega)) ?_
          rw [wn_64n (by omega)]
          refine yw_up51 hT ?_ (by omega) hB fun hi' lo' e => ih _ _ _ (by omega) (e.trans e3.symm)
          rw [uN_sk x (by omega)]
          exact wn_ux hxl (by omega) (by omega)
theorem yw_upper (h : ∀ r, uN r = uN x * uN y / 18446744073709551616 → P r) : wpY_upper P v x y := by
  refine ⟨65, yw_up9 h 64 0 0 0 rfl ?_⟩
  rw [uN_0, Nat.pow_zero, Nat.mod_one, Nat.mul_zero, Nat.zero_mul]
theorem yw_lz (h : ∀ r, wn_lz 64 (wn_b x) r → P (nI r).toInt64) : ∀ d j : Nat, j + d = 64 → (∀ i, i < j → wn_b x (63 - i) = false) → wY_further_84 P x v (d + 1) (nI j) := by
  intro d
  induction d with
  | zero =>
    intro j hj hb
    exact br_t (nI_le (a := 64) (by omega) (by omega)) (h j ⟨by omega, hb, fun z => absurd z (by omega)⟩)
  | succ d ih =>
    intro j hj hb
    refine br_f (nI_ge (b := 64) (by omega) (by decide)) ?_
    rw [wn_63n (by omega)]
    cases z : wn_b x (63 - j)
    · refine br_t ((wn_wb0 x (by omega)).mpr z) (nm_r (nI_1 j) (ih (j + 1) (by omega) fun i hi => ?_))
      rcases Nat.lt_or_ge i j with w | w
      · exact hb i w
      · have e : i = j := by omega
        rw [e]
        exact z
    · refine br_f (fun w => ?_) (h j ⟨by omega, hb, fun _ => z⟩)
      have e := (wn_wb0 x (by omega)).mp w
      rw [z] at e
      exact nomatch e
end
end
section
/-! ===== digits, digitAt, root: the loops of both sides ===== -/
theorem wn_j010 : wn_j 0 10 = 10 := wn_jeq (by decide)
theorem uN_10 : uN 10 = 10 := by decide
theorem wn_small {h l : Int32} {m : Nat} (e : uN (wn_j h l) = m) (hm : m < 4294967296) : h = 0 ∧ l = nI m := by
  have hl := wn_lt l
  rw [wn_ju] at e
  refine ⟨wn_inj ?_, wn_inj ?_⟩
  · rw [wn_u0]
    omega
  · rw [wn_nI hm]
    omega
theorem wn_d10 {x : Int64} (h : uN x < 9223372036854775808) : uN (x / 10) = uN x / 10 := by
  have e := pk_lDiv (a := uN x) (b := 10) h (by decide) (by decide)
  rw [← uN_of] at e
  have f : x / 10 = lN (uN x / 10) := e
  rw [f, uN_lN (by omega)]
theorem wn_p10 (V j : Nat) : V / 10 ^ j / 10 = V / 10 ^ (j + 1) := by rw [Nat.div_div_eq_div_mul, Nat.pow_succ]
section
variable {post : Int32 → SX → Prop} {th tl : Int32} {ah al : Nat → Int32} {V i0 : Nat}
theorem xw_dg (h0 : V / 10 ^ (i0 + 1) = 0) (hm : ∀ j, j < i0 → V / 10 ^ (j + 1) ≠ 0) (hi : i0 ≤ 19)
    (h : ∀ o p q1 q2 r1 r2, post (nI (i0 + 1)) (o, p, th, tl, q1, q2, r1, r2, ah, al)) :
    ∀ (d j : Nat) (oh ol qh ql rh rl : Int32), j + d = i0 → uN (wn_j qh ql) = V / 10 ^ (j + 1) → wX_digits_32 post (d + 1) (nI (j + 1)) (nI j) oh ol th tl qh ql rh rl ah al := by
  intro d
  induction d with
  | zero =>
    intro j oh ol qh ql rh rl hj hQ
    have e : j = i0 := by omega
    subst e
    rw [h0] at hQ
    obtain ⟨e1, e2⟩ := wn_small hQ (by omega)
    exact br_f (nI_ge (b := 20) (by omega) (by decide)) (br_t e1 (br_t (e2.trans nI_0) (h _ _ _ _ _ _)))
  | succ d ih =>
    intro j oh ol qh ql rh rl hj hQ
    have hne := hm j (by omega)
    have key : wX_digits_52 post (wX_digits_32 post (d + 1)) (nI (j + 1)) (nI j) oh ol th tl qh ql rh rl ah al := by
      unfold wX_digits_52
      refine nm_r (nI_1 (j + 1)) ?_
      refine xw_divU fun o p q1 q2 r1 r2 f1 f2 => nm_r (nI_1 j) (ih (j + 1) _ _ _ _ _ _ (by omega) ?_)
      rw [f1, wn_j010, uN_10, wn_qn (by decide), hQ, wn_p10]
    refine br_f (nI_ge (b := 20) (by omega) (by decide)) ?_
    by_cases e1 : qh = 0
    · refine br_t e1 (br_f (fun e2 => hne ?_) key)
      rw [← hQ, e1, e2, wn_j00, uN_0]
    · exact br_f e1 key
theorem xw_da {i : Nat} (hi : i ≤ 19) (h : ∀ o p q1 q2 r1 r2, r2 = nI (V / 10 ^ i % 10) → post r2 (o, p, th, tl, q1, q2, r1, r2, ah, al)) :
    ∀ (d j : Nat) (oh ol qh ql rh rl : Int32), j + d = i → uN (wn_j qh ql) = V / 10 ^ (j + 1) → uN (wn_j rh rl) = V / 10 ^ j % 10 → wX_digitAt_42 post (nI i) (d + 1) (nI j) oh ol th tl qh ql rh rl ah al := by
  intro d
  induction d with
  | zero =>
    intro j oh ol qh ql rh rl hj hQ hR
    have e : j = i := by omega
    subst e
    exact br_t (Int32.le_refl _) (h _ _ _ _ _ _ (wn_small hR (by omega)).2)
  | succ d ih =>
    intro j oh ol qh ql rh rl hj hQ hR
    refine br_f (nI_ge (by omega) (by omega)) ?_
    refine xw_divU fun o p q1 q2 r1 r2 f1 f2 => nm_r (nI_1 j) (ih (j + 1) _ _ _ _ _ _ (by omega) ?_ ?_)
    · rw [f1, wn_j010, uN_10, wn_qn (by decide), hQ, wn_p10]
    · rw [f2, wn_j010, uN_10, hQ]
end
section
variable {P : Int32 → Prop} {v : SY} {V i0 : Nat}
theorem yw_dg (hV : V < 18446744073709551616) (h0 : V / 10 ^ (i0 + 1) = 0) (hm : ∀ j, j < i0 → V / 10 ^ (j + 1) ≠ 0) (hi : i0 ≤ 19) (h : P (nI (i0 + 1))) :
    ∀ (d j : Nat) (x : Int64), j + d = i0 → uN x = V / 10 ^ (j + 1) → wY_digits_26 P v (d + 1) (nI (j + 1)) x := by
  intro d
  induction d with
  | zero =>
    intro j x hj hQ
    have e : j = i0 := by omega
    subst e
    rw [h0] at hQ
    exact br_t (uN_inj (hQ.trans uN_0.symm)) h
  | succ d ih =>
    intro j x hj hQ
    have hne := hm j (by omega)
    have hlt : uN x < 9223372036854775808 := by
      rw [hQ, ← wn_p10]
      have e : V / 10 ^ j ≤ V := Nat.div_le_self _ _
      omega
    refine br_f (fun e => hne ?_) (br_f (nI_ge (b := 20) (by omega) (by decide)) ⟨by decide, nm_e (nm_r (nI_1 (j + 1)) (ih (j + 1) _ (by omega) ?_))⟩)
    · rw [← hQ, e, uN_0]
    · rw [wn_d10 hlt, hQ, wn_p10]
theorem yw_da {i : Nat} (hV : V < 18446744073709551616) (hi : i ≤ 19) (h : P (nI (V / 10 ^ i % 10))) :
    ∀ (d j : Nat) (x : Int64), j + d = i → uN x = V / 10 ^ j → wY_digitAt_32 P (nI i) v (d + 1) x (nI j) := by
  intro d
  induction d with
  | zero =>
    intro j x hj hQ
    have e : j = i := by omega
    subst e
    refine br_t (Int32.le_refl _) (yw_quot fun r f => ?_)
    rw [uN_10, wn_qn (by decide)] at f
    have g : uN (x - r * 10) = V / 10 ^ j % 10 := by
      have hx := uN_lt x
      rw [uN_sub, uN_mul, uN_10, f, ← hQ]
      omega
    have k := lN_i (uN (x - r * 10))
    rw [← uN_of] at k
    rw [k, g]
    exact h
  | succ d ih =>
    intro j x hj hQ
    refine br_f (nI_ge (by omega) (by omega)) (yw_quot fun r f => nm_r (nI_1 j) (ih (j + 1) r (by omega) ?_))
    rw [uN_10, wn_qn (by decide)] at f
    rw [f, hQ, wn_p10]
end

/-! the root -/
theorem wn_sq2 {a b : Nat} (h : a ≤ b) : a * a ≤ b * b := Nat.mul_le_mul h h
theorem wn_rt {V r s : Nat} (r1 : r * r ≤ V) (r2 : V < (r + 1) * (r + 1)) (s1 : s * s ≤ V) (s2 : V < (s + 1) * (s + 1)) : r = s := by
  rcases Nat.lt_trichotomy r s with h | h | h
  · have e := wn_sq2 (show r + 1 ≤ s from h)
    omega
  · exact h
  · have e := wn_sq2 (show s + 1 ≤ r from h)
    omega
theorem wn_lo32 (x : Int32) : x.toInt64 &&& 4294967295 = lN (wn_u x) := by
  have e := wn_ti x.toInt64
  rw [Int32.toInt32_toInt64] at e
  apply uN_inj
  have hx := wn_lt x
  rw [uN_lo, ← e, uN_lN (by omega)]
theorem wn_orb {x : Int32} {b : Nat} (hb : b < 32) (hx : wn_u x % 2 ^ (b + 1) = 0) : wn_u (x ||| ((1 : Int32) <<< (nI b &&& 31))) = wn_u x + 2 ^ b := by
  have e : wn_u ((1 : Int32) <<< (nI b &&& 31)) = wn_u 1 * 2 ^ b % 2 ^ 32 := pk_shl 1 _ b (s_l b hb)
  have f : 2 ^ b < 2 ^ 32 := Nat.pow_lt_pow_right (by decide) hb
  have g : 2 ^ b < 2 ^ (b + 1) := Nat.pow_lt_pow_right (by decide) (by omega)
  have k := Nat.div_add_mod (wn_u x) (2 ^ (b + 1))
  rw [hx, Nat.add_zero] at k
  rw [wn_or, e, wn_u1, Nat.one_mul, Nat.mod_eq_of_lt f, ← k]
  exact (Nat.two_pow_add_eq_or_of_lt g _).symm
section
variable {post : Int64 → SX → Prop} {th tl qh ql rh rl : Int32} {ah al : Nat → Int32} {V jj : Nat}
theorem xw_rt (hj : jj < 8) (hV : uN (wn_j (ah jj) (al jj)) = V)
    (h : ∀ (o p : Int32) (r : Nat), r * r ≤ V → V < (r + 1) * (r + 1) → post (lN r) (o, p, th, tl, qh, ql, rh, rl, ah, al)) :
    ∀ (b : Nat) (oh ol k x : Int32), b ≤ 32 → x = nI b + (-1) → wn_u k % 2 ^ b = 0 → wn_u k * wn_u k ≤ V → V < (wn_u k + 2 ^ b) * (wn_u k + 2 ^ b) →
      wX_root_14 post (nI jj) (b + 1) k x oh ol th tl qh ql rh rl ah al := by
  have hin : vp_in (nI jj) 8 := vp_in_nI hj (by decide)
  have hcl : (nI jj).toNatClampNeg = jj := nI_clamp (by omega)
  intro b
  induction b with
  | zero =>
    intro oh ol k x hb hx hk h1 h2
    subst hx
    refine br_t (by decide) ?_
    rw [wn_lo32]
    exact h _ _ _ h1 h2
  | succ b ih =>
    intro oh ol k x hb hx hk h1 h2
    rw [pk_m1] at hx
    subst hx
    have ew := wn_orb (x := k) (show b < 32 by omega) hk
    have hk2 : wn_u k % 2 ^ b = 0 := by
      have e := Nat.mod_mul_right_mod (wn_u k) (2 ^ b) 2
      rw [← Nat.pow_succ, hk, Nat.zero_mod] at e
      exact e.symm
    refine br_f (nI_pos (by omega)) (fun w e => ?_)
    rw [← e] at ew
    refine xw_mulH fun o p eo => And.intro hin (And.intro hin ?_)
    rw [hcl]
    rw [ew] at eo
    refine xw_lowerPair (fun z => br_t rfl (fun y ey => ih o p w y (by omega) ey ?_ ?_ ?_)) (fun z => br_f (by decide) (fun y ey => ih o p k y (by omega) ey hk2 h1 ?_))
    · rw [ew, Nat.add_mod_right]
      exact hk2
    · rw [eo, hV] at z
      rw [ew]
      exact z
    · rw [ew, Nat.add_assoc, ← Nat.two_mul, Nat.mul_comm 2, ← Nat.pow_succ]
      exact h2
    · rw [eo, hV] at z
      exact z
end
section
variable {P : Int64 → Prop} {v : SY} {V jj : Nat}
theorem yw_rt (hj : jj < 8) (hV : uN (v jj) = V) (h : ∀ r : Nat, r * r ≤ V → V < (r + 1) * (r + 1) → P (lN r)) :
    ∀ (n lo hi : Nat), lo < hi → hi ≤ 4294967296 → hi - lo ≤ 2 ^ n → lo * lo ≤ V → V < hi * hi → wY_root_17 P (nI jj) v (n + 1) (lN lo) (lN hi) := by
  have hin : vp_in (nI jj) 8 := vp_in_nI hj (by decide)
  have hcl : (nI jj).toNatClampNeg = jj := nI_clamp (by omega)
  have base : ∀ n lo hi : Nat, lo < hi → hi - lo ≤ 1 → hi ≤ 4294967296 → lo * lo ≤ V → V < hi * hi → wY_root_17 P (nI jj) v (n + 1) (lN lo) (lN hi) := by
    intro n lo hi hl z hh h1 h2
    have es : lN hi - lN lo = lN (hi - lo) := lN_sub (by omega)
    have c : lN hi - lN lo ≤ 1 := by
      rw [es]
      exact (pk_lLE (b := 1) (by omega) (by decide)).mpr z
    have e : hi = lo + 1 := by omega
    subst e
    exact br_t c (h _ h1 h2)
  intro n
  induction n with
  | zero =>
    intro lo hi hl hh hn h1 h2
    exact base 0 lo hi hl hn hh h1 h2
  | succ n ih =>
    intro lo hi hl hh hn h1 h2
    have es : lN hi - lN lo = lN (hi - lo) := lN_sub (by omega)
    by_cases z : hi - lo ≤ 1
    · exact base (n + 1) lo hi hl z hh h1 h2
    · have c : ¬ lN hi - lN lo ≤ 1 := by
        rw [es]
        exact fun w => z ((pk_lLE (b := 1) (by omega) (by decide)).mp w)
      have em : (lN lo + lN hi) / 2 = lN ((lo + hi) / 2) := by
        rw [lN_add]
        exact pk_lDiv (b := 2) (by omega) (by decide) (by decide)
      have hp : 2 ^ (n + 1) = 2 * 2 ^ n := by rw [Nat.pow_succ, Nat.mul_comm]
      rw [hp] at hn
      generalize 2 ^ n = q at *
      refine br_f c ⟨by decide, nm_r em ⟨hin, ?_⟩⟩
      rw [hcl, lN_mul]
      have hmm : (lo + hi) / 2 * ((lo + hi) / 2) < 18446744073709551616 := by
        have k := wn_sq2 (show (lo + hi) / 2 ≤ 4294967295 by omega)
        omega
      refine yw_less (fun w => br_t rfl (ih _ _ (by omega) hh (by omega) ?_ h2)) (fun w => br_f (by decide) (ih _ _ (by omega) (by omega) (by omega) h1 ?_))
      · rw [uN_lN hmm, hV] at w
        exact w
      · rw [uN_lN hmm, hV] at w
        exact w
end
end
section
/-! ===== the sixteen operations: one outcome for both sides ===== -/
def wn_XA (c : Nat) (xh xl yh yl : Int32) (r : Int64) : Prop :=
  ∀ (post : SX → Prop) (oh ol th tl qh ql rh rl : Int32) (ah al : Nat → Int32), (∀ o p th tl qh ql rh rl : Int32, wn_j o p = r → post (o, p, th, tl, qh, ql, rh, rl, ah, al)) → wpX_arithmetic post (oh, ol, th, tl, qh, ql, rh, rl, ah, al) (nI c) xh xl yh yl
def wn_XB (c : Nat) (xh xl yh yl : Int32) (r : Int64) : Prop :=
  ∀ (post : SX → Prop) (oh ol th tl qh ql rh rl : Int32) (ah al : Nat → Int32), (∀ o p th tl qh ql rh rl : Int32, wn_j o p = r → post (o, p, th, tl, qh, ql, rh, rl, ah, al)) → wpX_bits post (oh, ol, th, tl, qh, ql, rh, rl, ah, al) (nI c) xh xl yh yl
def wn_YA (v : SY) (c : Nat) (x y r : Int64) : Prop := ∀ P : Int64 → Prop, P r → wpY_arithmetic P v (nI c) x y
def wn_YB (v : SY) (c : Nat) (x y r : Int64) : Prop := ∀ P : Int64 → Prop, P r → wpY_bits P v (nI c) x y
def wn_YF (v : SY) (c : Nat) (x y r : Int64) : Prop := ∀ P : Int64 → Prop, P r → wpY_further P v (nI c) x y

theorem wn_lw {x : Int64} {m r : Nat} (h : m * 18446744073709551616 + uN x = r) : uN x = r % 18446744073709551616 := by
  have hx := uN_lt x
  omega
theorem wn_lwt {x : Int64} {m r : Nat} (h : m * 18446744073709551616 + uN x = r) : m = r / 18446744073709551616 := by
  have hx := uN_lt x
  omega
theorem wn_qlN {x y : Int64} : uN (lN (wn_q (uN x) (uN y))) = wn_q (uN x) (uN y) := by
  apply uN_lN
  have hx := uN_lt x
  unfold wn_q
  split
  · decide
  · exact Nat.lt_of_le_of_lt (Nat.div_le_self _ _) hx
theorem wn_m1d (x : Int64) : x / (-1) = 0 - x := by
  apply Int64.toInt_inj.mp
  rw [Int64.toInt_div, Int64.toInt_sub, show (-1 : Int64).toInt = -1 from by decide, show (0 : Int64).toInt = 0 from by decide, Int.tdiv_neg, Int.tdiv_one, Int.zero_sub]
theorem wn_m1r (x : Int64) : x - x / (-1) * (-1) = 0 := by
  rw [wn_m1d]
  grind
theorem wn_sq0 (x : Int64) : wn_sq x 0 = -1 := if_pos rfl
theorem wn_sr0 (x : Int64) : wn_sr x 0 = x := if_pos rfl
theorem wn_sqn {x y : Int64} (h : ¬ y = 0) : wn_sq x y = x / y := if_neg h
theorem wn_srn {x y : Int64} (h : ¬ y = 0) : wn_sr x y = x - x / y * y := if_neg h

section
variable (v : SY) (a b c d : Int32)
theorem wn_o0 : ∃ r, wn_XA 0 a b c d r ∧ wn_YA v 0 (wn_j a b) (wn_j c d) r :=
  ⟨wn_j a b + wn_j c d, fun post oh ol th tl qh ql rh rl ah al h => br_f (by decide) (br_f (by decide) (br_t (by decide) (xw_add fun o p e => h _ _ _ _ _ _ _ _ e))),
    fun P h => br_t (by decide) h⟩
theorem wn_o1 : ∃ r, wn_XA 1 a b c d r ∧ wn_YA v 1 (wn_j a b) (wn_j c d) r :=
  ⟨wn_j a b - wn_j c d, fun post oh ol th tl qh ql rh rl ah al h => br_f (by decide) (br_f (by decide) (br_f (by decide) (br_t (by decide) (xw_sub fun o p e => h _ _ _ _ _ _ _ _ e)))),
    fun P h => br_f (by decide) (br_t (by decide) h)⟩
theorem wn_o2 : ∃ r, wn_XA 2 a b c d r ∧ wn_YA v 2 (wn_j a b) (wn_j c d) r :=
  ⟨wn_j a b * wn_j c d, fun post oh ol th tl qh ql rh rl ah al h => br_f (by decide) (br_f (by decide) (br_f (by decide) (br_f (by decide) (br_t (by decide) (xw_mulP fun o p s t e => h _ _ _ _ _ _ _ _ (uN_inj ((wn_lw e).trans (uN_mul _ _).symm))))))),
    fun P h => br_f (by decide) (br_f (by decide) (br_t (by decide) h))⟩
theorem wn_o3 : ∃ r, wn_XA 3 a b c d r ∧ wn_YA v 3 (wn_j a b) (wn_j c d) r := by
  refine ⟨wn_sq (wn_j a b) (wn_j c d), fun post oh ol th tl qh ql rh rl ah al h => br_f (by decide) (br_f (by decide) (br_f (by decide) (br_f (by decide) (br_f (by decide) (br_t (by decide) (xw_divS fun o p q1 q2 r1 r2 e1 e2 => h _ _ _ _ _ _ _ _ e1)))))), fun P h => ?_⟩
  refine br_f (by decide) (br_f (by decide) (br_f (by decide) (br_f (by decide) ?_)))
  generalize wn_j c d = y at *
  by_cases y0 : y = 0
  · subst y0
    rw [wn_sq0] at h
    exact br_t rfl (br_t (by decide) h)
  · rw [wn_sqn y0] at h
    refine br_f y0 ?_
    by_cases y1 : y = -1
    · subst y1
      rw [wn_m1d] at h
      exact br_t rfl (br_t (by decide) h)
    · exact br_f y1 (br_t (by decide) ⟨y0, h⟩)
theorem wn_o4 : ∃ r, wn_XA 4 a b c d r ∧ wn_YA v 4 (wn_j a b) (wn_j c d) r := by
  refine ⟨wn_sr (wn_j a b) (wn_j c d), fun post oh ol th tl qh ql rh rl ah al h => br_f (by decide) (br_f (by decide) (br_f (by decide) (br_f (by decide) (br_f (by decide) (br_f (by decide) (br_t (by decide) (xw_divS fun o p q1 q2 r1 r2 e1 e2 => h _ _ _ _ _ _ _ _ e2))))))), fun P h => ?_⟩
  refine br_f (by decide) (br_f (by decide) (br_f (by decide) (br_f (by decide) ?_)))
  generalize wn_j c d = y at *
  by_cases y0 : y = 0
  · subst y0
    rw [wn_sr0] at h
    exact br_t rfl (br_f (by decide) h)
  · rw [wn_srn y0] at h
    refine br_f y0 ?_
    by_cases y1 : y = -1
    · subst y1
      rw [wn_m1r] at h
      exact br_t rfl (br_f (by decide) h)
    · exact br_f y1 (br_f (by decide) ⟨y0, h⟩)
theorem wn_o5 : ∃ r, wn_XA 5 a b c d r ∧ wn_YA v 5 (wn_j a b) (wn_j c d) r := by
  refine ⟨lN (wn_q (uN (wn_j a b)) (uN (wn_j c d))), fun post oh ol th tl qh ql rh rl ah al h => br_f (by decide) (br_f (by decide) (br_f (by decide) (br_f (by decide) (br_f (by decide) (br_f (by decide) (br_f (by decide) (br_t (by decide) (xw_divU fun o p q1 q2 r1 r2 e1 e2 => h _ _ _ _ _ _ _ _ (uN_inj (e1.trans wn_qlN.symm)))))))))), fun P h => ?_⟩
  refine br_f (by decide) (br_f (by decide) (br_f (by decide) (br_t (by decide) (yw_quot fun r e => ?_))))
  have f := uN_inj (e.trans wn_qlN.symm)
  rw [f]
  exact h
theorem wn_n64 (x : Nat) : x % 64 < 64 := Nat.mod_lt _ (by decide)
theorem wn_yn : wn_u d % 64 = uN (wn_j c d) % 64 := by rw [wn_ju]; omega
theorem wn_o6 : ∃ r, wn_XB 6 a b c d r ∧ wn_YB v 6 (wn_j a b) (wn_j c d) r :=
  ⟨wn_j a b <<< ((nI (uN (wn_j c d) % 64)).toInt64 &&& 63), fun post oh ol th tl qh ql rh rl ah al h => nm_r ((wn_x63 d).trans (congrArg nI (wn_yn c d))) (br_f (by decide) (br_f (by decide) (br_t (by decide) (xw_shl (wn_n64 _) fun o p e => h _ _ _ _ _ _ _ _ e)))),
    fun P h => nm_r (wn_y63 _) (br_t (by decide) h)⟩
theorem wn_o7 : ∃ r, wn_XB 7 a b c d r ∧ wn_YB v 7 (wn_j a b) (wn_j c d) r :=
  ⟨((wn_j a b).toUInt64 >>> ((nI (uN (wn_j c d) % 64)).toInt64.toUInt64 &&& Int64.toUInt64 63)).toInt64, fun post oh ol th tl qh ql rh rl ah al h => nm_r ((wn_x63 d).trans (congrArg nI (wn_yn c d))) (br_f (by decide) (br_f (by decide) (br_f (by decide) (br_t (by decide) (xw_shr (wn_n64 _) fun o p e => h _ _ _ _ _ _ _ _ e))))),
    fun P h => nm_r (wn_y63 _) (br_f (by decide) (br_t (by decide) h))⟩
theorem wn_o8 : ∃ r, wn_XB 8 a b c d r ∧ wn_YB v 8 (wn_j a b) (wn_j c d) r :=
  ⟨wn_j a b >>> ((nI (uN (wn_j c d) % 64)).toInt64 &&& 63), fun post oh ol th tl qh ql rh rl ah al h => nm_r ((wn_x63 d).trans (congrArg nI (wn_yn c d))) (br_f (by decide) (br_f (by decide) (br_f (by decide) (br_f (by decide) (br_t (by decide) (xw_sar (wn_n64 _) fun o p e => h _ _ _ _ _ _ _ _ e)))))),
    fun P h => nm_r (wn_y63 _) (br_f (by decide) (br_f (by decide) (br_t (by decide) h)))⟩
theorem wn_o9 : ∃ r, wn_XB 9 a b c d r ∧ wn_YB v 9 (wn_j a b) (wn_j c d) r :=
  ⟨wn_j a b &&& wn_j c d, fun post oh ol th tl qh ql rh rl ah al h => nm_e (br_f (by decide) (br_f (by decide) (br_f (by decide) (br_f (by decide) (br_f (by decide) (br_t (by decide) (h _ _ _ _ _ _ _ _ (wn_jand _ _ _ _)))))))),
    fun P h => nm_e (br_f (by decide) (br_f (by decide) (br_f (by decide) (br_t (by decide) h))))⟩
theorem wn_o10 : ∃ r, wn_XB 10 a b c d r ∧ wn_YB v 10 (wn_j a b) (wn_j c d) r :=
  ⟨wn_j a b ||| wn_j c d, fun post oh ol th tl qh ql rh rl ah al h => nm_e (br_f (by decide) (br_f (by decide) (br_f (by decide) (br_f (by decide) (br_f (by decide) (br_f (by decide) (br_t (by decide) (h _ _ _ _ _ _ _ _ (wn_jor _ _ _ _))))))))),
    fun P h => nm_e (br_f (by decide) (br_f (by decide) (br_f (by decide) (br_f (by decide) (br_t (by decide) h)))))⟩
theorem wn_o11 : ∃ r, wn_XB 11 a b c d r ∧ wn_YB v 11 (wn_j a b) (wn_j c d) r :=
  ⟨wn_j a b ^^^ wn_j c d, fun post oh ol th tl qh ql rh rl ah al h => nm_e (br_f (by decide) (br_f (by decide) (br_f (by decide) (br_f (by decide) (br_f (by decide) (br_f (by decide) (br_f (by decide) (br_t (by decide) (h _ _ _ _ _ _ _ _ (wn_jxor _ _ _ _)))))))))),
    fun P h => nm_e (br_f (by decide) (br_f (by decide) (br_f (by decide) (br_f (by decide) (br_f (by decide) h)))))⟩
theorem wn_o12 : ∃ r, wn_XA 12 a b c d r ∧ wn_YF v 12 (wn_j a b) (wn_j c d) r := by
  have hl : uN (wn_j a b) * uN (wn_j c d) / 18446744073709551616 < 18446744073709551616 := by
    have e := wn_xy (uN_lt (wn_j a b)) (uN_lt (wn_j c d))
    omega
  refine ⟨lN (uN (wn_j a b) * uN (wn_j c d) / 18446744073709551616), fun post oh ol th tl qh ql rh rl ah al h => ?_, fun P h => nm_e (br_t (by decide) (yw_upper fun r e => ?_))⟩
  · exact br_f (by decide) (br_f (by decide) (br_f (by decide) (br_f (by decide) (br_f (by decide) (br_f (by decide) (br_f (by decide) (br_f (by decide) (br_f (by decide) (br_f (by decide) (br_f (by decide) (br_f (by decide) (br_f (by decide) (br_f (by decide) (br_t (by decide) (xw_mulP fun o p s t e => h _ _ _ _ _ _ _ _ (uN_inj ((wn_lwt e).trans (uN_lN hl).symm)))))))))))))))))
  · have f := uN_inj (e.trans (uN_lN hl).symm)
    rw [f]
    exact h
theorem wn_o13 : ∃ r, wn_XB 13 a b c d r ∧ wn_YF v 13 (wn_j a b) (wn_j c d) r := by
  refine ⟨wn_turn (wn_j a b) (uN (wn_j c d) % 64), fun post oh ol th tl qh ql rh rl ah al h => ?_, fun P h => nm_r (wn_y63 _) (br_f (by decide) (br_t (by decide) ?_))⟩
  · exact nm_r ((wn_x63 d).trans (congrArg nI (wn_yn c d))) (br_f (by decide) (br_f (by decide) (br_f (by decide) (br_f (by decide) (br_f (by decide) (br_f (by decide) (br_f (by decide) (br_f (by decide) (br_f (by decide) (br_t (by decide) (xw_turn (wn_n64 _) fun o p e => h _ _ _ _ _ _ _ _ e)))))))))))
  · have hn := wn_n64 (uN (wn_j c d))
    generalize uN (wn_j c d) % 64 = n at *
    by_cases z : n = 0
    · subst z
      exact br_t nI_0 h
    · refine br_f (nI_ne0 (by omega) (by omega)) ?_
      rw [wn_64n (by omega)]
      have e : wn_turn (wn_j a b) n = _ := if_neg z
      rw [e] at h
      exact h
theorem wn_lzx (f : Nat → Bool) : ∃ r, wn_lz 64 f r := by
  obtain ⟨k, hk, hm⟩ := pk_least (fun r => 64 ≤ r ∨ f (64 - 1 - r) = true) ⟨64, Or.inl (Nat.le_refl _)⟩
  refine ⟨k, Nat.le_of_not_lt fun z => hm 64 z (Or.inl (Nat.le_refl _)), fun j hj => ?_, fun z => hk.resolve_left (by omega)⟩
  exact ts_nt fun e => hm j hj (Or.inr e)
theorem wn_o14 : ∃ r, wn_XB 14 a b c d r ∧ wn_YF v 14 (wn_j a b) (wn_j c d) r := by
  obtain ⟨r, hr⟩ := wn_lzx (wn_b (wn_j a b))
  have h64 := hr.1
  refine ⟨(nI r).toInt64, fun post oh ol th tl qh ql rh rl ah al h => nm_e (br_f (by decide) (br_t (by decide) ?_)), fun P h => nm_e (br_f (by decide) (br_f (by decide) (br_f (by decide) ⟨65, ?_⟩)))⟩
  · unfold wX_bits_145
    refine xw_lzP fun s hs => h _ _ _ _ _ _ _ _ ?_
    have e := wn_lzu hs hr
    subst e
    rw [nI_l (by omega)]
    refine wn_jeq ?_
    rw [wn_u0, wn_nI (by omega), uN_lN (by omega)]
    omega
  · refine yw_lz (fun s hs => ?_) 64 0 rfl (fun i hi => absurd hi (by omega))
    have e := wn_lzu hs hr
    subst e
    exact h
theorem wn_o15 : ∃ r, wn_XA 15 a b c d r ∧ wn_YF v 15 (wn_j a b) (wn_j c d) r := by
  have hx := uN_lt (wn_j a b)
  have hm : uN (wn_j a b) % uN (wn_j c d) ≤ uN (wn_j a b) := Nat.mod_le _ _
  refine ⟨lN (uN (wn_j a b) % uN (wn_j c d)), fun post oh ol th tl qh ql rh rl ah al h => br_f (by decide) (br_t (by decide) ?_), fun P h => nm_e (br_f (by decide) (br_f (by decide) (br_t (by decide) ?_)))⟩
  · unfold wX_arithmetic_207
    refine xw_divU fun o p q1 q2 r1 r2 e1 e2 => h _ _ _ _ _ _ _ _ (uN_inj ?_)
    rw [e2, uN_lN (by omega)]
  · generalize wn_j c d = y at *
    generalize wn_j a b = x at *
    by_cases y0 : y = 0
    · subst y0
      rw [uN_0, Nat.mod_zero, ← uN_of] at h
      exact br_t rfl h
    · refine br_f y0 (yw_quot fun r e => ?_)
      have hy0 : uN y ≠ 0 := fun f => y0 (uN_inj (f.trans uN_0.symm))
      rw [wn_qn hy0] at e
      have f : x - r * y = lN (uN x % uN y) := by
        apply uN_inj
        have g := Nat.div_add_mod' (uN x) (uN y)
        rw [uN_sub, uN_mul, uN_lN (by omega), e]
        generalize uN x / uN y * uN y = t at *
        omega
      rw [f]
      exact h
end
end
section
/-! ===== what is owed ===== -/
def wn_R (v : SY) (ah al : Nat → Int32) : Prop := ∀ i, i < 8 → v i = wn_j (ah i) (al i)
/-- the registers are the joins of their halves; the component's results of steps are free -/
def i_Rel (_ : Nat) (u : SX) (v : SY) : Prop := wn_R v u.2.2.2.2.2.2.2.2.1 u.2.2.2.2.2.2.2.2.2
theorem i_up {k : Nat} {u : SX} {v : SY} (h : i_Rel k u v) : i_Rel (k + 4) u v := h
theorem i_vc0 : wpX_init (fun u => wpY_init (fun v => i_Rel 0 u v)) := fun _ _ => wn_j00.symm
theorem wn_Ru {v : SY} {ah al : Nat → Int32} (I : wn_R v ah al) {j : Nat} {r : Int64} {o p : Int32} (e : wn_j o p = r) : wn_R (vp_updL v j r) (upd ah j o) (upd al j p) := by
  intro i hi
  by_cases z : i = j
  · subst z
    rw [pk_uLs, pk_us, pk_us, e]
  · rw [pk_uLn z, pk_un z, pk_un z]
    exact I i hi
theorem wn_Rc {v : SY} {ah al : Nat → Int32} (I : wn_R v ah al) {j : Nat} (h : j < 8) : v (nI j).toNatClampNeg = wn_j (ah (nI j).toNatClampNeg) (al (nI j).toNatClampNeg) := by
  rw [nI_clamp (by omega)]
  exact I j h
theorem wn_set (x : Int64) : wn_j ((x.toUInt64 >>> ((32 : Int32).toInt64.toUInt64 &&& Int64.toUInt64 63)).toInt64).toInt32 x.toInt32 = x := by
  have hx := uN_lt x
  refine wn_jeq ?_
  rw [wn_ti, wn_ti, uN_s32]
  omega
theorem wn_get (h l : Int32) : ((h.toInt64) <<< ((32 : Int32).toInt64 &&& 63)) ||| (l.toInt64 &&& 4294967295) = wn_j h l := by
  have e := wn_ti h.toInt64
  rw [Int32.toInt32_toInt64] at e
  have f := wb_shl (uN h.toInt64) (k := 32) (by decide)
  rw [← uN_of] at f
  have f2 : (h.toInt64) <<< ((32 : Int32).toInt64 &&& 63) = lN (uN h.toInt64 * 2 ^ 32) := f
  have g : lN (uN h.toInt64 * 2 ^ 32) = lN (wn_u h * 4294967296) := by
    rw [wb_mod, e]
    exact congrArg lN (by omega)
  have hl := wn_lt l
  have hh := wn_lt h
  rw [wn_lo32, f2, g, g_or (k := 32) (by decide) hl (by omega)]
  apply uN_inj
  rw [wn_ju, uN_lN (by omega)]

theorem i_vc_set {k : Nat} {u : SX} {v : SY} (I : i_Rel k u v) (hk : k + 4 ≤ 2048) (v1 : Int32) (a1 : Int64) : wpX_set (fun r u' => wpY_set (fun r' v' => r' = r ∧ i_Rel (k + 4) u' v') v v1 a1) u v1 a1 := by
  obtain ⟨oh, ol, th, tl, qh, ql, rh, rl, ah, al⟩ := u
  have bad : v1 < 0 ∨ nI 8 ≤ v1 → wpX_set (fun r u' => wpY_set (fun r' v' => r' = r ∧ i_Rel (k + 4) u' v') v v1 a1) (oh, ol, th, tl, qh, ql, rh, rl, ah, al) v1 a1 := fun z => by
    unfold wpX_set
    refine xw_badN z (br_f (by decide) ?_)
    unfold wpY_set
    exact yw_regN z (br_t rfl ⟨rfl, I⟩)
  rcases pk_ix v1 (n := 8) (by decide) with z | z | ⟨j, hj, rfl⟩
  · exact bad (Or.inl z)
  · exact bad (Or.inr z)
  · have hin : vp_in (nI j) 8 := vp_in_nI hj (by decide)
    unfold wpX_set
    refine xw_badY hj (br_t rfl (And.intro hin (nm_e (And.intro hin (nm_e ?_)))))
    unfold wpY_set
    exact yw_regY hj (br_f (by decide) (And.intro hin (nm_e ⟨rfl, wn_Ru I (wn_set a1)⟩)))

theorem xw_opA {post : Int32 → SX → Prop} {oh ol th tl qh ql rh rl : Int32} {ah al : Nat → Int32} {c j a b : Nat} {w : Int32} {r : Int64} (hc : c < 6 ∨ c = 12 ∨ c = 15) (hj : j < 8) (ha : a < 8) (hb : b < 8)
    (ea : w &&& 7 = nI a) (eb : (w >>> ((3 : Int32) &&& 31)) &&& 7 = nI b) (hX : wn_XA c (ah (nI a).toNatClampNeg) (al (nI a).toNatClampNeg) (ah (nI b).toNatClampNeg) (al (nI b).toNatClampNeg) r)
    (h : ∀ o p th tl qh ql rh rl : Int32, wn_j o p = r → post 0 (o, p, th, tl, qh, ql, rh, rl, upd ah (nI j).toNatClampNeg o, upd al (nI j).toNatClampNeg p)) :
    wpX_operate post (oh, ol, th, tl, qh, ql, rh, rl, ah, al) (nI c) (nI j) w := by
  have va : vp_in (nI a) 8 := vp_in_nI ha (by decide)
  have vb : vp_in (nI b) 8 := vp_in_nI hb (by decide)
  have vj : vp_in (nI j) 8 := vp_in_nI hj (by decide)
  have key : wX_operate_53 post (nI c) (nI j) (nI a) (nI b) oh ol th tl qh ql rh rl ah al :=
    And.intro va (And.intro va (And.intro vb (And.intro vb (hX _ _ _ _ _ _ _ _ _ _ _ fun o p th tl qh ql rh rl e => And.intro vj (nm_e (And.intro vj (nm_e (h o p th tl qh ql rh rl e))))))))
  have h15 : nI c ≤ nI 15 := nI_le (by omega) (by decide)
  unfold wpX_operate
  refine br_f (nI_pos (by omega)) (br_t h15 (xw_badY hj (br_t rfl (nm_r ea (nm_r eb ?_)))))
  rcases hc with hc | hc | hc
  · have h5 : nI c ≤ nI 5 := nI_le (by omega) (by decide)
    exact br_t h5 key
  · subst hc
    exact br_f (by decide) (br_t (by decide) key)
  · subst hc
    exact br_f (by decide) (br_f (by decide) (br_t (by decide) key))
theorem xw_opB {post : Int32 → SX → Prop} {oh ol th tl qh ql rh rl : Int32} {ah al : Nat → Int32} {c j a b : Nat} {w : Int32} {r : Int64} (hc : 6 ≤ c) (hc2 : c < 15) (hc3 : c ≠ 12) (hj : j < 8) (ha : a < 8) (hb : b < 8)
    (ea : w &&& 7 = nI a) (eb : (w >>> ((3 : Int32) &&& 31)) &&& 7 = nI b) (hX : wn_XB c (ah (nI a).toNatClampNeg) (al (nI a).toNatClampNeg) (ah (nI b).toNatClampNeg) (al (nI b).toNatClampNeg) r)
    (h : ∀ o p th tl qh ql rh rl : Int32, wn_j o p = r → post 0 (o, p, th, tl, qh, ql, rh, rl, upd ah (nI j).toNatClampNeg o, upd al (nI j).toNatClampNeg p)) :
    wpX_operate post (oh, ol, th, tl, qh, ql, rh, rl, ah, al) (nI c) (nI j) w := by
  have va : vp_in (nI a) 8 := vp_in_nI ha (by decide)
  have vb : vp_in (nI b) 8 := vp_in_nI hb (by decide)
  have vj : vp_in (nI j) 8 := vp_in_nI hj (by decide)
  have h15 : nI c ≤ nI 15 := nI_le (by omega) (by decide)
  have h5 : ¬ nI c ≤ nI 5 := nI_ge (by omega) (by omega)
  have h12 : ¬ nI c = nI 12 := fun e => hc3 ((nI_eq (by omega) (by decide)).mp e)
  have h15b : ¬ nI c = nI 15 := fun e => absurd ((nI_eq (by omega) (by decide)).mp e) (by omega)
  unfold wpX_operate
  refine br_f (nI_pos (by omega)) (br_t h15 (xw_badY hj (br_t rfl (nm_r ea (nm_r eb ?_)))))
  exact br_f h5 (br_f h12 (br_f h15b (And.intro va (And.intro va (And.intro vb (And.intro vb (hX _ _ _ _ _ _ _ _ _ _ _ fun o p th tl qh ql rh rl e => And.intro vj (nm_e (And.intro vj (nm_e (h o p th tl qh ql rh rl e)))))))))))
section
variable {post : Int32 → SY → Prop} {v : SY} {c j a b : Nat} {w : Int32} {r : Int64}
theorem yw_opA (hc : c < 6) (hj : j < 8) (ha : a < 8) (hb : b < 8) (ea : w &&& 7 = nI a) (eb : (w >>> ((3 : Int32) &&& 31)) &&& 7 = nI b)
    (hY : wn_YA v c (v (nI a).toNatClampNeg) (v (nI b).toNatClampNeg) r) (h : post 0 (vp_updL v (nI j).toNatClampNeg r)) : wpY_operate post v (nI c) (nI j) w := by
  have va : vp_in (nI a) 8 := vp_in_nI ha (by decide)
  have vb : vp_in (nI b) 8 := vp_in_nI hb (by decide)
  have vj : vp_in (nI j) 8 := vp_in_nI hj (by decide)
  have h15 : nI c ≤ nI 15 := nI_le (by omega) (by decide)
  have h6 : ¬ nI 6 ≤ nI c := nI_ge (by omega) (by decide)
  unfold wpY_operate
  refine br_f (nI_pos (by omega)) (br_t h15 (yw_regY hj (br_f (by decide) ?_)))
  rw [ea, eb]
  exact And.intro va (nm_e (And.intro vb (nm_e (br_f h6 (hY _ (And.intro vj (nm_e h)))))))
theorem yw_opB (hc : 6 ≤ c) (hc2 : c < 12) (hj : j < 8) (ha : a < 8) (hb : b < 8) (ea : w &&& 7 = nI a) (eb : (w >>> ((3 : Int32) &&& 31)) &&& 7 = nI b)
    (hY : wn_YB v c (v (nI a).toNatClampNeg) (v (nI b).toNatClampNeg) r) (h : post 0 (vp_updL v (nI j).toNatClampNeg r)) : wpY_operate post v (nI c) (nI j) w := by
  have va : vp_in (nI a) 8 := vp_in_nI ha (by decide)
  have vb : vp_in (nI b) 8 := vp_in_nI hb (by decide)
  have vj : vp_in (nI j) 8 := vp_in_nI hj (by decide)
  have h15 : nI c ≤ nI 15 := nI_le (by omega) (by decide)
  have h6 : nI 6 ≤ nI c := nI_le (by omega) (by omega)
  have h12 : ¬ nI 12 ≤ nI c := nI_ge (by omega) (by decide)
  unfold wpY_operate
  refine br_f (nI_pos (by omega)) (br_t h15 (yw_regY hj (br_f (by decide) ?_)))
  rw [ea, eb]
  exact And.intro va (nm_e (And.intro vb (nm_e (br_t h6 (br_f h12 (hY _ (And.intro vj (nm_e h))))))))
theorem yw_opF (hc : 12 ≤ c) (hc2 : c < 16) (hj : j < 8) (ha : a < 8) (hb : b < 8) (ea : w &&& 7 = nI a) (eb : (w >>> ((3 : Int32) &&& 31)) &&& 7 = nI b)
    (hY : wn_YF v c (v (nI a).toNatClampNeg) (v (nI b).toNatClampNeg) r) (h : post 0 (vp_updL v (nI j).toNatClampNeg r)) : wpY_operate post v (nI c) (nI j) w := by
  have va : vp_in (nI a) 8 := vp_in_nI ha (by decide)
  have vb : vp_in (nI b) 8 := vp_in_nI hb (by decide)
  have vj : vp_in (nI j) 8 := vp_in_nI hj (by decide)
  have h15 : nI c ≤ nI 15 := nI_le (by omega) (by decide)
  have h6 : nI 6 ≤ nI c := nI_le (by omega) (by omega)
  have h12 : nI 12 ≤ nI c := nI_le (by omega) (by omega)
  unfold wpY_operate
  refine br_f (nI_pos (by omega)) (br_t h15 (yw_regY hj (br_f (by decide) ?_)))
  rw [ea, eb]
  exact And.intro va (nm_e (And.intro vb (nm_e (br_t h6 (br_t h12 (hY _ (And.intro vj (nm_e h))))))))
end
theorem wn_oA (v : SY) (a b c d : Int32) {n : Nat} (h : n < 6) : ∃ r, wn_XA n a b c d r ∧ wn_YA v n (wn_j a b) (wn_j c d) r := by
  match n, h with
  | 0, _ => exact wn_o0 v a b c d
  | 1, _ => exact wn_o1 v a b c d
  | 2, _ => exact wn_o2 v a b c d
  | 3, _ => exact wn_o3 v a b c d
  | 4, _ => exact wn_o4 v a b c d
  | 5, _ => exact wn_o5 v a b c d
  | n + 6, h => exact absurd h (by omega)
theorem wn_oB (v : SY) (a b c d : Int32) {n : Nat} (h0 : 6 ≤ n) (h : n < 12) : ∃ r, wn_XB n a b c d r ∧ wn_YB v n (wn_j a b) (wn_j c d) r := by
  have e : n = 6 ∨ n = 7 ∨ n = 8 ∨ n = 9 ∨ n = 10 ∨ n = 11 := by omega
  rcases e with e | e | e | e | e | e
  · subst e; exact wn_o6 v a b c d
  · subst e; exact wn_o7 v a b c d
  · subst e; exact wn_o8 v a b c d
  · subst e; exact wn_o9 v a b c d
  · subst e; exact wn_o10 v a b c d
  · subst e; exact wn_o11 v a b c d
theorem i_vc_operate {k : Nat} {u : SX} {v : SY} (I : i_Rel k u v) (hk : k + 4 ≤ 2048) (v1 : Int32) (v2 : Int32) (v3 : Int32) : wpX_operate (fun r u' => wpY_operate (fun r' v' => r' = r ∧ i_Rel (k + 4) u' v') v v1 v2 v3) u v1 v2 v3 := by
  obtain ⟨oh, ol, th, tl, qh, ql, rh, rl, ah, al⟩ := u
  rcases pk_ix v1 (n := 16) (by decide) with z | z | ⟨c, hc, rfl⟩
  · unfold wpX_operate
    refine br_t z ?_
    unfold wpY_operate
    exact br_t z ⟨rfl, I⟩
  · have z0 : ¬ v1 < 0 := fun q => absurd (Int32.lt_of_le_of_lt z q) (by decide)
    have z1 : ¬ v1 ≤ 15 := fun q => absurd (Int32.le_trans z q) (by decide)
    unfold wpX_operate
    refine br_f z0 (br_f z1 ?_)
    unfold wpY_operate
    exact br_f z0 (br_f z1 ⟨rfl, I⟩)
  · have h15 : nI c ≤ nI 15 := nI_le (by omega) (by decide)
    have bad : v2 < 0 ∨ nI 8 ≤ v2 → wpX_operate (fun r u' => wpY_operate (fun r' v' => r' = r ∧ i_Rel (k + 4) u' v') v (nI c) v2 v3) (oh, ol, th, tl, qh, ql, rh, rl, ah, al) (nI c) v2 v3 := fun z => by
      unfold wpX_operate
      refine br_f (nI_pos (by omega)) (br_t h15 (xw_badN z (br_f (by decide) ?_)))
      unfold wpY_operate
      exact br_f (nI_pos (by omega)) (br_t h15 (yw_regN z (br_t rfl ⟨rfl, I⟩)))
    rcases pk_ix v2 (n := 8) (by decide) with z | z | ⟨j, hj, rfl⟩
    · exact bad (Or.inl z)
    · exact bad (Or.inr z)
    · obtain ⟨a, ha, ea⟩ := pk_andE v3 (m := 7) 3 (by decide)
      obtain ⟨b, hb, eb⟩ := pk_andE (v3 >>> ((3 : Int32) &&& 31)) (m := 7) 3 (by decide)
      have Ia := wn_Rc (show wn_R v ah al from I) ha
      have Ib := wn_Rc (show wn_R v ah al from I) hb
      by_cases h6 : c < 6
      · obtain ⟨r, hX, hY⟩ := wn_oA v (ah (nI a).toNatClampNeg) (al (nI a).toNatClampNeg) (ah (nI b).toNatClampNeg) (al (nI b).toNatClampNeg) h6
        rw [← Ia, ← Ib] at hY
        exact xw_opA (Or.inl h6) hj ha hb ea eb hX fun o p th tl qh ql rh rl e => yw_opA h6 hj ha hb ea eb hY ⟨rfl, wn_Ru I e⟩
      · by_cases h12 : c < 12
        · obtain ⟨r, hX, hY⟩ := wn_oB v (ah (nI a).toNatClampNeg) (al (nI a).toNatClampNeg) (ah (nI b).toNatClampNeg) (al (nI b).toNatClampNeg) (show 6 ≤ c by omega) h12
          rw [← Ia, ← Ib] at hY
          exact xw_opB (by omega) (by omega) (by omega) hj ha hb ea eb hX fun o p th tl qh ql rh rl e => yw_opB (by omega) h12 hj ha hb ea eb hY ⟨rfl, wn_Ru I e⟩
        · have h : c = 12 ∨ c = 13 ∨ c = 14 ∨ c = 15 := by omega
          rcases h with h | h | h | h
          · subst h
            obtain ⟨r, hX, hY⟩ := wn_o12 v (ah (nI a).toNatClampNeg) (al (nI a).toNatClampNeg) (ah (nI b).toNatClampNeg) (al (nI b).toNatClampNeg)
            rw [← Ia, ← Ib] at hY
            exact xw_opA (Or.inr (Or.inl rfl)) hj ha hb ea eb hX fun o p th tl qh ql rh rl e => yw_opF (by omega) (by omega) hj ha hb ea eb hY ⟨rfl, wn_Ru I e⟩
          · subst h
            obtain ⟨r, hX, hY⟩ := wn_o13 v (ah (nI a).toNatClampNeg) (al (nI a).toNatClampNeg) (ah (nI b).toNatClampNeg) (al (nI b).toNatClampNeg)
            rw [← Ia, ← Ib] at hY
            exact xw_opB (by omega) (by omega) (by omega) hj ha hb ea eb hX fun o p th tl qh ql rh rl e => yw_opF (by omega) (by omega) hj ha hb ea eb hY ⟨rfl, wn_Ru I e⟩
          · subst h
            obtain ⟨r, hX, hY⟩ := wn_o14 v (ah (nI a).toNatClampNeg) (al (nI a).toNatClampNeg) (ah (nI b).toNatClampNeg) (al (nI b).toNatClampNeg)
            rw [← Ia, ← Ib] at hY
            exact xw_opB (by omega) (by omega) (by omega) hj ha hb ea eb hX fun o p th tl qh ql rh rl e => yw_opF (by omega) (by omega) hj ha hb ea eb hY ⟨rfl, wn_Ru I e⟩
          · subst h
            obtain ⟨r, hX, hY⟩ := wn_o15 v (ah (nI a).toNatClampNeg) (al (nI a).toNatClampNeg) (ah (nI b).toNatClampNeg) (al (nI b).toNatClampNeg)
            rw [← Ia, ← Ib] at hY
            exact xw_opA (Or.inr (Or.inr rfl)) hj ha hb ea eb hX fun o p th tl qh ql rh rl e => yw_opF (by omega) (by omega) hj ha hb ea eb hY ⟨rfl, wn_Ru I e⟩
end
section
/-! ===== what is owed: the other calls ===== -/
theorem wn_j0d {d : Nat} (h : d < 2147483648) : wn_j 0 (nI d) = (nI d).toInt64 := by
  rw [nI_l h]
  refine wn_jeq ?_
  rw [wn_u0, wn_nI (by omega), uN_lN (by omega)]
  omega
theorem i_vc_digit {k : Nat} {u : SX} {v : SY} (I : i_Rel k u v) (hk : k + 4 ≤ 2048) (v1 : Int32) (v2 : Int32) : wpX_digit (fun r u' => wpY_digit (fun r' v' => r' = r ∧ i_Rel (k + 4) u' v') v v1 v2) u v1 v2 := by
  obtain ⟨oh, ol, th, tl, qh, ql, rh, rl, ah, al⟩ := u
  have bad : v1 < 0 ∨ nI 8 ≤ v1 → wpX_digit (fun r u' => wpY_digit (fun r' v' => r' = r ∧ i_Rel (k + 4) u' v') v v1 v2) (oh, ol, th, tl, qh, ql, rh, rl, ah, al) v1 v2 := fun z => by
    unfold wpX_digit
    refine xw_badN z (br_f (by decide) ?_)
    unfold wpY_digit
    exact yw_regN z (br_t rfl ⟨rfl, I⟩)
  rcases pk_ix v1 (n := 8) (by decide) with z | z | ⟨j, hj, rfl⟩
  · exact bad (Or.inl z)
  · exact bad (Or.inr z)
  · have hin : vp_in (nI j) 8 := vp_in_nI hj (by decide)
    unfold wpX_digit
    refine xw_badY hj (br_t rfl ?_)
    rcases pk_ix v2 (n := 10) (by decide) with z | z | ⟨d, hd, rfl⟩
    · refine br_t z ?_
      unfold wpY_digit
      exact yw_regY hj (br_f (by decide) (br_t z ⟨rfl, I⟩))
    · have z0 : ¬ v2 < 0 := fun q => absurd (Int32.lt_of_le_of_lt z q) (by decide)
      have z1 : ¬ v2 ≤ 9 := fun q => absurd (Int32.le_trans z q) (by decide)
      refine br_f z0 (br_f z1 ?_)
      unfold wpY_digit
      exact yw_regY hj (br_f (by decide) (br_f z0 (br_f z1 ⟨rfl, I⟩)))
    · have h9 : nI d ≤ nI 9 := nI_le (by omega) (by decide)
      refine br_f (nI_pos (by omega)) (br_t h9 (And.intro hin (And.intro hin ?_)))
      refine xw_mulP fun o p s t e => xw_add fun o2 p2 e2 => And.intro hin (nm_e (And.intro hin (nm_e ?_)))
      unfold wpY_digit
      refine yw_regY hj (br_f (by decide) (br_f (nI_pos (by omega)) (br_t h9 (And.intro hin (And.intro hin (nm_e ⟨rfl, wn_Ru I ?_⟩))))))
      have Ij := wn_Rc (show wn_R v ah al from I) hj
      have f : wn_j o p = wn_j (ah (nI j).toNatClampNeg) (al (nI j).toNatClampNeg) * 10 := uN_inj (by
        rw [wn_lw e, wn_j010, uN_mul])
      rw [e2, f, wn_j0d (by omega), Ij]
theorem i_vc_swap {k : Nat} {u : SX} {v : SY} (I : i_Rel k u v) (hk : k + 4 ≤ 2048) (v1 : Int32) (v2 : Int32) : wpX_swap (fun r u' => wpY_swap (fun r' v' => r' = r ∧ i_Rel (k + 4) u' v') v v1 v2) u v1 v2 := by
  obtain ⟨oh, ol, th, tl, qh, ql, rh, rl, ah, al⟩ := u
  have bad : v1 < 0 ∨ nI 8 ≤ v1 → wpX_swap (fun r u' => wpY_swap (fun r' v' => r' = r ∧ i_Rel (k + 4) u' v') v v1 v2) (oh, ol, th, tl, qh, ql, rh, rl, ah, al) v1 v2 := fun z => by
    unfold wpX_swap
    refine xw_badN z (br_f (by decide) ?_)
    unfold wpY_swap
    exact yw_regN z (br_t rfl ⟨rfl, I⟩)
  rcases pk_ix v1 (n := 8) (by decide) with z | z | ⟨a, ha, rfl⟩
  · exact bad (Or.inl z)
  · exact bad (Or.inr z)
  · have bad2 : v2 < 0 ∨ nI 8 ≤ v2 → wpX_swap (fun r u' => wpY_swap (fun r' v' => r' = r ∧ i_Rel (k + 4) u' v') v (nI a) v2) (oh, ol, th, tl, qh, ql, rh, rl, ah, al) (nI a) v2 := fun z => by
      unfold wpX_swap
      refine xw_badY ha (br_t rfl (xw_badN z (br_f (by decide) ?_)))
      unfold wpY_swap
      exact yw_regY ha (br_f (by decide) (yw_regN z (br_t rfl ⟨rfl, I⟩)))
    rcases pk_ix v2 (n := 8) (by decide) with z | z | ⟨b, hb, rfl⟩
    · exact bad2 (Or.inl z)
    · exact bad2 (Or.inr z)
    · have va : vp_in (nI a) 8 := vp_in_nI ha (by decide)
      have vb : vp_in (nI b) 8 := vp_in_nI hb (by decide)
      have Ia := wn_Rc (show wn_R v ah al from I) ha
      have Ib := wn_Rc (show wn_R v ah al from I) hb
      unfold wpX_swap
      refine xw_badY ha (br_t rfl (xw_badY hb (br_t rfl ?_)))
      refine And.intro va (nm_e (And.intro va (nm_e (And.intro vb (And.intro va (nm_e (And.intro vb (And.intro va (nm_e (And.intro vb (nm_e (And.intro vb (nm_e ?_)))))))))))))
      unfold wpY_swap
      exact yw_regY ha (br_f (by decide) (yw_regY hb (br_f (by decide) (And.intro va (nm_e (And.intro vb (And.intro va (nm_e (And.intro vb (nm_e ⟨rfl, wn_Ru (wn_Ru I Ib.symm) Ia.symm⟩))))))))))
theorem i_vc_get {k : Nat} {u : SX} {v : SY} (I : i_Rel k u v) (hk : k + 4 ≤ 2048) (v1 : Int32) : wpX_get (fun r => wpY_get (fun r' => r' = r ∧ i_Rel (k + 4) u v) v v1) u v1 := by
  obtain ⟨oh, ol, th, tl, qh, ql, rh, rl, ah, al⟩ := u
  have bad : v1 < 0 ∨ nI 8 ≤ v1 → wpX_get (fun r => wpY_get (fun r' => r' = r ∧ i_Rel (k + 4) (oh, ol, th, tl, qh, ql, rh, rl, ah, al) v) v v1) (oh, ol, th, tl, qh, ql, rh, rl, ah, al) v1 := fun z => by
    unfold wpX_get
    refine xw_badN z (br_f (by decide) ?_)
    unfold wpY_get
    exact yw_regN z (br_t rfl ⟨rfl, I⟩)
  rcases pk_ix v1 (n := 8) (by decide) with z | z | ⟨j, hj, rfl⟩
  · exact bad (Or.inl z)
  · exact bad (Or.inr z)
  · have hin : vp_in (nI j) 8 := vp_in_nI hj (by decide)
    have Ij := wn_Rc (show wn_R v ah al from I) hj
    unfold wpX_get
    refine xw_badY hj (br_t rfl (And.intro hin (And.intro hin ?_)))
    unfold wpY_get
    exact yw_regY hj (br_f (by decide) (And.intro hin ⟨Ij.trans (wn_get _ _).symm, I⟩))
theorem i_vc_less {k : Nat} {u : SX} {v : SY} (I : i_Rel k u v) (hk : k + 4 ≤ 2048) (v1 : Int32) (v2 : Int32) : wpX_less (fun r => wpY_less (fun r' => r' = r ∧ i_Rel (k + 4) u v) v v1 v2) u v1 v2 := by
  obtain ⟨oh, ol, th, tl, qh, ql, rh, rl, ah, al⟩ := u
  have bad : v1 < 0 ∨ nI 8 ≤ v1 → wpX_less (fun r => wpY_less (fun r' => r' = r ∧ i_Rel (k + 4) (oh, ol, th, tl, qh, ql, rh, rl, ah, al) v) v v1 v2) (oh, ol, th, tl, qh, ql, rh, rl, ah, al) v1 v2 := fun z => by
    unfold wpX_less
    refine xw_badN z (br_f (by decide) ?_)
    unfold wpY_less
    exact yw_regN z (br_t rfl ⟨rfl, I⟩)
  rcases pk_ix v1 (n := 8) (by decide) with z | z | ⟨a, ha, rfl⟩
  · exact bad (Or.inl z)
  · exact bad (Or.inr z)
  · have bad2 : v2 < 0 ∨ nI 8 ≤ v2 → wpX_less (fun r => wpY_less (fun r' => r' = r ∧ i_Rel (k + 4) (oh, ol, th, tl, qh, ql, rh, rl, ah, al) v) v (nI a) v2) (oh, ol, th, tl, qh, ql, rh, rl, ah, al) (nI a) v2 := fun z => by
      unfold wpX_less
      refine xw_badY ha (br_t rfl (xw_badN z (br_f (by decide) ?_)))
      unfold wpY_less
      exact yw_regY ha (br_f (by decide) (yw_regN z (br_t rfl ⟨rfl, I⟩)))
    rcases pk_ix v2 (n := 8) (by decide) with z | z | ⟨b, hb, rfl⟩
    · exact bad2 (Or.inl z)
    · exact bad2 (Or.inr z)
    · have va : vp_in (nI a) 8 := vp_in_nI ha (by decide)
      have vb : vp_in (nI b) 8 := vp_in_nI hb (by decide)
      have Ia := wn_Rc (show wn_R v ah al from I) ha
      have Ib := wn_Rc (show wn_R v ah al from I) hb
      have Y0 : v (nI b).toNatClampNeg ≤ v (nI a).toNatClampNeg → wpY_less (fun r' => r' = 0 ∧ i_Rel (k + 4) (oh, ol, th, tl, qh, ql, rh, rl, ah, al) v) v (nI a) (nI b) := fun w => by
        unfold wpY_less
        exact yw_regY ha (br_f (by decide) (yw_regY hb (br_f (by decide) (And.intro va (And.intro vb (br_t w ⟨rfl, I⟩))))))
      have Y1 : ¬ v (nI b).toNatClampNeg ≤ v (nI a).toNatClampNeg → wpY_less (fun r' => r' = 1 ∧ i_Rel (k + 4) (oh, ol, th, tl, qh, ql, rh, rl, ah, al) v) v (nI a) (nI b) := fun w => by
        unfold wpY_less
        exact yw_regY ha (br_f (by decide) (yw_regY hb (br_f (by decide) (And.intro va (And.intro vb (br_f w ⟨rfl, I⟩))))))
      rw [Ia, Ib, Int64.le_iff_toInt_le, wn_jint, wn_jint] at Y0 Y1
      unfold wpX_less
      refine xw_badY ha (br_t rfl (xw_badY hb (br_t rfl (And.intro va (And.intro vb ?_)))))
      have h1 := wn_lt (al (nI a).toNatClampNeg)
      have h2 := wn_lt (al (nI b).toNatClampNeg)
      by_cases e : ah (nI a).toNatClampNeg = ah (nI b).toNatClampNeg
      · refine br_t e (And.intro va (And.intro vb ?_))
        rw [e] at Y0 Y1
        exact xw_lower (fun w => ⟨rfl, Y0 (by omega)⟩) (fun w => ⟨rfl, Y1 (by omega)⟩)
      · refine br_f e (And.intro va (And.intro vb ?_))
        have e2 : (ah (nI a).toNatClampNeg).toInt ≠ (ah (nI b).toNatClampNeg).toInt := fun f => e (Int32.toInt_inj.mp f)
        refine br_c (fun w => Y0 ?_) (fun w => Y1 ?_)
        · rw [Int32.le_iff_toInt_le] at w
          omega
        · rw [Int32.le_iff_toInt_le] at w
          omega
theorem i_vc_below {k : Nat} {u : SX} {v : SY} (I : i_Rel k u v) (hk : k + 4 ≤ 2048) (v1 : Int32) (v2 : Int32) : wpX_below (fun r => wpY_below (fun r' => r' = r ∧ i_Rel (k + 4) u v) v v1 v2) u v1 v2 := by
  obtain ⟨oh, ol, th, tl, qh, ql, rh, rl, ah, al⟩ := u
  have bad : v1 < 0 ∨ nI 8 ≤ v1 → wpX_below (fun r => wpY_below (fun r' => r' = r ∧ i_Rel (k + 4) (oh, ol, th, tl, qh, ql, rh, rl, ah, al) v) v v1 v2) (oh, ol, th, tl, qh, ql, rh, rl, ah, al) v1 v2 := fun z => by
    unfold wpX_below
    refine xw_badN z (br_f (by decide) ?_)
    unfold wpY_below
    exact yw_regN z (br_t rfl ⟨rfl, I⟩)
  rcases pk_ix v1 (n := 8) (by decide) with z | z | ⟨a, ha, rfl⟩
  · exact bad (Or.inl z)
  · exact bad (Or.inr z)
  · have bad2 : v2 < 0 ∨ nI 8 ≤ v2 → wpX_below (fun r => wpY_below (fun r' => r' = r ∧ i_Rel (k + 4) (oh, ol, th, tl, qh, ql, rh, rl, ah, al) v) v (nI a) v2) (oh, ol, th, tl, qh, ql, rh, rl, ah, al) (nI a) v2 := fun z => by
      unfold wpX_below
      refine xw_badY ha (br_t rfl (xw_badN z (br_f (by decide) ?_)))
      unfold wpY_below
      exact yw_regY ha (br_f (by decide) (yw_regN z (br_t rfl ⟨rfl, I⟩)))
    rcases pk_ix v2 (n := 8) (by decide) with z | z | ⟨b, hb, rfl⟩
    · exact bad2 (Or.inl z)
    · exact bad2 (Or.inr z)
    · have va : vp_in (nI a) 8 := vp_in_nI ha (by decide)
      have vb : vp_in (nI b) 8 := vp_in_nI hb (by decide)
      have Ia := wn_Rc (show wn_R v ah al from I) ha
      have Ib := wn_Rc (show wn_R v ah al from I) hb
      unfold wpX_below
      refine xw_badY ha (br_t rfl (xw_badY hb (br_t rfl (And.intro va (And.intro va (And.intro vb (And.intro vb ?_)))))))
      refine xw_lowerPair (fun w => ⟨rfl, ?_⟩) (fun w => ⟨rfl, ?_⟩)
      · rw [← Ia, ← Ib] at w
        unfold wpY_below
        refine yw_regY ha (br_f (by decide) (yw_regY hb (br_f (by decide) (And.intro va (And.intro vb ?_)))))
        exact yw_less (fun _ => br_t rfl ⟨rfl, I⟩) (fun w2 => absurd w2 (by omega))
      · rw [← Ia, ← Ib] at w
        unfold wpY_below
        refine yw_regY ha (br_f (by decide) (yw_regY hb (br_f (by decide) (And.intro va (And.intro vb ?_)))))
        exact yw_less (fun w2 => absurd w2 (by omega)) (fun _ => br_f (by decide) ⟨rfl, I⟩)
theorem wn_dgx {V : Nat} (h : V < 18446744073709551616) : ∃ i, i ≤ 19 ∧ V / 10 ^ (i + 1) = 0 ∧ ∀ j, j < i → V / 10 ^ (j + 1) ≠ 0 := by
  have p : V / 10 ^ (19 + 1) = 0 := Nat.div_eq_of_lt (Nat.lt_of_lt_of_le h (by decide))
  obtain ⟨i, hi, hm⟩ := pk_least (fun i => V / 10 ^ (i + 1) = 0) ⟨19, p⟩
  exact ⟨i, Nat.le_of_not_lt fun z => hm 19 z p, hi, hm⟩
theorem i_vc_digits {k : Nat} {u : SX} {v : SY} (I : i_Rel k u v) (hk : k + 4 ≤ 2048) (v1 : Int32) : wpX_digits (fun r u' => wpY_digits (fun r' => r' = r ∧ i_Rel (k + 4) u' v) v v1) u v1 := by
  obtain ⟨oh, ol, th, tl, qh, ql, rh, rl, ah, al⟩ := u
  have bad : v1 < 0 ∨ nI 8 ≤ v1 → wpX_digits (fun r u' => wpY_digits (fun r' => r' = r ∧ i_Rel (k + 4) u' v) v v1) (oh, ol, th, tl, qh, ql, rh, rl, ah, al) v1 := fun z => by
    unfold wpX_digits
    refine xw_badN z (br_f (by decide) ?_)
    unfold wpY_digits
    exact yw_regN z (br_t rfl ⟨rfl, I⟩)
  rcases pk_ix v1 (n := 8) (by decide) with z | z | ⟨j, hj, rfl⟩
  · exact bad (Or.inl z)
  · exact bad (Or.inr z)
  · have hin : vp_in (nI j) 8 := vp_in_nI hj (by decide)
    have Ij := wn_Rc (show wn_R v ah al from I) hj
    have hV := uN_lt (v (nI j).toNatClampNeg)
    obtain ⟨i, hi, h0, hm⟩ := wn_dgx hV
    unfold wpX_digits
    refine xw_badY hj (br_t rfl (And.intro hin (And.intro hin ?_)))
    refine xw_divU fun o p q1 q2 r1 r2 f1 f2 => ⟨i + 1, xw_dg (V := uN (v (nI j).toNatClampNeg)) h0 hm hi (fun o p q1 q2 r1 r2 => ?_) i 0 _ _ _ _ _ _ (by omega) ?_⟩
    · unfold wpY_digits
      refine yw_regY hj (br_f (by decide) (And.intro hin (yw_quot fun r e => ⟨i + 1, yw_dg hV h0 hm hi ⟨rfl, I⟩ i 0 r (by omega) ?_⟩)))
      rw [e, uN_10, wn_qn (by decide)]
    · rw [f1, wn_j010, uN_10, wn_qn (by decide), ← Ij]
theorem i_vc_digitAt {k : Nat} {u : SX} {v : SY} (I : i_Rel k u v) (hk : k + 4 ≤ 2048) (v1 : Int32) (v2 : Int32) : wpX_digitAt (fun r u' => wpY_digitAt (fun r' => r' = r ∧ i_Rel (k + 4) u' v) v v1 v2) u v1 v2 := by
  obtain ⟨oh, ol, th, tl, qh, ql, rh, rl, ah, al⟩ := u
  have bad : v1 < 0 ∨ nI 8 ≤ v1 → wpX_digitAt (fun r u' => wpY_digitAt (fun r' => r' = r ∧ i_Rel (k + 4) u' v) v v1 v2) (oh, ol, th, tl, qh, ql, rh, rl, ah, al) v1 v2 := fun z => by
    unfold wpX_digitAt
    refine xw_badN z (br_f (by decide) ?_)
    unfold wpY_digitAt
    exact yw_regN z (br_t rfl ⟨rfl, I⟩)
  rcases pk_ix v1 (n := 8) (by decide) with z | z | ⟨j, hj, rfl⟩
  · exact bad (Or.inl z)
  · exact bad (Or.inr z)
  · have hin : vp_in (nI j) 8 := vp_in_nI hj (by decide)
    have Ij := wn_Rc (show wn_R v ah al from I) hj
    have hV := uN_lt (v (nI j).toNatClampNeg)
    unfold wpX_digitAt
    refine xw_badY hj (br_t rfl ?_)
    rcases pk_ix v2 (n := 20) (by decide) with z | z | ⟨i, hi, rfl⟩
    · refine br_t z ?_
      unfold wpY_digitAt
      exact yw_regY hj (br_f (by decide) (br_t z ⟨rfl, I⟩))
    · have z0 : ¬ v2 < 0 := fun q => absurd (Int32.lt_of_le_of_lt z q) (by decide)
      have z1 : ¬ v2 ≤ 19 := fun q => absurd (Int32.le_trans z q) (by decide)
      refine br_f z0 (br_f z1 ?_)
      unfold wpY_digitAt
      exact yw_regY hj (br_f (by decide) (br_f z0 (br_f z1 ⟨rfl, I⟩)))
    · have h19 : nI i ≤ nI 19 := nI_le (by omega) (by decide)
      refine br_f (nI_pos (by omega)) (br_t h19 (And.intro hin (And.intro hin ?_)))
      refine xw_divU fun o p q1 q2 r1 r2 f1 f2 => ⟨i + 1, xw_da (V := uN (v (nI j).toNatClampNeg)) (show i ≤ 19 by omega) (fun o p q1 q2 r1 r2 e => ?_) i 0 _ _ _ _ _ _ (by omega) ?_ ?_⟩
      · unfold wpY_digitAt
        refine yw_regY hj (br_f (by decide) (br_f (nI_pos (by omega)) (br_t h19 (And.intro hin (nm_e ⟨i + 1, yw_da hV (show i ≤ 19 by omega) ⟨e.symm, I⟩ i 0 _ (by omega) ?_⟩)))))
        rw [Nat.pow_zero, Nat.div_one]
      · rw [f1, wn_j010, uN_10, wn_qn (by decide), ← Ij]
      · rw [f2, wn_j010, uN_10, ← Ij, Nat.pow_zero, Nat.div_one]
theorem i_vc_root {k : Nat} {u : SX} {v : SY} (I : i_Rel k u v) (hk : k + 4 ≤ 2048) (v1 : Int32) : wpX_root (fun r u' => wpY_root (fun r' => r' = r ∧ i_Rel (k + 4) u' v) v v1) u v1 := by
  obtain ⟨oh, ol, th, tl, qh, ql, rh, rl, ah, al⟩ := u
  have bad : v1 < 0 ∨ nI 8 ≤ v1 → wpX_root (fun r u' => wpY_root (fun r' => r' = r ∧ i_Rel (k + 4) u' v) v v1) (oh, ol, th, tl, qh, ql, rh, rl, ah, al) v1 := fun z => by
    unfold wpX_root
    refine xw_badN z (br_f (by decide) ?_)
    unfold wpY_root
    exact yw_regN z (br_t rfl ⟨rfl, I⟩)
  rcases pk_ix v1 (n := 8) (by decide) with z | z | ⟨j, hj, rfl⟩
  · exact bad (Or.inl z)
  · exact bad (Or.inr z)
  · have Ij : v j = wn_j (ah j) (al j) := I j hj
    have hV := uN_lt (v j)
    unfold wpX_root
    refine xw_badY hj (br_t rfl ⟨33, xw_rt (V := uN (v j)) hj (by rw [Ij]) (fun o p r r1 r2 => ?_) 32 oh ol 0 31 (by omega) (by decide) ?_ ?_ ?_⟩)
    · unfold wpY_root
      exact yw_regY hj (br_f (by decide) ⟨33, yw_rt (V := uN (v j)) hj rfl (fun s s1 s2 => ⟨by rw [wn_rt r1 r2 s1 s2], I⟩) 32 0 4294967296 (by omega) (by omega) (by omega) (by omega) (by omega)⟩)
    · rw [wn_u0, Nat.zero_mod]
    · rw [wn_u0]
      omega
    · rw [wn_u0]
      omega
end
