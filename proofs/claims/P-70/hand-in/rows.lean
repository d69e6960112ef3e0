section
/-! rows pasted from the kit's rows to paste (starting text) -/
def bt (x : Int32) (i : Nat) : Bool := x.toBitVec.getLsbD i
theorem b_ext {x y : Int32} (h : ∀ i, i < 32 → bt x i = bt y i) : x = y := Int32.toBitVec_inj.mp (BitVec.eq_of_getLsbD_eq (fun i hi => h i hi))
theorem b_or (x y : Int32) (i : Nat) : bt (x ||| y) i = (bt x i || bt y i) := by unfold bt; rw [Int32.toBitVec_or, BitVec.getLsbD_or]
theorem b_and (x y : Int32) (i : Nat) : bt (x &&& y) i = (bt x i && bt y i) := by unfold bt; rw [Int32.toBitVec_and, BitVec.getLsbD_and]
theorem b_big {x : Int32} {i : Nat} (h : 32 ≤ i) : bt x i = false := BitVec.getLsbD_of_ge _ _ h
theorem b_65535 (i : Nat) : bt 65535 i = decide (i < 16) := by
  rcases Nat.lt_or_ge i 32 with h | h
  · exact (by decide +kernel : ∀ i, i < 32 → bt 65535 i = decide (i < 16)) i h
  · rw [b_big h, decide_eq_false (by omega)]
theorem b_0 (i : Nat) : bt 0 i = false := BitVec.getLsbD_zero
theorem s_l : ∀ n, n < 32 → ((nI n &&& 31).toBitVec.smod 32).toNat = n := by decide +kernel
theorem s_u : ∀ n, n < 32 → (((nI n).toUInt32 &&& Int32.toUInt32 31).toBitVec % 32).toNat = n := by decide +kernel
theorem b_ushr (n : Nat) (hn : n < 32) (x : Int32) (i : Nat) : bt ((x.toUInt32 >>> ((nI n).toUInt32 &&& Int32.toUInt32 31)).toInt32) i = bt x (n + i) := by
  show (x.toUInt32 >>> ((nI n).toUInt32 &&& Int32.toUInt32 31)).toBitVec.getLsbD i = x.toUInt32.toBitVec.getLsbD (n + i)
  rw [UInt32.toBitVec_shiftRight]
  show (x.toUInt32.toBitVec >>> (((nI n).toUInt32 &&& Int32.toUInt32 31).toBitVec % 32).toNat).getLsbD i = _
  rw [s_u n hn, BitVec.getLsbD_ushiftRight]
theorem b_sshr (n : Nat) (hn : n < 32) (x : Int32) {i : Nat} (hi : i < 32) : bt (x >>> (nI n &&& 31)) i = if n + i < 32 then bt x (n + i) else bt x 31 := by
  unfold bt
  rw [Int32.toBitVec_shiftRight]
  show (x.toBitVec.sshiftRight ((nI n &&& 31).toBitVec.smod 32).toNat).getLsbD i = _
  rw [s_l n hn, BitVec.getLsbD_sshiftRight, BitVec.msb_eq_getLsbD_last]
  simp [hi]
theorem em_w (v : Int32) : ∃ w : Nat, w < 65536 ∧ (v.toUInt32 % 65536).toInt32 = nI w ∧ v &&& 65535 = nI w := by
  have hr := lw_u16_r v
  have h0 : (0 : Int32).toInt = 0 := by decide
  obtain ⟨w, h1, h2⟩ := nI_of (x := lw_u16 v) (by rw [Int32.lt_iff_toInt_lt]; omega)
  have h3 : (v.toUInt32 % 65536).toInt32 = nI w := h2
  rw [h2, nI_toInt h1] at hr
  exact ⟨w, by omega, h3, by rw [← lg_i2c_mask, ← lg_i2c_nf, h3]⟩
theorem wb_tb (n : Nat) : (lN n).toBitVec = BitVec.ofNat 64 n := rfl
theorem wb_inj {a b : Int64} (h : a.toBitVec = b.toBitVec) : a = b := Int64.toBitVec_inj.mp h
theorem wb_tn {n : Nat} (h : n < 2 ^ 64) : (lN n).toBitVec.toNat = n := by rw [wb_tb, BitVec.toNat_ofNat, Nat.mod_eq_of_lt h]
theorem wb_of32 (x : Int32) : ∃ n, n < 2 ^ 32 ∧ x = nI n := ⟨x.toBitVec.toNat, x.toBitVec.isLt, Int32.toBitVec_inj.mp (by show _ = BitVec.ofNat 32 _; simp)⟩
theorem wb_c : ∀ k, k < 64 → ((nI k).toInt64 &&& 63) = lN k := by decide +kernel
theorem wb_cu : ∀ k, k < 64 → ((nI k).toInt64.toUInt64 &&& Int64.toUInt64 63) = UInt64.ofNat k := by decide +kernel
theorem wb_sm : ∀ k, k < 64 → (BitVec.ofNat 64 k).smod 64 = BitVec.ofNat 64 k := by decide +kernel
theorem wb_lt2 {a b : Nat} (h : a < b) : 2 ^ a < 2 ^ b := Nat.pow_lt_pow_right (by decide) h
theorem wb_shr {n k : Nat} (hn : n < 2 ^ 64) (hk : k < 64) : ((lN n).toUInt64 >>> ((nI k).toInt64.toUInt64 &&& Int64.toUInt64 63)).toInt64 = lN (n / 2 ^ k) := by
  rw [wb_cu k hk]
  apply wb_inj
  apply BitVec.eq_of_toNat_eq
  show ((lN n).toUInt64 >>> UInt64.ofNat k).toNat = (BitVec.ofNat 64 _).toNat
  have h1 : (UInt64.ofNat k).toNat = k := by
    show (BitVec.ofNat 64 k).toNat = k
    rw [BitVec.toNat_ofNat, Nat.mod_eq_of_lt (by omega)]
  have h2 : (lN n).toUInt64.toNat = n := wb_tn hn
  rw [UInt64.toNat_shiftRight, h1, h2, Nat.mod_eq_of_lt hk, Nat.shiftRight_eq_div_pow, BitVec.toNat_ofNat, Nat.mod_eq_of_lt (Nat.lt_of_le_of_lt (Nat.div_le_self _ _) hn)]
theorem wb_shl (n : Nat) {k : Nat} (hk : k < 64) : lN n <<< ((nI k).toInt64 &&& 63) = lN (n * 2 ^ k) := by
  rw [wb_c k hk]
  apply wb_inj
  rw [Int64.toBitVec_shiftLeft, wb_tb, wb_tb, wb_tb, wb_sm k hk]
  apply BitVec.eq_of_toNat_eq
  rw [BitVec.shiftLeft_eq', BitVec.toNat_shiftLeft, BitVec.toNat_ofNat, BitVec.toNat_ofNat, BitVec.toNat_ofNat, Nat.mod_eq_of_lt (show k < 2 ^ 64 by omega), Nat.shiftLeft_eq, Nat.mul_mod, Nat.mod_mod, ← Nat.mul_mod]
theorem wb_and {a b : Nat} (ha : a < 2 ^ 64) (hb : b < 2 ^ 64) : lN a &&& lN b = lN (a &&& b) := by
  apply wb_inj
  rw [Int64.toBitVec_and, wb_tb, wb_tb, wb_tb]
  apply BitVec.eq_of_toNat_eq
  rw [BitVec.toNat_and, BitVec.toNat_ofNat, BitVec.toNat_ofNat, BitVec.toNat_ofNat, Nat.mod_eq_of_lt ha, Nat.mod_eq_of_lt hb, Nat.mod_eq_of_lt (Nat.and_lt_two_pow _ hb)]
theorem wb_or {a b : Nat} (ha : a < 2 ^ 64) (hb : b < 2 ^ 64) : lN a ||| lN b = lN (a ||| b) := by
  apply wb_inj
  rw [Int64.toBitVec_or, wb_tb, wb_tb, wb_tb]
  apply BitVec.eq_of_toNat_eq
  rw [BitVec.toNat_or, BitVec.toNat_ofNat, BitVec.toNat_ofNat, BitVec.toNat_ofNat, Nat.mod_eq_of_lt ha, Nat.mod_eq_of_lt hb, Nat.mod_eq_of_lt (Nat.or_lt_two_pow ha hb)]
theorem wb_mask {n k : Nat} (hn : n < 2 ^ 64) (hk : k < 64) : lN n &&& lN (2 ^ k - 1) = lN (n % 2 ^ k) := by
  rw [wb_and hn (by have := wb_lt2 hk; omega), Nat.and_two_pow_sub_one_eq_mod]
theorem wb_a1 {n : Nat} (hn : n < 2 ^ 64) : lN n &&& 1 = lN (n % 2) := wb_mask (k := 1) hn (by decide)
theorem wb_bit {n k : Nat} (hn : n < 2 ^ 64) (hk : k < 64) : ((lN n).toUInt64 >>> ((nI k).toInt64.toUInt64 &&& Int64.toUInt64 63)).toInt64 &&& 1 = lN (n / 2 ^ k % 2) := by
  rw [wb_shr hn hk, wb_a1 (Nat.lt_of_le_of_lt (Nat.div_le_self _ _) hn)]
theorem pk_us {f : Nat → Int32} {k : Nat} {x : Int32} : upd f k x k = x := if_pos rfl
theorem pk_un {f : Nat → Int32} {k j : Nat} {x : Int32} (h : j ≠ k) : upd f k x j = f j := if_neg h
theorem pk_m1 (n : Nat) : nI (n + 1) + (-1) = nI n := by
  rw [← nI_1, Int32.add_assoc, show (1 : Int32) + (-1) = 0 from rfl, Int32.add_zero]
theorem pk_ix (x : Int32) {n : Nat} (hn : n < 2 ^ 31) : x < 0 ∨ nI n ≤ x ∨ ∃ j : Nat, j < n ∧ x = nI j := by
  by_cases h : x < 0
  · exact Or.inl h
  · obtain ⟨j, hj, rfl⟩ := nI_of h
    by_cases h2 : j < n
    · exact Or.inr (Or.inr ⟨j, h2, rfl⟩)
    · exact Or.inr (Or.inl (nI_le (by omega) hj))
theorem pk_tn {n : Nat} (h : n < 2 ^ 32) : (nI n).toBitVec.toNat = n := Nat.mod_eq_of_lt h
theorem pk_charN {q : Nat} (hq : q < 65536) : narrow .char (.int (nI q)) = .int (nI q) ∧ fits .char (.int (nI q)) = true := by
  constructor
  · have e : (nI q).toUInt32.toUInt16.toUInt32.toInt32 = nI q := by
      apply Int32.toBitVec_inj.mp
      apply BitVec.eq_of_toNat_eq
      show (nI q).toUInt32.toUInt16.toUInt32.toNat = q % 2 ^ 32
      rw [UInt16.toNat_toUInt32, UInt32.toNat_toUInt16, show (nI q).toUInt32.toNat = q % 2 ^ 32 from rfl]
      omega
    exact congrArg Value.int e
  · have a : (0 : Int32) ≤ nI q := nI_pos' (by omega)
    have b : nI q ≤ 65535 := nI_le (b := 65535) (by omega) (by decide)
    show (decide ((0 : Int32) ≤ nI q) && decide (nI q ≤ 65535)) = true
    rw [decide_eq_true a, decide_eq_true b]
    rfl
theorem pk_char (x : Int32) : (x.toUInt32 % 65536).toInt32 = nI (x.toBitVec.toNat % 65536) := by
  apply Int32.toBitVec_inj.mp
  apply BitVec.eq_of_toNat_eq
  rw [pk_tn (by omega)]
  show (x.toUInt32 % 65536).toNat = _
  rw [UInt32.toNat_mod]
  rfl
theorem pk_nc (x : Int32) : narrow .char (.int (x.toUInt32 % 65536).toInt32) = .int (x.toUInt32 % 65536).toInt32 := by
  rw [pk_char]
  exact (pk_charN (Nat.mod_lt _ (by decide))).1
theorem pk_vb (z : Int32) : vp_nar .byte z.toInt8.toInt32 = z.toInt8.toInt32 := by rw [vp_nar_byte]; simp
theorem pk_vs (z : Int32) : vp_nar .short z.toInt16.toInt32 = z.toInt16.toInt32 := by rw [vp_nar_short]; simp
theorem pk_vc (z : Int32) : vp_nar .char (z.toUInt32 % 65536).toInt32 = (z.toUInt32 % 65536).toInt32 := Value.int.inj (pk_nc z)
theorem pk_lT {n : Nat} (h : n < 2 ^ 63) : (lN n).toInt = (n : Int) := lg_ofNat_toInt h
theorem pk_lEQ {a b : Nat} (ha : a < 2 ^ 63) (hb : b < 2 ^ 63) : lN a = lN b ↔ a = b := by
  rw [← Int64.toInt_inj, pk_lT ha, pk_lT hb]; omega
theorem pk_least (P : Nat → Prop) (h : ∃ k, P k) : ∃ k, P k ∧ ∀ j, j < k → ¬ P j := by
  obtain ⟨k, hk⟩ := h
  induction k using Nat.strongRecOn with
  | ind k ih =>
    by_cases e : ∃ j, j < k ∧ P j
    · obtain ⟨j, hj, pj⟩ := e
      exact ih j hj pj
    · exact ⟨k, hk, fun j hj pj => e ⟨j, hj, pj⟩⟩
end
section
/-! own rows: bits -/
theorem ib_1 : ∀ i, i < 32 → bt 1 i = decide (i = 0) := by decide +kernel
theorem ib_z (x y : Int32) : x &&& y = 0 ↔ ∀ i, i < 32 → bt y i = true → bt x i = false := by
  constructor
  · intro h i hi hy
    have e := congrArg (fun z => bt z i) h
    simp only [b_and, b_0, hy, Bool.and_true] at e
    exact e
  · intro h
    apply b_ext
    intro i hi
    rw [b_and, b_0]
    cases hy : bt y i
    · rw [Bool.and_false]
    · rw [h i hi hy, Bool.false_and]
theorem ib_a1 (x : Int32) : x &&& 1 = 0 ↔ bt x 0 = false := by
  rw [ib_z]
  constructor
  · intro h
    exact h 0 (by decide) (by decide)
  · intro h i hi h1
    rw [ib_1 i hi] at h1
    have e : i = 0 := of_decide_eq_true h1
    rw [e]; exact h
theorem ib_ub (x : Int32) {j : Nat} (hj : j < 32) : ((x.toUInt32 >>> ((nI j).toUInt32 &&& Int32.toUInt32 31)).toInt32 &&& 1) = 0 ↔ bt x j = false := by
  rw [ib_a1, b_ushr j hj, Nat.add_zero]
theorem ib_sb (x : Int32) {j : Nat} (hj : j < 32) : ((x >>> (nI j &&& 31)) &&& 1) = 0 ↔ bt x j = false := by
  rw [ib_a1, b_sshr j hj x (by decide), Nat.add_zero, if_pos hj]
theorem ib_n {n j : Nat} (hj : j < 32) : bt (nI n) j = n.testBit j := by
  show (BitVec.ofNat 32 n).getLsbD j = _
  rw [BitVec.getLsbD_ofNat]
  simp [hj]
theorem ib_un {n j : Nat} (hj : j < 32) : (((nI n).toUInt32 >>> ((nI j).toUInt32 &&& Int32.toUInt32 31)).toInt32 &&& 1) = 0 ↔ n.testBit j = false := by
  rw [ib_ub _ hj, ib_n hj]
theorem ib_sn {n j : Nat} (hj : j < 32) : ((nI n >>> (nI j &&& 31)) &&& 1) = 0 ↔ n.testBit j = false := by
  rw [ib_sb _ hj, ib_n hj]
theorem ib_or (a b : Nat) : nI a ||| nI b = nI (a ||| b) := by
  apply b_ext
  intro i hi
  rw [b_or, ib_n hi, ib_n hi, ib_n hi, Nat.testBit_or]
/-- the long's one bit -/
theorem ib_l {n j : Nat} (hn : n < 2 ^ 64) (hj : j < 64) : (((lN n).toUInt64 >>> ((nI j).toInt64.toUInt64 &&& Int64.toUInt64 63)).toInt64 &&& 1) = 0 ↔ n.testBit j = false := by
  have h1 : n / 2 ^ j % 2 < 2 := Nat.mod_lt _ (by decide)
  rw [wb_bit hn hj, show (0 : Int64) = lN 0 from rfl, lN_eq (by omega) (by omega), Nat.testBit_eq_decide_div_mod_eq, decide_eq_false_iff_not]
  omega
theorem ib_sh {j : Nat} (hj : j < 64) : (1 : Int64) <<< ((nI j).toInt64 &&& 63) = lN (2 ^ j) := by
  have h := wb_shl 1 hj
  rw [Nat.one_mul] at h
  exact h
theorem ib_os {n j : Nat} (hn : n < 2 ^ 64) (hj : j < 64) : lN n ||| ((1 : Int64) <<< ((nI j).toInt64 &&& 63)) = lN (n ||| 2 ^ j) := by
  rw [ib_sh hj, wb_or hn (wb_lt2 hj)]
/-! masks of flags -/
theorem ib_u {x a b d : Int32} (hm : ∀ i, i < 32 → bt d i = (bt a i || bt b i)) : x &&& d = 0 ↔ x &&& a = 0 ∧ x &&& b = 0 := by
  rw [ib_z, ib_z, ib_z]
  constructor
  · intro h
    exact ⟨fun i hi ha => h i hi (by rw [hm i hi, ha, Bool.true_or]), fun i hi hb => h i hi (by rw [hm i hi, hb, Bool.or_true])⟩
  · intro h i hi hd
    rw [hm i hi, Bool.or_eq_true] at hd
    rcases hd with hd | hd
    · exact h.1 i hi hd
    · exact h.2 i hi hd
theorem ib_s {x a b d : Int32} {p : Nat} (hp : p < 32) (hb : ∀ i, i < 32 → bt b i = decide (i = p)) (hm : ∀ i, i < 32 → bt d i = (bt a i || bt b i)) (ha : bt a p = false) : x &&& d = b ↔ x &&& a = 0 ∧ ¬ x &&& b = 0 := by
  have hbp : bt b p = true := by rw [hb p hp]; exact decide_eq_true rfl
  have hB : x &&& b = 0 ↔ bt x p = false := by
    rw [ib_z]
    constructor
    · intro h; exact h p hp hbp
    · intro h i hi hbi
      rw [hb i hi] at hbi
      have e : i = p := of_decide_eq_true hbi
      rw [e]; exact h
  rw [hB, ib_z]
  constructor
  · intro h
    have e : ∀ i, bt (x &&& d) i = bt b i := fun i => by rw [h]
    constructor
    · intro i hi hai
      have e1 := e i
      have hne : ¬ i = p := by
        intro z
        rw [z, ha] at hai
        exact absurd hai (by decide)
      rw [b_and, hm i hi, hai, Bool.true_or, Bool.and_true, hb i hi, decide_eq_false hne] at e1
      exact e1
    · intro hx
      have e1 := e p
      rw [b_and, hx, Bool.false_and, hbp] at e1
      exact absurd e1 (by decide)
  · intro h
    apply b_ext
    intro i hi
    rw [b_and, hm i hi]
    by_cases z : i = p
    · have hx : bt x p = true := by
        cases w : bt x p
        · exact absurd w h.2
        · rfl
      rw [z, hbp, Bool.or_true, Bool.and_true, hx]
    · rw [hb i hi, decide_eq_false z, Bool.or_false]
      cases w : bt a i
      · rw [Bool.and_false]
      · rw [h.1 i hi w, Bool.false_and]
theorem ib_d1034 : ∀ i, i < 32 → bt 1034 i = (bt 10 i || bt 1024 i) := by decide +kernel
theorem ib_d1024 : ∀ i, i < 32 → bt 1024 i = decide (i = 10) := by decide +kernel
theorem ib_d9 : ∀ i, i < 32 → bt 9 i = (bt 8 i || bt 1 i) := by decide +kernel
theorem ib_1034z (x : Int32) : x &&& 1034 = 0 ↔ x &&& 10 = 0 ∧ x &&& 1024 = 0 := ib_u ib_d1034
theorem ib_1034s (x : Int32) : x &&& 1034 = 1024 ↔ x &&& 10 = 0 ∧ ¬ x &&& 1024 = 0 := ib_s (p := 10) (by decide) ib_d1024 ib_d1034 (by decide +kernel)
theorem ib_9 (x : Int32) : x &&& 9 = 1 ↔ x &&& 8 = 0 ∧ ¬ x &&& 1 = 0 := ib_s (p := 0) (by decide) ib_1 ib_d9 (by decide +kernel)
/-! a sig as a short and as & 65535 -/
theorem ib_sg (x : Int32) {i : Nat} (hi : i < 32) : bt x.toInt16.toInt32 i = if i < 16 then bt x i else bt x 15 := by
  unfold bt
  rw [Int16.toBitVec_toInt32, Int32.toBitVec_toInt16, BitVec.getLsbD_signExtend]
  by_cases z : i < 16
  · rw [if_pos z, if_pos z, BitVec.getLsbD_signExtend, if_pos (by omega)]
    simp [hi, z]
  · rw [if_neg z, if_neg z, BitVec.msb_eq_getLsbD_last, BitVec.getLsbD_signExtend, if_pos (by omega)]
    simp [hi]
theorem ib_sig (x y : Int32) : x.toInt16.toInt32 = y.toInt16.toInt32 ↔ x &&& 65535 = y &&& 65535 := by
  constructor
  · intro h
    apply b_ext
    intro i hi
    rw [b_and, b_and, b_65535]
    by_cases z : i < 16
    · have e := congrArg (fun w => bt w i) h
      rw [ib_sg x hi, ib_sg y hi, if_pos z, if_pos z] at e
      rw [e]
    · rw [decide_eq_false z, Bool.and_false, Bool.and_false]
  · intro h
    have e : ∀ i, i < 16 → bt x i = bt y i := by
      intro i z
      have e := congrArg (fun w => bt w i) h
      rw [b_and, b_and, b_65535, decide_eq_true z, Bool.and_true, Bool.and_true] at e
      exact e
    apply b_ext
    intro i hi
    rw [ib_sg x hi, ib_sg y hi]
    by_cases z : i < 16
    · rw [if_pos z, if_pos z, e i z]
    · rw [if_neg z, if_neg z, e 15 (by decide)]
theorem ib_c (x : Int32) : (x.toUInt32 % 65536).toInt32 = x &&& 65535 := by
  obtain ⟨w, _, h1, h2⟩ := em_w x
  rw [h1, h2]
theorem ib_vc (x : Int32) : vp_nar .char (x.toUInt32 % 65536).toInt32 = x &&& 65535 := by
  rw [pk_vc, ib_c]
theorem ib_b : ∀ k, k < 64 → (nI k).toInt8.toInt32 = nI k := by decide +kernel
theorem ib_vb {k : Nat} (hk : k < 64) : vp_nar .byte (nI k).toInt8.toInt32 = nI k := by
  rw [pk_vb, ib_b k hk]
theorem ib_v33 : vp_nar .char 33 = 33 := by rw [vp_nar_char]; decide
theorem ib_l64 (x : Int32) {i : Nat} (hi : i < 64) : x.toInt64.toBitVec.getLsbD i = if i < 32 then bt x i else bt x 31 := by
  rw [Int32.toBitVec_toInt64, BitVec.getLsbD_signExtend]
  by_cases z : i < 32
  · rw [if_pos z, if_pos z]; simp [hi, bt]
  · rw [if_neg z, if_neg z, BitVec.msb_eq_getLsbD_last]; simp [hi, bt]
theorem ib_L65535 : ∀ i, i < 64 → (65535 : Int64).toBitVec.getLsbD i = decide (i < 16) := by decide +kernel
theorem ib_row (g : Int32) : (g &&& 65535).toInt64 = g.toInt16.toInt32.toInt64 &&& 65535 := by
  apply wb_inj
  apply BitVec.eq_of_getLsbD_eq
  intro i hi
  rw [Int64.toBitVec_and, BitVec.getLsbD_and, ib_l64 _ hi, ib_l64 _ hi, ib_L65535 i hi]
  by_cases z : i < 16
  · rw [if_pos (by omega), if_pos (by omega), b_and, b_65535, ib_sg g (by omega), if_pos z]
  · rw [decide_eq_false z, Bool.and_false]
    by_cases z2 : i < 32
    · rw [if_pos z2, b_and, b_65535, decide_eq_false z, Bool.and_false]
    · rw [if_neg z2, b_and, b_65535, decide_eq_false (by decide), Bool.and_false]
end
section
/-! own rows: the closure of a mask, and masks, counts and last hits of a set -/
def ic_step (s : Nat → Nat) (M j : Nat) : Nat := if M.testBit j = true then M ||| s j else M
theorem ic_st {s : Nat → Nat} {M j : Nat} (h : M.testBit j = true) : ic_step s M j = M ||| s j := if_pos h
theorem ic_sf {s : Nat → Nat} {M j : Nat} (h : M.testBit j = false) : ic_step s M j = M := if_neg (by rw [h]; decide)
def ic_cl (s : Nat → Nat) : Nat → Nat → Nat
  | 0, M => M
  | j + 1, M => ic_cl s j (ic_step s M j)
def ic_asc (s : Nat → Nat) (M : Nat) : Nat → Nat
  | 0 => M
  | j + 1 => ic_step s (ic_asc s M j) j
def ic_rs (s : Nat → Nat) (c M : Nat) : Nat → Nat
  | 0 => M
  | r + 1 => ic_asc s (ic_rs s c M r) c
def ic_sub (A B : Nat) : Prop := ∀ i, A.testBit i = true → B.testBit i = true
def ic_cd (s : Nat → Nat) (t M : Nat) : Prop := ∀ i k, t ≤ i → M.testBit i = true → (s i).testBit k = true → M.testBit k = true
theorem ic_bit (s : Nat → Nat) (M j i : Nat) : (ic_step s M j).testBit i = true ↔ M.testBit i = true ∨ (M.testBit j = true ∧ (s j).testBit i = true) := by
  cases h : M.testBit j
  · rw [ic_sf h]
    constructor
    · exact Or.inl
    · rintro (z | z)
      · exact z
      · exact absurd z.1 (by decide)
  · rw [ic_st h, Nat.testBit_or, Bool.or_eq_true]
    constructor
    · rintro (z | z)
      · exact Or.inl z
      · exact Or.inr ⟨rfl, z⟩
    · rintro (z | z)
      · exact Or.inl z
      · exact Or.inr z.2
section
variable {s : Nat → Nat}
theorem ic_lo (hs : ∀ j, s j < 2 ^ j) {j k : Nat} (h : (s j).testBit k = true) : k < j := by
  apply Nat.lt_of_not_le
  intro z
  rw [Nat.testBit_lt_two_pow (Nat.lt_of_lt_of_le (hs j) (Nat.pow_le_pow_right (by decide) z))] at h
  exact absurd h (by decide)
theorem ic_up1 {M j : Nat} : ic_sub M (ic_step s M j) := fun i h => (ic_bit s M j i).mpr (Or.inl h)
theorem ic_in1 {M T j : Nat} (h : ic_sub M T) (hT : ic_cd s 0 T) : ic_sub (ic_step s M j) T := by
  intro i hi
  rcases (ic_bit s M j i).mp hi with z | z
  · exact h i z
  · exact hT j i (Nat.zero_le _) (h j z.1) z.2
theorem ic_keep (hs : ∀ j, s j < 2 ^ j) {t M j : Nat} (h : ic_cd s t M) : ic_cd s t (ic_step s M j) := by
  intro i k hi hb hk
  apply ic_up1
  refine h i k hi ?_ hk
  rcases (ic_bit s M j i).mp hb with z | z
  · exact z
  · have hij := ic_lo hs z.2
    exact h j i (by omega) z.1 z.2
theorem ic_down (hs : ∀ j, s j < 2 ^ j) {M j : Nat} (h : ic_cd s (j + 1) M) : ic_cd s j (ic_step s M j) := by
  intro i k hi hb hk
  rcases Nat.lt_or_ge j i with z | z
  · exact ic_keep hs h i k z hb hk
  · have e : i = j := by omega
    subst e
    refine (ic_bit s M i k).mpr (Or.inr ⟨?_, hk⟩)
    rcases (ic_bit s M i i).mp hb with z | z
    · exact z
    · exact z.1
theorem ic_cd0 (hs : ∀ j, s j < 2 ^ j) {a t : Nat} (h : a ≤ t) : ic_cd s t (s a) := by
  intro i k hi hb _
  have := ic_lo hs hb
  omega
/-! the descending pass -/
theorem ic_cl_cd (hs : ∀ j, s j < 2 ^ j) : ∀ (j M : Nat), ic_cd s j M → ic_cd s 0 (ic_cl s j M)
  | 0, _, h => h
  | j + 1, M, h => ic_cl_cd hs j (ic_step s M j) (ic_down hs h)
theorem ic_cl_up : ∀ (j M : Nat), ic_sub M (ic_cl s j M)
  | 0, _ => fun _ h => h
  | j + 1, M => fun i h => ic_cl_up j (ic_step s M j) i (ic_up1 i h)
theorem ic_cl_in {T : Nat} (hT : ic_cd s 0 T) : ∀ (j M : Nat), ic_sub M T → ic_sub (ic_cl s j M) T
  | 0, _, h => h
  | j + 1, M, h => ic_cl_in hT j (ic_step s M j) (ic_in1 h hT)
theorem ic_st64 (h6 : ∀ j, s j < 64) {M j : Nat} (h : M < 64) : ic_step s M j < 64 := by
  cases z : M.testBit j
  · rw [ic_sf z]; exact h
  · rw [ic_st z]; exact Nat.or_lt_two_pow (n := 6) h (h6 j)
theorem ic_cl64 (h6 : ∀ j, s j < 64) : ∀ (j M : Nat), M < 64 → ic_cl s j M < 64
  | 0, _, h => h
  | j + 1, M, h => ic_cl64 h6 j (ic_step s M j) (ic_st64 h6 h)
theorem ic_cl_no (hs : ∀ j, s j < 2 ^ j) {a : Nat} : ∀ (j M : Nat), j ≤ a → M.testBit a = false → (ic_cl s j M).testBit a = false
  | 0, _, _, h => h
  | j + 1, M, hj, h => by
    refine ic_cl_no hs j (ic_step s M j) (by omega) ?_
    cases z : (ic_step s M j).testBit a
    · rfl
    · rcases (ic_bit s M j a).mp z with y | y
      · rw [h] at y; exact absurd y (by decide)
      · have := ic_lo hs y.2; omega
/-! the ascending rounds -/
theorem ic_asc_keep (hs : ∀ j, s j < 2 ^ j) {t M : Nat} (h : ic_cd s t M) : ∀ n, ic_cd s t (ic_asc s M n)
  | 0 => h
  | n + 1 => ic_keep hs (ic_asc_keep hs h n)
theorem ic_asc_down (hs : ∀ j, s j < 2 ^ j) {t M : Nat} (h : ic_cd s (t + 1) M) : ∀ n, t < n → ic_cd s t (ic_asc s M n)
  | 0, z => absurd z (Nat.not_lt_zero _)
  | n + 1, z => by
    rcases Nat.lt_or_ge t n with y | y
    · exact ic_keep hs (ic_asc_down hs h n y)
    · have e : t = n := by omega
      subst e
      exact ic_down hs (ic_asc_keep hs h t)
theorem ic_asc_up {M : Nat} : ∀ n, ic_sub M (ic_asc s M n)
  | 0 => fun _ h => h
  | n + 1 => fun i h => ic_up1 i (ic_asc_up n i h)
theorem ic_asc_in {M T : Nat} (hT : ic_cd s 0 T) (h : ic_sub M T) : ∀ n, ic_sub (ic_asc s M n) T
  | 0 => h
  | n + 1 => ic_in1 (ic_asc_in hT h n) hT
theorem ic_asc64 (h6 : ∀ j, s j < 64) {M : Nat} (h : M < 64) : ∀ n, ic_asc s M n < 64
  | 0 => h
  | n + 1 => ic_st64 h6 (ic_asc64 h6 h n)
theorem ic_rs_cd (hs : ∀ j, s j < 2 ^ j) {c M : Nat} (h : ic_cd s c M) : ∀ r, r ≤ c → ic_cd s (c - r) (ic_rs s c M r)
  | 0, _ => h
  | r + 1, z => by
    have e : c - r = (c - (r + 1)) + 1 := by omega
    have ih := ic_rs_cd hs h r (by omega)
    rw [e] at ih
    exact ic_asc_down hs ih c (by omega)
theorem ic_rs_up {c M : Nat} : ∀ r, ic_sub M (ic_rs s c M r)
  | 0 => fun _ h => h
  | r + 1 => fun i h => ic_asc_up c i (ic_rs_up r i h)
theorem ic_rs_in {c M T : Nat} (hT : ic_cd s 0 T) (h : ic_sub M T) : ∀ r, ic_sub (ic_rs s c M r) T
  | 0 => h
  | r + 1 => ic_asc_in hT (ic_rs_in hT h r) c
theorem ic_rs64 (h6 : ∀ j, s j < 64) {c M : Nat} (h : M < 64) : ∀ r, ic_rs s c M r < 64
  | 0 => h
  | r + 1 => ic_asc64 h6 (ic_rs64 h6 h r) c
/-- the descending pass and the ascending rounds give one mask -/
theorem ic_same (hs : ∀ j, s j < 2 ^ j) {a c : Nat} (h : a ≤ c) : ic_rs s c (s a) c = ic_cl s a (s a) := by
  have cX : ic_cd s 0 (ic_cl s a (s a)) := ic_cl_cd hs a (s a) (ic_cd0 hs (Nat.le_refl a))
  have cY : ic_cd s 0 (ic_rs s c (s a) c) := by
    have z := ic_rs_cd hs (ic_cd0 hs h) c (Nat.le_refl c)
    rw [Nat.sub_self] at z
    exact z
  have iX : ic_sub (ic_cl s a (s a)) (ic_rs s c (s a) c) := ic_cl_in cY a (s a) (ic_rs_up c)
  have iY : ic_sub (ic_rs s c (s a) c) (ic_cl s a (s a)) := ic_rs_in cX (ic_cl_up a (s a)) c
  apply Nat.eq_of_testBit_eq
  intro i
  rw [Bool.eq_iff_iff]
  exact ⟨iY i, iX i⟩
end
/-- the closure of row a -/
def ic_c (s : Nat → Nat) (a : Nat) : Nat := ic_cl s a (s a)
theorem ic_c64 {s : Nat → Nat} (h6 : ∀ j, s j < 64) (a : Nat) : ic_c s a < 64 := ic_cl64 h6 a (s a) (h6 a)
theorem ic_cno {s : Nat → Nat} (hs : ∀ j, s j < 2 ^ j) (a : Nat) : (ic_c s a).testBit a = false := ic_cl_no hs a (s a) (Nat.le_refl a) (Nat.testBit_lt_two_pow (hs a))
/-! an 'if' over a Prop, masks, counts, last hits -/
noncomputable def im_if {α : Type} (p : Prop) (a b : α) : α := @ite α p (Classical.propDecidable p) a b
theorem im_t {α : Type} {p : Prop} {a b : α} (h : p) : im_if p a b = a := by unfold im_if; exact @if_pos p (Classical.propDecidable p) h α a b
theorem im_f {α : Type} {p : Prop} {a b : α} (h : ¬ p) : im_if p a b = b := by unfold im_if; exact @if_neg p (Classical.propDecidable p) h α a b
noncomputable def im_mk (P : Nat → Prop) : Nat → Nat
  | 0 => 0
  | n + 1 => im_if (P n) (im_mk P n ||| 2 ^ n) (im_mk P n)
noncomputable def im_cn (P : Nat → Prop) : Nat → Nat
  | 0 => 0
  | n + 1 => im_if (P n) (im_cn P n + 1) (im_cn P n)
noncomputable def im_la (P : Nat → Prop) : Nat → Int32
  | 0 => -1
  | n + 1 => im_if (P n) (nI n) (im_la P n)
section
variable {P : Nat → Prop} {n : Nat}
theorem im_mk_t (h : P n) : im_mk P (n + 1) = im_mk P n ||| 2 ^ n := im_t h
theorem im_mk_f (h : ¬ P n) : im_mk P (n + 1) = im_mk P n := im_f h
theorem im_cn_t (h : P n) : im_cn P (n + 1) = im_cn P n + 1 := im_t h
theorem im_cn_f (h : ¬ P n) : im_cn P (n + 1) = im_cn P n := im_f h
theorem im_la_t (h : P n) : im_la P (n + 1) = nI n := im_t h
theorem im_la_f (h : ¬ P n) : im_la P (n + 1) = im_la P n := im_f h
end
theorem im_mk_lt (P : Nat → Prop) : ∀ n, im_mk P n < 2 ^ n
  | 0 => by show 0 < 1; decide
  | n + 1 => by
    have ih := im_mk_lt P n
    have h2 : 2 ^ n < 2 ^ (n + 1) := Nat.pow_lt_pow_right (by decide) (Nat.lt_succ_self n)
    by_cases h : P n
    · rw [im_mk_t h]; exact Nat.or_lt_two_pow (by omega) h2
    · rw [im_mk_f h]; omega
theorem im_mk_bit (P : Nat → Prop) (j : Nat) : ∀ n, (im_mk P n).testBit j = true ↔ j < n ∧ P j
  | 0 => by
    show (0 : Nat).testBit j = true ↔ _
    rw [Nat.zero_testBit]
    exact ⟨fun z => absurd z (by decide), fun z => absurd z.1 (Nat.not_lt_zero _)⟩
  | n + 1 => by
    have ih := im_mk_bit P j n
    by_cases h : P n
    · rw [im_mk_t h, Nat.testBit_or, Bool.or_eq_true, ih, Nat.testBit_two_pow, decide_eq_true_eq]
      constructor
      · rintro (z | z)
        · exact ⟨by omega, z.2⟩
        · subst z; exact ⟨Nat.lt_succ_self _, h⟩
      · rintro ⟨z, w⟩
        rcases Nat.lt_or_ge j n with y | y
        · exact Or.inl ⟨y, w⟩
        · exact Or.inr (by omega)
    · rw [im_mk_f h, ih]
      constructor
      · rintro ⟨z, w⟩; exact ⟨by omega, w⟩
      · rintro ⟨z, w⟩
        refine ⟨?_, w⟩
        rcases Nat.lt_or_ge j n with y | y
        · exact y
        · have e : j = n := by omega
          subst e; exact absurd w h
theorem im_cn_le (P : Nat → Prop) : ∀ n, im_cn P n ≤ n
  | 0 => Nat.le_refl 0
  | n + 1 => by
    have ih := im_cn_le P n
    by_cases h : P n
    · rw [im_cn_t h]; omega
    · rw [im_cn_f h]; omega
theorem im_cn0 (P : Nat → Prop) : ∀ n, im_cn P n = 0 → im_mk P n = 0
  | 0, _ => rfl
  | n + 1, z => by
    by_cases h : P n
    · rw [im_cn_t h] at z; omega
    · rw [im_cn_f h] at z; rw [im_mk_f h]; exact im_cn0 P n z
theorem im_cn1 (P : Nat → Prop) : ∀ n, im_cn P n = 1 → ∃ k, k < n ∧ im_la P n = nI k ∧ im_mk P n = 2 ^ k
  | 0, z => absurd z (by show ¬ 0 = 1; decide)
  | n + 1, z => by
    by_cases h : P n
    · rw [im_cn_t h] at z
      refine ⟨n, Nat.lt_succ_self n, im_la_t h, ?_⟩
      rw [im_mk_t h, im_cn0 P n (by omega), Nat.zero_or]
    · rw [im_cn_f h] at z
      obtain ⟨k, h1, h2, h3⟩ := im_cn1 P n z
      exact ⟨k, by omega, by rw [im_la_f h]; exact h2, by rw [im_mk_f h]; exact h3⟩
/-- one concrete maximal candidate: the set of candidates is not empty -/
theorem im_cn1_ne {P Q : Nat → Prop} (hQ : ∀ i, Q i → P i) {n : Nat} (h : im_cn Q n = 1) : im_mk P n ≠ 0 := by
  obtain ⟨k, h1, _, h3⟩ := im_cn1 Q n h
  have hk : Q k := ((im_mk_bit Q k n).mp (by rw [h3, Nat.testBit_two_pow]; exact decide_eq_true rfl)).2
  intro z
  have w := (im_mk_bit P k n).mpr ⟨h1, hQ k hk⟩
  rw [z, Nat.zero_testBit] at w
  exact absurd w (by decide)
theorem im_cn_no {P Q : Nat → Prop} (hQ : ∀ i, Q i → P i) {n : Nat} (h : im_mk P n = 0) : ¬ im_cn Q n = 1 := fun z => im_cn1_ne hQ z h
/-- a loop that leaves at the first hit -/
theorem im_scan (W : Nat → Nat → Prop) (N : Nat) (H : Nat → Prop) (A : Prop) (B : Nat → Prop)
    (hend : A → ∀ n, W (n + 1) N)
    (hstep : ∀ n i, i < N → ¬ H i → W n (i + 1) → W (n + 1) i)
    (hout : ∀ n i, i < N → H i → B i → W (n + 1) i)
    (hA : (∀ j, j < N → ¬ H j) → A)
    (hB : ∀ k, k < N → H k → (∀ j, j < k → ¬ H j) → B k) : W (N + 1) 0 := by
  have key : ∀ d i, i + d = N → (∀ j, j < i → ¬ H j) → W (d + 1) i := by
    intro d
    induction d with
    | zero =>
      intro i hi h
      have e : i = N := by omega
      subst e
      exact hend (hA h) 0
    | succ d ih =>
      intro i hi h
      by_cases z : H i
      · exact hout (d + 1) i (by omega) z (hB i (by omega) z h)
      · exact hstep (d + 1) i (by omega) z (ih (i + 1) (by omega) (lt_s h z))
  exact key N 0 (by omega) lt_0
theorem im_lst (H : Nat → Prop) : ∀ N : Nat, (∀ j, j < N → ¬ H j) ∨ ∃ k, k < N ∧ H k ∧ ∀ j, j < k → ¬ H j
  | 0 => Or.inl lt_0
  | N + 1 => by
    rcases im_lst H N with h | ⟨k, h1, h2, h3⟩
    · by_cases z : H N
      · exact Or.inr ⟨N, Nat.lt_succ_self N, z, h⟩
      · exact Or.inl (lt_s h z)
    · exact Or.inr ⟨k, by omega, h2, h3⟩
theorem im_un {H : Nat → Prop} {k k' : Nat} (h : H k) (g : ∀ j, j < k → ¬ H j) (h' : H k') (g' : ∀ j, j < k' → ¬ H j) : k' = k := by
  rcases Nat.lt_trichotomy k' k with z | z | z
  · exact absurd h' (g k' z)
  · exact z
  · exact absurd h (g' k z)
end
section
/-! own rows: the walks of closure (X) and above (Y): both give nI (ic_c s a) -/
theorem iw_m1 (j : Nat) : nI j + (-1) = nI j - 1 := by rw [Int32.sub_eq_add_neg]
theorem iw_n1 : nI 0 - 1 < 0 := by decide
section
variable {kc : Int32} {c m : Nat} {ch : Int64} {cf aS aO aX aY fl : Nat → Int32} {s : Nat → Nat}
theorem iw_x11 (hS : ∀ j, aS j = nI (s j)) {post : Int32 → Prop} : ∀ (j M n : Nat), j < n → j ≤ 6 → post (nI (ic_cl s j M)) → wX_closure_11 post kc (nI c) (nI m) cf aS aO aX fl n (nI M) (nI j - 1)
  | 0, M, 0, h, _, _ => absurd h (by decide)
  | 0, M, n + 1, _, _, hp => br_t iw_n1 hp
  | j + 1, M, 0, h, _, _ => absurd h (Nat.not_lt_zero _)
  | j + 1, M, n + 1, h, h6, hp => by
    rw [nI_pred]
    refine br_f (nI_pos (by omega)) ?_
    cases hb : M.testBit j
    · refine br_t ((ib_un (by omega)).mpr hb) (nm_r (iw_m1 j) (iw_x11 hS j M n (by omega) (by omega) ?_))
      have e : ic_cl s (j + 1) M = ic_cl s j (ic_step s M j) := rfl
      rw [e, ic_sf hb] at hp
      exact hp
    · refine br_f (fun z => ?_) ⟨vp_in_nI (by omega) (by omega), nm_r (e' := nI (M ||| s j)) ?_ (nm_r (iw_m1 j) (iw_x11 hS j (M ||| s j) n (by omega) (by omega) ?_))⟩
      · rw [(ib_un (by omega)).mp z] at hb
        exact absurd hb (by decide)
      · rw [nI_clamp (by omega), hS, ib_or]
      · have e : ic_cl s (j + 1) M = ic_cl s j (ic_step s M j) := rfl
        rw [e, ic_st hb] at hp
        exact hp
theorem iw_xc (hS : ∀ j, aS j = nI (s j)) {post : Int32 → Prop} {a : Nat} (ha : a < 6) (hp : post (nI (ic_c s a))) : wpX_closure post (kc, nI c, nI m, cf, aS, aO, aX, fl) (nI a) := by
  refine And.intro (vp_in_nI ha (by omega)) (nm_r (e' := nI (s a)) ?_ (nm_e ⟨a + 1, iw_x11 hS a (s a) (a + 1) (by omega) (by omega) hp⟩))
  rw [nI_clamp (by omega), hS]
theorem iw_y20 (hS : ∀ j, aS j = nI (s j)) (hc : c ≤ 6) {post : Int32 → Prop} {J : Int32 → Int32 → Prop} {x3 : Int32} {M : Nat} (hp : J (nI (ic_asc s M c)) (x3 + 1)) : ∀ (d j : Nat), j + d = c → wY_above_20 post J x3 kc (nI c) (nI m) ch cf aS aO aY fl (d + 1) (nI (ic_asc s M j)) (nI j) := by
  intro d
  induction d with
  | zero =>
    intro j hj
    have e : j = c := by omega
    subst e
    exact br_t (nI_le (Nat.le_refl j) (by omega)) (nm_e hp)
  | succ d ih =>
    intro j hj
    have ih := ih (j + 1) (by omega)
    have e : ic_asc s M (j + 1) = ic_step s (ic_asc s M j) j := rfl
    refine br_f (nI_ge (by omega) (by omega)) ?_
    cases hb : (ic_asc s M j).testBit j
    · rw [e, ic_sf hb] at ih
      exact br_t ((ib_sn (by omega)).mpr hb) (nm_r (nI_1 j) ih)
    · rw [e, ic_st hb] at ih
      refine br_f (fun z => ?_) ⟨vp_in_nI (by omega) (by omega), nm_r (e' := nI (ic_asc s M j ||| s j)) ?_ (nm_r (nI_1 j) ih)⟩
      · rw [(ib_sn (by omega)).mp z] at hb
        exact absurd hb (by decide)
      · rw [nI_clamp (by omega), hS, ib_or]
theorem iw_y9 (hS : ∀ j, aS j = nI (s j)) (hc : c ≤ 6) {post : Int32 → Prop} {M : Nat} (hp : post (nI (ic_rs s c M c))) : ∀ (d r : Nat), r + d = c → wY_above_9 post kc (nI c) (nI m) ch cf aS aO aY fl (d + 1) (nI (ic_rs s c M r)) (nI r) := by
  intro d
  induction d with
  | zero =>
    intro r hr
    have e : r = c := by omega
    subst e
    exact br_t (nI_le (Nat.le_refl r) (by omega)) hp
  | succ d ih =>
    intro r hr
    have ih := ih (r + 1) (by omega)
    rw [← nI_1] at ih
    exact br_f (nI_ge (by omega) (by omega)) ⟨c + 1, iw_y20 hS hc ih c 0 (by omega)⟩
theorem iw_ya (hS : ∀ j, aS j = nI (s j)) (hs : ∀ j, s j < 2 ^ j) (hc : c ≤ 6) {post : Int32 → Prop} {a : Nat} (ha : a < c) (hp : post (nI (ic_c s a))) : wpY_above post (kc, nI c, nI m, ch, cf, aS, aO, aY, fl) (nI a) := by
  have e : ic_rs s c (s a) c = ic_c s a := ic_same hs (by omega)
  rw [← e] at hp
  refine And.intro (vp_in_nI (by omega) (by omega)) (nm_r (e' := nI (s a)) ?_ ⟨c + 1, iw_y9 hS hc hp c 0 (by omega)⟩)
  rw [nI_clamp (by omega), hS]
end
end
section
/-! own rows: the walk of X's solve -/
/-- a candidate: the sig fits, the owner is in the mask U, neither private nor static -/
def iq_P (E : Nat → Prop) (o : Nat → Nat) (U : Nat) (fl : Nat → Int32) (k : Nat) : Prop := E k ∧ U.testBit (o k) = true ∧ fl k &&& 10 = 0
/-- no candidate below n is owned by a row whose closure holds i's owner -/
def iq_M (s : Nat → Nat) (P : Nat → Prop) (o : Nat → Nat) (n i : Nat) : Prop := ∀ k, k < n → P k → (ic_c s (o k)).testBit (o i) = false
def iq_Q (s : Nat → Nat) (P : Nat → Prop) (o : Nat → Nat) (fl : Nat → Int32) (n i : Nat) : Prop := P i ∧ fl i &&& 1024 = 0 ∧ iq_M s P o n i
theorem iq_QP {s : Nat → Nat} {P : Nat → Prop} {o : Nat → Nat} {fl : Nat → Int32} {n : Nat} : ∀ i, iq_Q s P o fl n i → P i := fun _ h => h.1
theorem iz_nf {x : Bool} (h : ¬ x = false) : x = true := by
  cases x
  · exact absurd rfl h
  · rfl
theorem iz_ff {x : Bool} (h : x = false) : ¬ x = true := by rw [h]; decide
theorem iz_l0 {n : Nat} (h : n < 2 ^ 31) : lN n = 0 ↔ n = 0 := lN_eq (b := 0) h (by decide)
theorem iz_n1 {n : Nat} (h : n < 2 ^ 31) : nI n = 1 ↔ n = 1 := nI_eq (b := 1) h (by decide)
theorem iz_mk (P : Nat → Prop) {i : Nat} (h : i ≤ 12) : im_mk P i < 4096 := Nat.lt_of_lt_of_le (im_mk_lt P i) (Nat.pow_le_pow_right (n := 2) (by decide) h)
theorem iz_10 : ¬ (1 : Int32) = 0 := by decide
section
variable {kc : Int32} {c m : Nat} {cf aS aO aX fl : Nat → Int32} {s o : Nat → Nat} {post : Int64 → Prop} {x1 x3 : Int32}
theorem iz_37 (hm : m ≤ 12)
    (hA : (∀ j, j < m → ¬ (aO j = x1 ∧ aX j = x3)) → ∃ n82 : Nat, wX_solve_82 post x1 x3 kc (nI c) (nI m) cf aS aO aX fl n82 0)
    (hB : ∀ k, k < m → (aO k = x1 ∧ aX k = x3) → (∀ j, j < k → ¬ (aO j = x1 ∧ aX j = x3)) → post ((1 : Int64) <<< ((nI k).toInt64 &&& 63))) :
    wX_solve_37 post x1 x3 kc (nI c) (nI m) cf aS aO aX fl (m + 1) (nI 0) := by
  refine im_scan (fun n i => wX_solve_37 post x1 x3 kc (nI c) (nI m) cf aS aO aX fl n (nI i)) m (fun j => aO j = x1 ∧ aX j = x3) _ (fun k => post ((1 : Int64) <<< ((nI k).toInt64 &&& 63))) ?_ ?_ ?_ hA hB
  · intro h n
    exact br_t (nI_le (Nat.le_refl m) (by omega)) h
  · intro n i hi hH hw
    have hv : vp_in (nI i) 12 := vp_in_nI (by omega) (by omega)
    refine br_f (nI_ge hi (by omega)) ⟨hv, ?_⟩
    rw [nI_clamp (show i < 2 ^ 31 by omega)]
    exact br_c (fun z1 => ⟨hv, br_f (fun z2 => hH ⟨z1, z2⟩) (nm_r (nI_1 i) hw)⟩) (fun _ => nm_r (nI_1 i) hw)
  · intro n i hi hH hb
    have hv : vp_in (nI i) 12 := vp_in_nI (by omega) (by omega)
    refine br_f (nI_ge hi (by omega)) ⟨hv, ?_⟩
    rw [nI_clamp (show i < 2 ^ 31 by omega)]
    exact br_t hH.1 ⟨hv, br_t hH.2 hb⟩
theorem iz_82 (hm : m ≤ 12)
    (hA : (∀ j, j < m → ¬ (aO j = 0 ∧ aX j = x3 ∧ fl j &&& 8 = 0 ∧ ¬ fl j &&& 1 = 0)) → wpX_closure (fun r_8 => (∃ n161 : Nat, wX_solve_161 post x3 r_8 kc (nI c) (nI m) cf aS aO aX fl n161 0 0)) (kc, nI c, nI m, cf, aS, aO, aX, fl) x1)
    (hB : ∀ k, k < m → (aO k = 0 ∧ aX k = x3 ∧ fl k &&& 8 = 0 ∧ ¬ fl k &&& 1 = 0) → (∀ j, j < k → ¬ (aO j = 0 ∧ aX j = x3 ∧ fl j &&& 8 = 0 ∧ ¬ fl j &&& 1 = 0)) → post ((1 : Int64) <<< ((nI k).toInt64 &&& 63))) :
    wX_solve_82 post x1 x3 kc (nI c) (nI m) cf aS aO aX fl (m + 1) (nI 0) := by
  refine im_scan (fun n i => wX_solve_82 post x1 x3 kc (nI c) (nI m) cf aS aO aX fl n (nI i)) m (fun j => aO j = 0 ∧ aX j = x3 ∧ fl j &&& 8 = 0 ∧ ¬ fl j &&& 1 = 0) _ (fun k => post ((1 : Int64) <<< ((nI k).toInt64 &&& 63))) ?_ ?_ ?_ hA hB
  · intro h n
    exact br_t (nI_le (Nat.le_refl m) (by omega)) h
  · intro n i hi hH hw
    have hv : vp_in (nI i) 12 := vp_in_nI (by omega) (by omega)
    refine br_f (nI_ge hi (by omega)) ⟨hv, ?_⟩
    rw [nI_clamp (show i < 2 ^ 31 by omega)]
    exact br_c (fun z1 => ⟨hv, br_c (fun z2 => ⟨hv, br_c (fun _ => nm_r (nI_1 i) hw) (fun z3 => ⟨hv, br_f (fun z4 => hH ⟨z1, z2, z4, z3⟩) (nm_r (nI_1 i) hw)⟩)⟩) (fun _ => nm_r (nI_1 i) hw)⟩) (fun _ => nm_r (nI_1 i) hw)
  · intro n i hi hH hb
    have hv : vp_in (nI i) 12 := vp_in_nI (by omega) (by omega)
    refine br_f (nI_ge hi (by omega)) ⟨hv, ?_⟩
    rw [nI_clamp (show i < 2 ^ 31 by omega)]
    exact br_t hH.1 ⟨hv, br_t hH.2.1 ⟨hv, br_f hH.2.2.2 ⟨hv, br_t hH.2.2.1 hb⟩⟩⟩
theorem iz_161 {E : Nat → Prop} {U : Nat} (hm : m ≤ 12) (hO : ∀ j, aO j = nI (o j)) (ho : ∀ j, o j < 6) (hE : ∀ j, aX j = x3 ↔ E j)
    (h0 : im_mk (iq_P E o U fl) m = 0 → post 0)
    (h1 : ¬ im_mk (iq_P E o U fl) m = 0 → ∃ n242 : Nat, wX_solve_242 post (lN (im_mk (iq_P E o U fl) m)) kc (nI c) (nI m) cf aS aO aX fl n242 0 (-1) 0) :
    ∀ d i, i + d = m → wX_solve_161 post x3 (nI U) kc (nI c) (nI m) cf aS aO aX fl (d + 1) (lN (im_mk (iq_P E o U fl) i)) (nI i) := by
  intro d
  induction d with
  | zero =>
    intro i hi
    have e : i = m := by omega
    subst e
    have hb : im_mk (iq_P E o U fl) i < 4096 := iz_mk _ hm
    exact br_t (nI_le (Nat.le_refl i) (by omega)) (br_c (fun z => h0 ((iz_l0 (by omega)).mp z)) (fun z => h1 (fun y => z ((iz_l0 (by omega)).mpr y))))
  | succ d ih =>
    intro i hi
    have ih := ih (i + 1) (by omega)
    have hb : im_mk (iq_P E o U fl) i < 4096 := iz_mk _ (by omega)
    have hv : vp_in (nI i) 12 := vp_in_nI (by omega) (by omega)
    have sf : ¬ iq_P E o U fl i → wX_solve_161 post x3 (nI U) kc (nI c) (nI m) cf aS aO aX fl (d + 1) (lN (im_mk (iq_P E o U fl) i)) (nI (i + 1)) := by
      intro h
      rw [im_mk_f h] at ih
      exact ih
    have st : iq_P E o U fl i → wX_solve_161 post x3 (nI U) kc (nI c) (nI m) cf aS aO aX fl (d + 1) (lN (im_mk (iq_P E o U fl) i ||| 2 ^ i)) (nI (i + 1)) := by
      intro h
      rw [im_mk_t h] at ih
      exact ih
    refine br_f (nI_ge (by omega) (by omega)) ⟨hv, ?_⟩
    rw [nI_clamp (show i < 2 ^ 31 by omega)]
    refine br_c (fun z1 => ⟨hv, ?_⟩) (fun z1 => nm_r (nI_1 i) (sf (fun p => z1 ((hE i).mpr p.1))))
    rw [hO i]
    have h32 : o i < 32 := Nat.lt_trans (ho i) (by decide)
    refine br_c (fun z2 => nm_r (nI_1 i) (sf (fun p => iz_ff ((ib_un h32).mp z2) p.2.1))) (fun z2 => ⟨hv, ?_⟩)
    have hu : U.testBit (o i) = true := iz_nf (fun e => z2 ((ib_un h32).mpr e))
    exact br_c (fun z3 => nm_r (ib_os (by omega) (by omega)) (nm_r (nI_1 i) (st ⟨(hE i).mp z1, hu, z3⟩))) (fun z3 => nm_r (nI_1 i) (sf (fun p => z3 p.2.2)))
theorem iq_Mk {P : Nat → Prop} {k i : Nat} (h : P k → (ic_c s (o k)).testBit (o i) = false) {f : Int32} (hf : (f = 1 ∧ iq_M s P o k i) ∨ (f = 0 ∧ ¬ iq_M s P o k i)) : (f = 1 ∧ iq_M s P o (k + 1) i) ∨ (f = 0 ∧ ¬ iq_M s P o (k + 1) i) := by
  rcases hf with ⟨e, hM⟩ | ⟨e, hM⟩
  · exact Or.inl ⟨e, lt_s hM h⟩
  · exact Or.inr ⟨e, fun g => hM (fun j hj => g j (by omega))⟩
theorem iz_289 {P : Nat → Prop} {C i : Nat} {J : Int32 → Int32 → Int32 → Prop} {x7 x8 : Int32} (hm : m ≤ 12) (hS : ∀ j, aS j = nI (s j)) (hs : ∀ j, s j < 2 ^ j) (hO : ∀ j, aO j = nI (o j)) (ho : ∀ j, o j < 6)
    (hC : C < 4096) (hP : ∀ k, k < m → (C.testBit k = true ↔ P k)) (hi : i < m)
    (ht : iq_M s P o m i → J (x7 + 1) (nI i) (nI (i + 1))) (hf : ¬ iq_M s P o m i → J x7 x8 (nI (i + 1))) :
    ∀ d k, k + d = m → ∀ f : Int32, (f = 1 ∧ iq_M s P o k i) ∨ (f = 0 ∧ ¬ iq_M s P o k i) → wX_solve_289 post J (lN C) x7 x8 (nI i) kc (nI c) (nI m) cf aS aO aX fl (d + 1) f (nI k) := by
  intro d
  induction d with
  | zero =>
    intro k hk f h
    have e : k = m := by omega
    subst e
    refine br_t (nI_le (Nat.le_refl k) (by omega)) ?_
    rcases h with ⟨e, hM⟩ | ⟨e, hM⟩
    · subst e
      exact br_f iz_10 (nm_e (nm_r (nI_1 i) (ht hM)))
    · subst e
      exact br_t rfl (nm_r (nI_1 i) (hf hM))
  | succ d ih =>
    intro k hk f h
    have ih := ih (k + 1) (by omega)
    refine br_f (nI_ge (by omega) (by omega)) ?_
    by_cases e : k = i
    · subst e
      exact br_t rfl (nm_r (nI_1 k) (ih f (iq_Mk (fun _ => ic_cno hs (o k)) h)))
    · refine br_f (fun z => e ((nI_eq (by omega) (by omega)).mp z)) (br_c (fun z => nm_r (nI_1 k) (ih f (iq_Mk (fun p => absurd ((hP k (by omega)).mpr p) (iz_ff ((ib_l (by omega) (by omega)).mp z))) h))) (fun z => ⟨vp_in_nI (by omega) (by omega), ?_⟩))
      have hPk : P k := (hP k (by omega)).mp (iz_nf (fun e => z ((ib_l (by omega) (by omega)).mpr e)))
      have ek : aO (nI k).toNatClampNeg = nI (o k) := by rw [nI_clamp (by omega), hO]
      have ei : aO (nI i).toNatClampNeg = nI (o i) := by rw [nI_clamp (by omega), hO]
      have h32 : o i < 32 := Nat.lt_trans (ho i) (by decide)
      rw [ek]
      refine iw_xc hS (ho k) ?_
      refine And.intro (vp_in_nI (by omega) (by omega)) ?_
      rw [ei]
      refine br_c (fun w => nm_r (nI_1 k) (ih f (iq_Mk (fun _ => (ib_un h32).mp w) h))) (fun w => nm_r (nI_1 k) (ih 0 (Or.inr ⟨rfl, fun g => w ((ib_un h32).mpr (g k (by omega) hPk))⟩)))
theorem iz_242 {P : Nat → Prop} {C : Nat} (hm : m ≤ 12) (hS : ∀ j, aS j = nI (s j)) (hs : ∀ j, s j < 2 ^ j) (hO : ∀ j, aO j = nI (o j)) (ho : ∀ j, o j < 6)
    (hC : C < 4096) (hP : ∀ k, k < m → (C.testBit k = true ↔ P k))
    (h1 : im_cn (iq_Q s P o fl m) m = 1 → post ((1 : Int64) <<< ((im_la (iq_Q s P o fl m) m).toInt64 &&& 63)))
    (h0 : ¬ im_cn (iq_Q s P o fl m) m = 1 → post (lN C ||| 4294967296)) :
    ∀ d i, i + d = m → wX_solve_242 post (lN C) kc (nI c) (nI m) cf aS aO aX fl (d + 1) (nI (im_cn (iq_Q s P o fl m) i)) (im_la (iq_Q s P o fl m) i) (nI i) := by
  intro d
  induction d with
  | zero =>
    intro i hi
    have e : i = m := by omega
    subst e
    have hb : im_cn (iq_Q s P o fl i) i ≤ i := im_cn_le _ _
    exact br_t (nI_le (Nat.le_refl i) (by omega)) (br_c (fun z => h1 ((iz_n1 (by omega)).mp z)) (fun z => h0 (fun y => z ((iz_n1 (by omega)).mpr y))))
  | succ d ih =>
    intro i hi
    have ih := ih (i + 1) (by omega)
    have sf : ¬ iq_Q s P o fl m i → wX_solve_242 post (lN C) kc (nI c) (nI m) cf aS aO aX fl (d + 1) (nI (im_cn (iq_Q s P o fl m) i)) (im_la (iq_Q s P o fl m) i) (nI (i + 1)) := by
      intro h
      rw [im_cn_f h, im_la_f h] at ih
      exact ih
    have st : iq_Q s P o fl m i → wX_solve_242 post (lN C) kc (nI c) (nI m) cf aS aO aX fl (d + 1) (nI (im_cn (iq_Q s P o fl m) i) + 1) (nI i) (nI (i + 1)) := by
      intro h
      rw [im_cn_t h, im_la_t h, ← nI_1 (im_cn _ _)] at ih
      exact ih
    refine br_f (nI_ge (by omega) (by omega)) (br_c (fun z => nm_r (nI_1 i) (sf (fun q => absurd ((hP i (by omega)).mpr q.1) (iz_ff ((ib_l (by omega) (by omega)).mp z))))) (fun z => ⟨vp_in_nI (by omega) (by omega), ?_⟩))
    have hPi : P i := (hP i (by omega)).mp (iz_nf (fun e => z ((ib_l (by omega) (by omega)).mpr e)))
    rw [nI_clamp (show i < 2 ^ 31 by omega)]
    refine br_c (fun w => ⟨m + 1, ?_⟩) (fun w => nm_r (nI_1 i) (sf (fun q => w q.2.1)))
    exact iz_289 hm hS hs hO ho hC hP (by omega) (fun hM => st ⟨hPi, w, hM⟩) (fun hM => sf (fun q => hM q.2.2)) m 0 (by omega) 1 (Or.inl ⟨rfl, lt_0⟩)
end
end
section
/-! own rows: the walk of Y's inScope, maximal, lookup -/
section
variable {kc : Int32} {c m : Nat} {ch : Int64} {cf aS aO aY fl : Nat → Int32} {s o : Nat → Nat}
theorem iy_sc {post : Int32 → Prop} {i U : Nat} {y3 : Int32} (hi : i < 12) (hO : ∀ j, aO j = nI (o j)) (ho : ∀ j, o j < 6)
    (h1 : aY i = y3 → U.testBit (o i) = true → post 1) (h0 : ¬ (aY i = y3 ∧ U.testBit (o i) = true) → post 0) :
    wpY_inScope post (kc, nI c, nI m, ch, cf, aS, aO, aY, fl) (nI i) (nI U) y3 := by
  have hv : vp_in (nI i) 12 := vp_in_nI hi (by omega)
  have h32 : o i < 32 := Nat.lt_trans (ho i) (by decide)
  refine And.intro hv ?_
  rw [nI_clamp (show i < 2 ^ 31 by omega), hO i]
  exact br_c (fun z => ⟨hv, br_c (fun w => h0 (fun q => iz_ff ((ib_sn h32).mp w) q.2)) (fun w => h1 z (iz_nf (fun e => w ((ib_sn h32).mpr e))))⟩) (fun z => h0 (fun q => z q.1))
theorem iy_m3 {post : Int32 → Prop} {E : Nat → Prop} {U i k n : Nat} {y3 : Int32} (hm : m ≤ 12) (hc : c ≤ 6) (hS : ∀ j, aS j = nI (s j)) (hs : ∀ j, s j < 2 ^ j) (hO : ∀ j, aO j = nI (o j)) (ho : ∀ j, o j < c) (hE : ∀ j, aY j = y3 ↔ E j)
    (hi : i < m) (hk : k < m)
    (hw : ¬ (iq_P E o U fl k ∧ (ic_c s (o k)).testBit (o i) = true) → wY_maximal_3 post (nI i) (nI U) y3 kc (nI c) (nI m) ch cf aS aO aY fl n (nI (k + 1)))
    (hx : (iq_P E o U fl k ∧ (ic_c s (o k)).testBit (o i) = true) → post 0) :
    wY_maximal_3 post (nI i) (nI U) y3 kc (nI c) (nI m) ch cf aS aO aY fl (n + 1) (nI k) := by
  have ho6 : ∀ j, o j < 6 := fun j => Nat.lt_of_lt_of_le (ho j) hc
  have hv : vp_in (nI k) 12 := vp_in_nI (by omega) (by omega)
  have h32 : o i < 32 := Nat.lt_trans (ho6 i) (by decide)
  refine br_f (nI_ge hk (by omega)) (iy_sc (by omega) hO ho6 (fun z1 z2 => ?_) (fun z => ?_))
  · refine br_f iz_10 ⟨hv, ?_⟩
    rw [nI_clamp (show k < 2 ^ 31 by omega)]
    refine br_c (fun z3 => ⟨hv, ?_⟩) (fun z3 => nm_r (nI_1 k) (hw (fun q => z3 q.1.2.2)))
    rw [hO k]
    refine iw_ya hS hs hc (ho k) (And.intro (vp_in_nI (by omega) (by omega)) ?_)
    rw [nI_clamp (show i < 2 ^ 31 by omega), hO i]
    exact br_c (fun w => nm_r (nI_1 k) (hw (fun q => iz_ff ((ib_sn h32).mp w) q.2))) (fun w => hx ⟨⟨(hE k).mp z1, z2, z3⟩, iz_nf (fun e => w ((ib_sn h32).mpr e))⟩)
  · exact br_t rfl (nm_r (nI_1 k) (hw (fun q => z ⟨(hE k).mpr q.1.1, q.1.2.1⟩)))
theorem iy_max {post : Int32 → Prop} {E : Nat → Prop} {U i : Nat} {y3 : Int32} (hm : m ≤ 12) (hc : c ≤ 6) (hS : ∀ j, aS j = nI (s j)) (hs : ∀ j, s j < 2 ^ j) (hO : ∀ j, aO j = nI (o j)) (ho : ∀ j, o j < c) (hE : ∀ j, aY j = y3 ↔ E j)
    (hi : i < m) (h1 : iq_M s (iq_P E o U fl) o m i → post 1) (h0 : ¬ iq_M s (iq_P E o U fl) o m i → post 0) :
    wpY_maximal post (kc, nI c, nI m, ch, cf, aS, aO, aY, fl) (nI i) (nI U) y3 := by
  refine Exists.intro (m + 1) ?_
  refine im_scan (fun n k => wY_maximal_3 post (nI i) (nI U) y3 kc (nI c) (nI m) ch cf aS aO aY fl n (nI k)) m (fun k => iq_P E o U fl k ∧ (ic_c s (o k)).testBit (o i) = true) (post 1) (fun _ => post 0) ?_ ?_ ?_ ?_ ?_
  · intro h n
    exact br_t (nI_le (Nat.le_refl m) (by omega)) h
  · intro n k hk hH hw
    exact iy_m3 hm hc hS hs hO ho hE hi hk (fun _ => hw) (fun q => absurd q hH)
  · intro n k hk hH hb
    exact iy_m3 hm hc hS hs hO ho hE hi hk (fun q => absurd hH q) (fun _ => hb)
  · intro h
    refine h1 (fun k hk hP => ?_)
    cases hb : (ic_c s (o k)).testBit (o i)
    · rfl
    · exact absurd ⟨hP, hb⟩ (h k hk)
  · intro k hk hH _
    exact h0 (fun g => iz_ff (g k hk hH.1) hH.2)
theorem iy_240 {post : Int64 → SY → Prop} {J : Int32 → Int64 → Int64 → Int32 → Prop} {x3 x4 x5 : Int32} {x8 : Int64} {n i : Nat} (hn : n < 2 ^ 64) (hi : i < 64) (h : J x5 (lN (n ||| 2 ^ i)) x8 (nI (i + 1))) :
    wY_lookup_240 post J x3 x4 x5 (lN n) x8 (nI i) kc (nI c) (nI m) ch cf aS aO aY fl := by
  unfold wY_lookup_240
  exact nm_r (ib_os hn hi) (nm_r (nI_1 i) h)
theorem iy_159 {post : Int64 → SY → Prop} {E : Nat → Prop} {U : Nat} {y3 : Int32} (hm : m ≤ 12) (hc : c ≤ 6) (hS : ∀ j, aS j = nI (s j)) (hs : ∀ j, s j < 2 ^ j) (hO : ∀ j, aO j = nI (o j)) (ho : ∀ j, o j < c) (hE : ∀ j, aY j = y3 ↔ E j)
    (h1 : im_cn (iq_Q s (iq_P E o U fl) o fl m) m = 1 → post (lN (im_mk (iq_Q s (iq_P E o U fl) o fl m) m)) (kc, nI c, nI m, ch, cf, aS, aO, aY, fl))
    (h0 : ¬ im_cn (iq_Q s (iq_P E o U fl) o fl m) m = 1 → post (lN (im_mk (iq_P E o U fl) m)) (kc, nI c, nI m, lN (im_mk (iq_P E o U fl) m), cf, aS, aO, aY, fl)) :
    ∀ d i, i + d = m → wY_lookup_159 post y3 (nI U) kc (nI c) (nI m) ch cf aS aO aY fl (d + 1) (nI (im_cn (iq_Q s (iq_P E o U fl) o fl m) i)) (lN (im_mk (iq_P E o U fl) i)) (lN (im_mk (iq_Q s (iq_P E o U fl) o fl m) i)) (nI i) := by
  have ho6 : ∀ j, o j < 6 := fun j => Nat.lt_of_lt_of_le (ho j) hc
  intro d
  induction d with
  | zero =>
    intro i hi
    have e : i = m := by omega
    subst e
    have hb : im_cn (iq_Q s (iq_P E o U fl) o fl i) i ≤ i := im_cn_le _ _
    exact br_t (nI_le (Nat.le_refl i) (by omega)) (br_c (fun z => h1 ((iz_n1 (by omega)).mp z)) (fun z => h0 (fun y => z ((iz_n1 (by omega)).mpr y))))
  | succ d ih =>
    intro i hi
    have ih := ih (i + 1) (by omega)
    have hv : vp_in (nI i) 12 := vp_in_nI (by omega) (by omega)
    have hbP : im_mk (iq_P E o U fl) i < 4096 := iz_mk _ (by omega)
    have hbQ : im_mk (iq_Q s (iq_P E o U fl) o fl m) i < 4096 := iz_mk _ (by omega)
    have s0 : ¬ iq_P E o U fl i → wY_lookup_159 post y3 (nI U) kc (nI c) (nI m) ch cf aS aO aY fl (d + 1) (nI (im_cn (iq_Q s (iq_P E o U fl) o fl m) i)) (lN (im_mk (iq_P E o U fl) i)) (lN (im_mk (iq_Q s (iq_P E o U fl) o fl m) i)) (nI (i + 1)) := by
      intro h
      have hq : ¬ iq_Q s (iq_P E o U fl) o fl m i := fun q => h q.1
      rw [im_cn_f hq, im_mk_f hq, im_mk_f h] at ih
      exact ih
    have s1 : iq_P E o U fl i → ¬ iq_Q s (iq_P E o U fl) o fl m i → wY_lookup_159 post y3 (nI U) kc (nI c) (nI m) ch cf aS aO aY fl (d + 1) (nI (im_cn (iq_Q s (iq_P E o U fl) o fl m) i)) (lN (im_mk (iq_P E o U fl) i ||| 2 ^ i)) (lN (im_mk (iq_Q s (iq_P E o U fl) o fl m) i)) (nI (i + 1)) := by
      intro h hq
      rw [im_cn_f hq, im_mk_f hq, im_mk_t h] at ih
      exact ih
    have s2 : iq_Q s (iq_P E o U fl) o fl m i → wY_lookup_159 post y3 (nI U) kc (nI c) (nI m) ch cf aS aO aY fl (d + 1) (nI (im_cn (iq_Q s (iq_P E o U fl) o fl m) i + 1)) (lN (im_mk (iq_P E o U fl) i ||| 2 ^ i)) (lN (im_mk (iq_Q s (iq_P E o U fl) o fl m) i ||| 2 ^ i)) (nI (i + 1)) := by
      intro hq
      rw [im_cn_t hq, im_mk_t hq, im_mk_t hq.1] at ih
      exact ih
    refine br_f (nI_ge (by omega) (by omega)) (iy_sc (by omega) hO ho6 (fun z1 z2 => ?_) (fun z => ?_))
    · refine br_f iz_10 ⟨hv, nm_r (e' := fl i &&& 1034) ?_ ?_⟩
      · rw [nI_clamp (show i < 2 ^ 31 by omega)]
      · refine br_c (fun z3 => ?_) (fun z3 => br_c (fun z4 => ?_) (fun z4 => ?_))
        · have f3 := (ib_1034z (fl i)).mp z3
          have hp : iq_P E o U fl i := ⟨(hE i).mp z1, z2, f3.1⟩
          refine iy_max hm hc hS hs hO ho hE (by omega) (fun hM => ?_) (fun hM => ?_)
          · exact br_f iz_10 (nm_r (ib_os (by omega) (by omega)) (nm_r (nI_1 _) (iy_240 (by omega) (by omega) (s2 ⟨hp, f3.2, hM⟩))))
          · exact br_t rfl (iy_240 (by omega) (by omega) (s1 hp (fun q => hM q.2.2)))
        · have f4 := (ib_1034s (fl i)).mp z4
          exact nm_r (ib_os (by omega) (by omega)) (nm_r (nI_1 i) (s1 ⟨(hE i).mp z1, z2, f4.1⟩ (fun q => f4.2 q.2.1)))
        · refine nm_r (nI_1 i) (s0 (fun p => ?_))
          by_cases w : fl i &&& 1024 = 0
          · exact z3 ((ib_1034z (fl i)).mpr ⟨p.2.2, w⟩)
          · exact z4 ((ib_1034s (fl i)).mpr ⟨p.2.2, w⟩)
    · exact br_t rfl (nm_r (nI_1 i) (s0 (fun p => z ⟨(hE i).mpr p.1, p.2.1⟩)))
theorem iy_40 {post : Int64 → SY → Prop} {E : Nat → Prop} {x1 y3 : Int32} (hm : m ≤ 12) (hE : ∀ j, aY j = y3 ↔ E j)
    (hA : (∀ j, j < m → ¬ (aO j = x1 ∧ E j)) → ∃ n85 : Nat, wY_lookup_85 post x1 y3 kc (nI c) (nI m) ch cf aS aO aY fl n85 0)
    (hB : ∀ k, k < m → (aO k = x1 ∧ E k) → (∀ j, j < k → ¬ (aO j = x1 ∧ E j)) → post ((1 : Int64) <<< ((nI k).toInt64 &&& 63)) (kc, nI c, nI m, ch, cf, aS, aO, aY, fl)) :
    wY_lookup_40 post x1 y3 kc (nI c) (nI m) ch cf aS aO aY fl (m + 1) (nI 0) := by
  refine im_scan (fun n i => wY_lookup_40 post x1 y3 kc (nI c) (nI m) ch cf aS aO aY fl n (nI i)) m (fun j => aO j = x1 ∧ E j) _ (fun k => post ((1 : Int64) <<< ((nI k).toInt64 &&& 63)) (kc, nI c, nI m, ch, cf, aS, aO, aY, fl)) ?_ ?_ ?_ hA hB
  · intro h n
    exact br_t (nI_le (Nat.le_refl m) (by omega)) h
  · intro n i hi hH hw
    have hv : vp_in (nI i) 12 := vp_in_nI (by omega) (by omega)
    refine br_f (nI_ge hi (by omega)) ⟨hv, ?_⟩
    rw [nI_clamp (show i < 2 ^ 31 by omega)]
    exact br_c (fun z1 => ⟨hv, br_f (fun z2 => hH ⟨z1, (hE i).mp z2⟩) (nm_r (nI_1 i) hw)⟩) (fun _ => nm_r (nI_1 i) hw)
  · intro n i hi hH hb
    have hv : vp_in (nI i) 12 := vp_in_nI (by omega) (by omega)
    refine br_f (nI_ge hi (by omega)) ⟨hv, ?_⟩
    rw [nI_clamp (show i < 2 ^ 31 by omega)]
    exact br_t hH.1 ⟨hv, br_t ((hE i).mpr hH.2) hb⟩
theorem iy_85 {post : Int64 → SY → Prop} {E : Nat → Prop} {x1 y3 : Int32} (hm : m ≤ 12) (hE : ∀ j, aY j = y3 ↔ E j)
    (hA : (∀ j, j < m → ¬ (aO j = 0 ∧ E j ∧ fl j &&& 8 = 0 ∧ ¬ fl j &&& 1 = 0)) → wpY_above (fun r_7 => (∃ n159 : Nat, wY_lookup_159 post y3 r_7 kc (nI c) (nI m) ch cf aS aO aY fl n159 0 0 0 0)) (kc, nI c, nI m, ch, cf, aS, aO, aY, fl) x1)
    (hB : ∀ k, k < m → (aO k = 0 ∧ E k ∧ fl k &&& 8 = 0 ∧ ¬ fl k &&& 1 = 0) → (∀ j, j < k → ¬ (aO j = 0 ∧ E j ∧ fl j &&& 8 = 0 ∧ ¬ fl j &&& 1 = 0)) → post ((1 : Int64) <<< ((nI k).toInt64 &&& 63)) (kc, nI c, nI m, ch, cf, aS, aO, aY, fl)) :
    wY_lookup_85 post x1 y3 kc (nI c) (nI m) ch cf aS aO aY fl (m + 1) (nI 0) := by
  refine im_scan (fun n i => wY_lookup_85 post x1 y3 kc (nI c) (nI m) ch cf aS aO aY fl n (nI i)) m (fun j => aO j = 0 ∧ E j ∧ fl j &&& 8 = 0 ∧ ¬ fl j &&& 1 = 0) _ (fun k => post ((1 : Int64) <<< ((nI k).toInt64 &&& 63)) (kc, nI c, nI m, ch, cf, aS, aO, aY, fl)) ?_ ?_ ?_ hA hB
  · intro h n
    exact br_t (nI_le (Nat.le_refl m) (by omega)) h
  · intro n i hi hH hw
    have hv : vp_in (nI i) 12 := vp_in_nI (by omega) (by omega)
    refine br_f (nI_ge hi (by omega)) ⟨hv, ?_⟩
    rw [nI_clamp (show i < 2 ^ 31 by omega)]
    exact br_c (fun z1 => ⟨hv, br_c (fun z2 => ⟨hv, br_f (fun z3 => hH ⟨z1, (hE i).mp z2, (ib_9 (fl i)).mp z3⟩) (nm_r (nI_1 i) hw)⟩) (fun _ => nm_r (nI_1 i) hw)⟩) (fun _ => nm_r (nI_1 i) hw)
  · intro n i hi hH hb
    have hv : vp_in (nI i) 12 := vp_in_nI (by omega) (by omega)
    refine br_f (nI_ge hi (by omega)) ⟨hv, ?_⟩
    rw [nI_clamp (show i < 2 ^ 31 by omega)]
    exact br_t hH.1 ⟨hv, br_t ((hE i).mpr hH.2.1) ⟨hv, br_t ((ib_9 (fl i)).mpr hH.2.2) hb⟩⟩
end
end
section
/-! own rows: solve and lookup meet -/
theorem ie_k : ∀ k, k < 12 → ((1 : Int64) <<< ((nI k).toInt64 &&& 63)) &&& 4095 = (1 : Int64) <<< ((nI k).toInt64 &&& 63) ∧ ((1 : Int64) <<< ((nI k).toInt64 &&& 63)) &&& 4294967296 = 0 := by decide +kernel
theorem ie_C1 {C : Nat} (hC : C < 4096) : (lN C ||| 4294967296) &&& 4095 = lN C := by
  have e : (4294967296 : Int64) = lN (2 ^ 32) := by decide
  have e2 : (4095 : Int64) = lN (2 ^ 12 - 1) := by decide
  have h64 : C ||| 2 ^ 32 < 2 ^ 64 := Nat.or_lt_two_pow (by omega) (by decide)
  rw [e, wb_or (by omega) (by decide), e2, wb_mask h64 (by decide), Nat.or_mod_two_pow, Nat.mod_eq_of_lt (show C < 2 ^ 12 by omega), show 2 ^ 32 % 2 ^ 12 = 0 by decide, Nat.or_zero]
theorem ie_C2 {C : Nat} (hC : C < 4096) : ¬ (lN C ||| 4294967296) &&& 4294967296 = 0 := by
  have e : (4294967296 : Int64) = lN (2 ^ 32) := by decide
  have h64 : C ||| 2 ^ 32 < 2 ^ 64 := Nat.or_lt_two_pow (by omega) (by decide)
  have ea : (C ||| 2 ^ 32) &&& 2 ^ 32 = 2 ^ 32 := by
    apply Nat.eq_of_testBit_eq
    intro i
    rw [Nat.testBit_and, Nat.testBit_or]
    cases C.testBit i <;> cases (2 ^ 32).testBit i <;> rfl
  rw [e, wb_or (by omega) (by decide), wb_and h64 (by decide), ea]
  decide
section
variable {kc : Int32} {c m : Nat} {ch : Int64} {cf aS aO aX aY fl : Nat → Int32} {s o : Nat → Nat}
theorem ie_xr {post : Int64 → Prop} {a : Nat} {x3 : Int32} (hm : m ≤ 12) (hS : ∀ j, aS j = nI (s j)) (hs : ∀ j, s j < 2 ^ j) (hO : ∀ j, aO j = nI (o j)) (ho : ∀ j, o j < 6) (ha : a < 6)
    (n2 : ∀ j, j < m → ¬ (aO j = nI a ∧ aX j = x3)) (n3 : ∀ j, j < m → ¬ (aO j = 0 ∧ aX j = x3 ∧ fl j &&& 8 = 0 ∧ ¬ fl j &&& 1 = 0))
    (h0 : im_mk (iq_P (fun j => aX j = x3) o (ic_c s a) fl) m = 0 → post 0)
    (h1 : im_cn (iq_Q s (iq_P (fun j => aX j = x3) o (ic_c s a) fl) o fl m) m = 1 → post ((1 : Int64) <<< ((im_la (iq_Q s (iq_P (fun j => aX j = x3) o (ic_c s a) fl) o fl m) m).toInt64 &&& 63)))
    (h2 : ¬ im_mk (iq_P (fun j => aX j = x3) o (ic_c s a) fl) m = 0 → ¬ im_cn (iq_Q s (iq_P (fun j => aX j = x3) o (ic_c s a) fl) o fl m) m = 1 → post (lN (im_mk (iq_P (fun j => aX j = x3) o (ic_c s a) fl) m) ||| 4294967296)) :
    wX_solve_37 post (nI a) x3 kc (nI c) (nI m) cf aS aO aX fl (m + 1) (nI 0) := by
  refine iz_37 hm (fun _ => ⟨m + 1, iz_82 hm (fun _ => iw_xc hS ha ⟨m + 1, ?_⟩) (fun k h g _ => absurd g (n3 k h))⟩) (fun k h g _ => absurd g (n2 k h))
  refine iz_161 hm hO ho (E := fun j => aX j = x3) (fun _ => Iff.rfl) h0 (fun hz => ⟨m + 1, ?_⟩) m 0 (by omega)
  exact iz_242 hm hS hs hO ho (iz_mk _ hm) (fun k hk => (im_mk_bit _ k m).trans ⟨fun z => z.2, fun z => ⟨hk, z⟩⟩) h1 (h2 hz) m 0 (by omega)
theorem ie_yr {post : Int64 → SY → Prop} {E : Nat → Prop} {a : Nat} {y3 : Int32} (hm : m ≤ 12) (hc : c ≤ 6) (hS : ∀ j, aS j = nI (s j)) (hs : ∀ j, s j < 2 ^ j) (hO : ∀ j, aO j = nI (o j)) (ho : ∀ j, o j < c) (hE : ∀ j, aY j = y3 ↔ E j) (ha : a < c)
    (n2 : ∀ j, j < m → ¬ (aO j = nI a ∧ E j)) (n3 : ∀ j, j < m → ¬ (aO j = 0 ∧ E j ∧ fl j &&& 8 = 0 ∧ ¬ fl j &&& 1 = 0))
    (h1 : im_cn (iq_Q s (iq_P E o (ic_c s a) fl) o fl m) m = 1 → post (lN (im_mk (iq_Q s (iq_P E o (ic_c s a) fl) o fl m) m)) (kc, nI c, nI m, ch, cf, aS, aO, aY, fl))
    (h0 : ¬ im_cn (iq_Q s (iq_P E o (ic_c s a) fl) o fl m) m = 1 → post (lN (im_mk (iq_P E o (ic_c s a) fl) m)) (kc, nI c, nI m, lN (im_mk (iq_P E o (ic_c s a) fl) m), cf, aS, aO, aY, fl)) :
    wY_lookup_40 post (nI a) y3 kc (nI c) (nI m) ch cf aS aO aY fl (m + 1) (nI 0) := by
  refine iy_40 hm hE (fun _ => ⟨m + 1, iy_85 hm hE (fun _ => iw_ya hS hs hc ha ⟨m + 1, ?_⟩) (fun k h g _ => absurd g (n3 k h))⟩) (fun k h g _ => absurd g (n2 k h))
  exact iy_159 hm hc hS hs hO ho hE h1 h0 m 0 (by omega)
theorem ie_meet (hm : m ≤ 12) (hc : c ≤ 6) (hS : ∀ j, aS j = nI (s j)) (hs : ∀ j, s j < 2 ^ j) (hO : ∀ j, aO j = nI (o j)) (ho : ∀ j, o j < c)
    (hg : ∀ j, ∃ g : Int32, aX j = g &&& 65535 ∧ aY j = g.toInt16.toInt32) (p0 p1 : Int32) :
    ∃ r y cn : Int64, r &&& 4095 = y ∧ (r &&& 4294967296 = 0 ↔ cn = 0)
      ∧ (∀ post : Int64 → Prop, post r → wpX_solve post (kc, nI c, nI m, cf, aS, aO, aX, fl) p0 p1)
      ∧ (∀ post : Int64 → SY → Prop, post y (kc, nI c, nI m, cn, cf, aS, aO, aY, fl) → wpY_lookup post (kc, nI c, nI m, ch, cf, aS, aO, aY, fl) p0 p1) := by
  have ho6 : ∀ j, o j < 6 := fun j => Nat.lt_of_lt_of_le (ho j) hc
  by_cases hn : p0 < 0
  · exact ⟨0, 0, 0, by decide, by decide, fun post h => br_t hn h, fun post h => br_t hn h⟩
  by_cases hl : p0 < nI c
  rotate_left
  · exact ⟨0, 0, 0, by decide, by decide, fun post h => br_f hn (br_f hl h), fun post h => br_f hn (br_f hl h)⟩
  obtain ⟨a, ha, rfl⟩ := nI_of hn
  have hac : a < c := (nI_ltI ha (by omega)).mp hl
  have hv : vp_in (nI a) 6 := vp_in_nI (by omega) (by omega)
  by_cases hf : cf (nI a).toNatClampNeg &&& 512 = 0
  · exact ⟨0, 0, 0, by decide, by decide, fun post h => br_f hn (br_t hl ⟨hv, br_t hf h⟩), fun post h => br_f hn (br_t hl ⟨hv, br_t hf h⟩)⟩
  have hE : ∀ j, aY j = p1.toInt16.toInt32 ↔ aX j = p1 &&& 65535 := by
    intro j
    obtain ⟨g, e1, e2⟩ := hg j
    rw [e1, e2]
    exact ib_sig g p1
  have X : ∀ post : Int64 → Prop, wX_solve_37 post (nI a) (p1 &&& 65535) kc (nI c) (nI m) cf aS aO aX fl (m + 1) (nI 0) → wpX_solve post (kc, nI c, nI m, cf, aS, aO, aX, fl) (nI a) p1 :=
    fun post h => br_f hn (br_t hl ⟨hv, br_f hf (nm_e ⟨m + 1, h⟩)⟩)
  have Y : ∀ post : Int64 → SY → Prop, wY_lookup_40 post (nI a) p1.toInt16.toInt32 kc (nI c) (nI m) 0 cf aS aO aY fl (m + 1) (nI 0) → wpY_lookup post (kc, nI c, nI m, ch, cf, aS, aO, aY, fl) (nI a) p1 :=
    fun post h => br_f hn (br_t hl ⟨hv, br_f hf ⟨m + 1, h⟩⟩)
  generalize p1 &&& 65535 = x3 at hE X
  generalize p1.toInt16.toInt32 = y3 at hE Y
  rcases im_lst (fun j => aO j = nI a ∧ aX j = x3) m with n2 | ⟨k, k1, k2, k3⟩
  rotate_left
  · have hk := ie_k k (by omega)
    refine ⟨_, _, 0, hk.1, ⟨fun _ => rfl, fun _ => hk.2⟩, fun post h => X post (iz_37 hm (fun g => absurd k2 (g k k1)) (fun k' _ g1 g2 => ?_)), fun post h => Y post (iy_40 hm hE (fun g => absurd k2 (g k k1)) (fun k' _ g1 g2 => ?_))⟩
    · rw [im_un k2 k3 g1 g2]; exact h
    · rw [im_un (H := fun j => aO j = nI a ∧ aX j = x3) k2 k3 g1 g2]; exact h
  rcases im_lst (fun j => aO j = 0 ∧ aX j = x3 ∧ fl j &&& 8 = 0 ∧ ¬ fl j &&& 1 = 0) m with n3 | ⟨k, k1, k2, k3⟩
  rotate_left
  · have hk := ie_k k (by omega)
    refine ⟨_, _, 0, hk.1, ⟨fun _ => rfl, fun _ => hk.2⟩, fun post h => X post (iz_37 hm (fun _ => ⟨m + 1, iz_82 hm (fun g => absurd k2 (g k k1)) (fun k' _ g1 g2 => ?_)⟩) (fun k' h' g _ => absurd g (n2 k' h'))), fun post h => Y post (iy_40 hm hE (fun _ => ⟨m + 1, iy_85 hm hE (fun g => absurd k2 (g k k1)) (fun k' _ g1 g2 => ?_)⟩) (fun k' h' g _ => absurd g (n2 k' h')))⟩
    · rw [im_un (H := fun j => aO j = 0 ∧ aX j = x3 ∧ fl j &&& 8 = 0 ∧ ¬ fl j &&& 1 = 0) k2 k3 g1 g2]; exact h
    · rw [im_un (H := fun j => aO j = 0 ∧ aX j = x3 ∧ fl j &&& 8 = 0 ∧ ¬ fl j &&& 1 = 0) k2 k3 g1 g2]; exact h
  by_cases hq : im_cn (iq_Q s (iq_P (fun j => aX j = x3) o (ic_c s a) fl) o fl m) m = 1
  · obtain ⟨k, k1, k2, k3⟩ := im_cn1 _ m hq
    have hk := ie_k k (by omega)
    have hz : ¬ im_mk (iq_P (fun j => aX j = x3) o (ic_c s a) fl) m = 0 := fun z => im_cn_no iq_QP z hq
    refine ⟨_, _, 0, hk.1, ⟨fun _ => rfl, fun _ => hk.2⟩, fun post h => X post (ie_xr hm hS hs hO ho6 (by omega) n2 n3 (fun z => absurd z hz) (fun _ => ?_) (fun _ z => absurd hq z)), fun post h => Y post (ie_yr hm hc hS hs hO ho hE hac n2 n3 (fun _ => ?_) (fun z => absurd hq z))⟩
    · rw [k2]; exact h
    · rw [k3, ← ib_sh (show k < 64 by omega)]; exact h
  · by_cases hz : im_mk (iq_P (fun j => aX j = x3) o (ic_c s a) fl) m = 0
    · refine ⟨0, 0, 0, by decide, by decide, fun post h => X post (ie_xr hm hS hs hO ho6 (by omega) n2 n3 (fun _ => h) (fun z => absurd z hq) (fun z => absurd hz z)), fun post h => Y post (ie_yr hm hc hS hs hO ho hE hac n2 n3 (fun z => absurd z hq) (fun _ => ?_))⟩
      rw [hz]; exact h
    · have hb : im_mk (iq_P (fun j => aX j = x3) o (ic_c s a) fl) m < 4096 := iz_mk _ hm
      refine ⟨_, _, lN (im_mk (iq_P (fun j => aX j = x3) o (ic_c s a) fl) m), ie_C1 hb, ⟨fun z => absurd z (ie_C2 hb), fun z => absurd ((iz_l0 (by omega)).mp z) hz⟩, fun post h => X post (ie_xr hm hS hs hO ho6 (by omega) n2 n3 (fun z => absurd z hz) (fun z => absurd z hq) (fun _ _ => h)), fun post h => Y post (ie_yr hm hc hS hs hO ho hE hac n2 n3 (fun z => absurd z hq) (fun _ => h))⟩
end
end
section
/-! own rows: the walks of addClass and addMethod -/
/-- bit j of the supers is refused -/
def ia_H (x2 : Int32) (c : Nat) (cf : Nat → Int32) (j : Nat) : Prop := bt x2 j = true ∧ ¬ (j < c ∧ ¬ cf j &&& 512 = 0)
section
variable {kc : Int32} {c m : Nat} {ch : Int64} {cf aS aO aX aY fl : Nat → Int32} {x1 x2 : Int32}
theorem ia_x13s {post : Int32 → SX → Prop} {n j : Nat} (hc : c ≤ 6) (hj : j < 32)
    (hw : ¬ ia_H x2 c cf j → wX_addClass_13 post x1 x2 kc (nI c) (nI m) cf aS aO aX fl n (nI (j + 1)))
    (hx : ia_H x2 c cf j → post (-1) (kc, nI c, nI m, cf, aS, aO, aX, fl)) :
    wX_addClass_13 post x1 x2 kc (nI c) (nI m) cf aS aO aX fl (n + 1) (nI j) := by
  refine br_f (nI_ge (b := 32) hj (by decide)) (br_c (fun z => nm_r (nI_1 j) (hw (fun h => iz_ff ((ib_ub x2 hj).mp z) h.1))) (fun z => ?_))
  have hb : bt x2 j = true := iz_nf (fun e => z ((ib_ub x2 hj).mpr e))
  refine br_c (fun z1 => ?_) (fun z1 => hx ⟨hb, fun h => z1 (nI_lt h.1 (by omega))⟩)
  have hjc : j < c := (nI_ltI (by omega) (by omega)).mp z1
  refine ⟨vp_in_nI (by omega) (by omega), ?_⟩
  rw [nI_clamp (show j < 2 ^ 31 by omega)]
  exact br_c (fun z2 => hx ⟨hb, fun h => h.2 z2⟩) (fun z2 => nm_r (nI_1 j) (hw (fun h => h.2 ⟨hjc, z2⟩)))
theorem ia_y13s {post : Int32 → SY → Prop} {n j : Nat} (hc : c ≤ 6) (hj : j < 32)
    (hw : ¬ ia_H x2 c cf j → wY_addClass_13 post x1 x2 kc (nI c) (nI m) ch cf aS aO aY fl n (nI (j + 1)))
    (hx : ia_H x2 c cf j → post (-1) (kc, nI c, nI m, ch, cf, aS, aO, aY, fl)) :
    wY_addClass_13 post x1 x2 kc (nI c) (nI m) ch cf aS aO aY fl (n + 1) (nI j) := by
  refine br_f (nI_ge (b := 32) hj (by decide)) (br_c (fun z => nm_r (nI_1 j) (hw (fun h => iz_ff ((ib_ub x2 hj).mp z) h.1))) (fun z => ?_))
  have hb : bt x2 j = true := iz_nf (fun e => z ((ib_ub x2 hj).mpr e))
  refine br_c (fun z1 => hx ⟨hb, fun h => nI_ge h.1 (by omega) z1⟩) (fun z1 => ?_)
  have hjc : j < c := Nat.lt_of_not_le (fun h => z1 (nI_le h (by omega)))
  refine ⟨vp_in_nI (by omega) (by omega), ?_⟩
  rw [nI_clamp (show j < 2 ^ 31 by omega)]
  exact br_c (fun z2 => hx ⟨hb, fun h => h.2 z2⟩) (fun z2 => nm_r (nI_1 j) (hw (fun h => h.2 ⟨hjc, z2⟩)))
theorem ia_x13 {post : Int32 → SX → Prop} (hc : c < 6)
    (hA : (∀ j, j < 32 → ¬ ia_H x2 c cf j) → post (nI c) (kc, nI (c + 1), nI m, upd cf c (x1 &&& 65535), upd aS c x2, aO, aX, fl))
    (hB : ¬ (∀ j, j < 32 → ¬ ia_H x2 c cf j) → post (-1) (kc, nI c, nI m, cf, aS, aO, aX, fl)) :
    wX_addClass_13 post x1 x2 kc (nI c) (nI m) cf aS aO aX fl (32 + 1) (nI 0) := by
  refine im_scan (fun n j => wX_addClass_13 post x1 x2 kc (nI c) (nI m) cf aS aO aX fl n (nI j)) 32 (ia_H x2 c cf) (post (nI c) (kc, nI (c + 1), nI m, upd cf c (x1 &&& 65535), upd aS c x2, aO, aX, fl)) (fun _ => post (-1) (kc, nI c, nI m, cf, aS, aO, aX, fl)) ?_ ?_ ?_ hA (fun k hk h _ => hB (fun g => g k hk h))
  · intro h n
    have hv : vp_in (nI c) 6 := vp_in_nI hc (by omega)
    have hcl : (nI c).toNatClampNeg = c := nI_clamp (by omega)
    exact br_t (nI_le (a := 32) (Nat.le_refl 32) (by decide)) ⟨hv, nm_r (by rw [hcl]) ⟨hv, nm_r (by rw [hcl]) (nm_r (nI_1 c) h)⟩⟩
  · intro n j hj hH hw
    exact ia_x13s (by omega) hj (fun _ => hw) (fun h => absurd h hH)
  · intro n j hj hH hb
    exact ia_x13s (by omega) hj (fun h => absurd hH h) (fun _ => hb)
theorem ia_y13 {post : Int32 → SY → Prop} (hc : c < 6)
    (hA : (∀ j, j < 32 → ¬ ia_H x2 c cf j) → post (nI c) (kc, nI (c + 1), nI m, ch, upd cf c (vp_nar .char ((x1.toUInt32 % 65536).toInt32)), upd aS c (vp_nar .byte x2.toInt8.toInt32), aO, aY, fl))
    (hB : ¬ (∀ j, j < 32 → ¬ ia_H x2 c cf j) → post (-1) (kc, nI c, nI m, ch, cf, aS, aO, aY, fl)) :
    wY_addClass_13 post x1 x2 kc (nI c) (nI m) ch cf aS aO aY fl (32 + 1) (nI 0) := by
  refine im_scan (fun n j => wY_addClass_13 post x1 x2 kc (nI c) (nI m) ch cf aS aO aY fl n (nI j)) 32 (ia_H x2 c cf) (post (nI c) (kc, nI (c + 1), nI m, ch, upd cf c (vp_nar .char ((x1.toUInt32 % 65536).toInt32)), upd aS c (vp_nar .byte x2.toInt8.toInt32), aO, aY, fl)) (fun _ => post (-1) (kc, nI c, nI m, ch, cf, aS, aO, aY, fl)) ?_ ?_ ?_ hA (fun k hk h _ => hB (fun g => g k hk h))
  · intro h n
    have hv : vp_in (nI c) 6 := vp_in_nI hc (by omega)
    have hcl : (nI c).toNatClampNeg = c := nI_clamp (by omega)
    exact br_t (nI_le (a := 32) (Nat.le_refl 32) (by decide)) ⟨hv, nm_r (by rw [hcl]) ⟨hv, nm_r (by rw [hcl]) (nm_r (nI_1 c) h)⟩⟩
  · intro n j hj hH hw
    exact ia_y13s (by omega) hj (fun _ => hw) (fun h => absurd h hH)
  · intro n j hj hH hb
    exact ia_y13s (by omega) hj (fun h => absurd hH h) (fun _ => hb)
/-- supers that are taken are a mask below 2^c -/
theorem ia_ok (h : ∀ j, j < 32 → ¬ ia_H x2 c cf j) : ∃ k, k < 2 ^ c ∧ x2 = nI k := by
  obtain ⟨k, hk, rfl⟩ := wb_of32 x2
  refine ⟨k, Nat.lt_pow_two_of_testBit k (fun i hi => ?_), rfl⟩
  rcases Nat.lt_or_ge i 32 with z | z
  · cases hb : k.testBit i
    · rfl
    · exact absurd ⟨by rw [ib_n z]; exact hb, fun g => absurd g.1 (by omega)⟩ (h i z)
  · exact Nat.testBit_lt_two_pow (Nat.lt_of_lt_of_le hk (Nat.pow_le_pow_right (by decide) z))
theorem ia_x36 {post : Int32 → SX → Prop} {x3 x4 : Int32} (hm : m < 12)
    (hA : (∀ j, j < m → ¬ (aO j = x1 ∧ aX j = x4)) → post (nI m) (kc, nI c, nI (m + 1), cf, aS, upd aO m x1, upd aX m x4, upd fl m (x3 &&& 65535)))
    (hB : ¬ (∀ j, j < m → ¬ (aO j = x1 ∧ aX j = x4)) → post (-1) (kc, nI c, nI m, cf, aS, aO, aX, fl)) :
    wX_addMethod_36 post x1 x3 x4 kc (nI c) (nI m) cf aS aO aX fl (m + 1) (nI 0) := by
  refine im_scan (fun n j => wX_addMethod_36 post x1 x3 x4 kc (nI c) (nI m) cf aS aO aX fl n (nI j)) m (fun j => aO j = x1 ∧ aX j = x4) (post (nI m) (kc, nI c, nI (m + 1), cf, aS, upd aO m x1, upd aX m x4, upd fl m (x3 &&& 65535))) (fun _ => post (-1) (kc, nI c, nI m, cf, aS, aO, aX, fl)) ?_ ?_ ?_ hA (fun k hk h _ => hB (fun g => g k hk h))
  · intro h n
    have hv : vp_in (nI m) 12 := vp_in_nI hm (by omega)
    have hcl : (nI m).toNatClampNeg = m := nI_clamp (by omega)
    exact br_t (nI_le (Nat.le_refl m) (by omega)) ⟨hv, nm_r (by rw [hcl]) ⟨hv, nm_r (by rw [hcl]) ⟨hv, nm_r (by rw [hcl]) (nm_r (nI_1 m) h)⟩⟩⟩
  · intro n j hj hH hw
    have hv : vp_in (nI j) 12 := vp_in_nI (by omega) (by omega)
    refine br_f (nI_ge hj (by omega)) ⟨hv, ?_⟩
    rw [nI_clamp (show j < 2 ^ 31 by omega)]
    exact br_c (fun z1 => ⟨hv, br_f (fun z2 => hH ⟨z1, z2⟩) (nm_r (nI_1 j) hw)⟩) (fun _ => nm_r (nI_1 j) hw)
  · intro n j hj hH hb
    have hv : vp_in (nI j) 12 := vp_in_nI (by omega) (by omega)
    refine br_f (nI_ge hj (by omega)) ⟨hv, ?_⟩
    rw [nI_clamp (show j < 2 ^ 31 by omega)]
    exact br_t hH.1 ⟨hv, br_t hH.2 hb⟩
theorem ia_y34 {post : Int32 → SY → Prop} {E : Nat → Prop} {x3 x4 : Int32} (hm : m < 12) (hE : ∀ j, aY j = x4 ↔ E j)
    (hA : (∀ j, j < m → ¬ (aO j = x1 ∧ E j)) → post (nI m) (kc, nI c, nI (m + 1), ch, cf, aS, upd aO m (vp_nar .byte x1.toInt8.toInt32), upd aY m (vp_nar .short x4), upd fl m (vp_nar .char ((x3.toUInt32 % 65536).toInt32))))
    (hB : ¬ (∀ j, j < m → ¬ (aO j = x1 ∧ E j)) → post (-1) (kc, nI c, nI m, ch, cf, aS, aO, aY, fl)) :
    wY_addMethod_34 post x1 x3 x4 kc (nI c) (nI m) ch cf aS aO aY fl (m + 1) (nI 0) := by
  refine im_scan (fun n j => wY_addMethod_34 post x1 x3 x4 kc (nI c) (nI m) ch cf aS aO aY fl n (nI j)) m (fun j => aO j = x1 ∧ E j) (post (nI m) (kc, nI c, nI (m + 1), ch, cf, aS, upd aO m (vp_nar .byte x1.toInt8.toInt32), upd aY m (vp_nar .short x4), upd fl m (vp_nar .char ((x3.toUInt32 % 65536).toInt32)))) (fun _ => post (-1) (kc, nI c, nI m, ch, cf, aS, aO, aY, fl)) ?_ ?_ ?_ hA (fun k hk h _ => hB (fun g => g k hk h))
  · intro h n
    have hv : vp_in (nI m) 12 := vp_in_nI hm (by omega)
    have hcl : (nI m).toNatClampNeg = m := nI_clamp (by omega)
    exact br_t (nI_le (Nat.le_refl m) (by omega)) ⟨hv, nm_r (by rw [hcl]) ⟨hv, nm_r (by rw [hcl]) ⟨hv, nm_r (by rw [hcl]) (nm_r (nI_1 m) h)⟩⟩⟩
  · intro n j hj hH hw
    have hv : vp_in (nI j) 12 := vp_in_nI (by omega) (by omega)
    refine br_f (nI_ge hj (by omega)) ⟨hv, ?_⟩
    rw [nI_clamp (show j < 2 ^ 31 by omega)]
    exact br_c (fun z1 => ⟨hv, br_f (fun z2 => hH ⟨z1, (hE j).mp z2⟩) (nm_r (nI_1 j) hw)⟩) (fun _ => nm_r (nI_1 j) hw)
  · intro n j hj hH hb
    have hv : vp_in (nI j) 12 := vp_in_nI (by omega) (by omega)
    refine br_f (nI_ge hj (by omega)) ⟨hv, ?_⟩
    rw [nI_clamp (show j < 2 ^ 31 by omega)]
    exact br_t hH.1 ⟨hv, br_t ((hE j).mpr hH.2) hb⟩
end
end
section
/-! own rows: the relation and the owed statements -/
def ig_F (cp c m : Nat) (aS aO aX aY : Nat → Int32) : Prop :=
  cp ≤ 12 ∧ m ≤ 12 ∧ 1 ≤ c ∧ c ≤ 6
  ∧ (∀ j, ∃ k, k < 2 ^ j ∧ aS j = nI k)
  ∧ (∀ j, ∃ k, k < c ∧ aO j = nI k)
  ∧ (∀ j, ∃ g : Int32, aX j = g &&& 65535 ∧ aY j = g.toInt16.toInt32)
/-- same caps, counts, flags, supers, owners; supers name earlier rows only; owners are rows; each pair of sigs comes of one int; the choice is free -/
def i_Rel (_ : Nat) (u : SX) (v : SY) : Prop :=
  ∃ (cp c m : Nat) (ch : Int64) (cf aS aO aX aY fl : Nat → Int32), ig_F cp c m aS aO aX aY
    ∧ u = (nI cp, nI c, nI m, cf, aS, aO, aX, fl) ∧ v = (nI cp, nI c, nI m, ch, cf, aS, aO, aY, fl)
theorem ig_mk {k : Nat} (cp c m : Nat) (ch : Int64) (cf aS aO aX aY fl : Nat → Int32) (F : ig_F cp c m aS aO aX aY) : i_Rel k (nI cp, nI c, nI m, cf, aS, aO, aX, fl) (nI cp, nI c, nI m, ch, cf, aS, aO, aY, fl) :=
  ⟨cp, c, m, ch, cf, aS, aO, aX, aY, fl, F, rfl, rfl⟩
theorem ig_el {P : SX → SY → Prop} {k : Nat} {u : SX} {v : SY} (h : ∀ (cp c m : Nat) (ch : Int64) (cf aS aO aX aY fl : Nat → Int32), ig_F cp c m aS aO aX aY → P (nI cp, nI c, nI m, cf, aS, aO, aX, fl) (nI cp, nI c, nI m, ch, cf, aS, aO, aY, fl)) (I : i_Rel k u v) : P u v := by
  obtain ⟨cp, c, m, ch, cf, aS, aO, aX, aY, fl, F, rfl, rfl⟩ := I
  exact h cp c m ch cf aS aO aX aY fl F
theorem i_up {k : Nat} {u : SX} {v : SY} (h : i_Rel k u v) : i_Rel (k + 4) u v := ig_el (P := fun u v => i_Rel (k + 4) u v) (fun cp c m ch cf aS aO aX aY fl F => ig_mk cp c m ch cf aS aO aX aY fl F) h
theorem ig_u0 : upd (fun _ => 0) 0 0 = fun _ => 0 := by
  funext j
  unfold upd
  split <;> rfl
theorem ig_z1 : (0 : Int32) = 0 &&& 65535 := by decide
theorem ig_z2 : (0 : Int32) = (0 : Int32).toInt16.toInt32 := by decide
theorem ig_0 {cp : Nat} (h : cp ≤ 12) : i_Rel 1 (nI cp, 1, 0, upd (fun _ => 0) 0 33, upd (fun _ => 0) 0 0, fun _ => 0, fun _ => 0, fun _ => 0) (nI cp, 1, 0, 0, upd (fun _ => 0) 0 (vp_nar .char 33), fun _ => 0, fun _ => 0, fun _ => 0, fun _ => 0) := by
  rw [ig_u0, ib_v33]
  exact ig_mk cp 1 0 0 _ _ _ _ _ _ ⟨h, by decide, by decide, by decide, fun j => ⟨0, Nat.two_pow_pos j, rfl⟩, fun _ => ⟨0, by decide, rfl⟩, fun _ => ⟨0, ig_z1, ig_z2⟩⟩
theorem i_vc0 (k0 : Int32) : wpX_init (fun u => wpY_init (fun v => i_Rel 1 u v) k0) k0 := by
  by_cases h1 : 1 ≤ k0
  · by_cases h2 : k0 ≤ 12
    · have h3 : ¬ k0 < 0 := Int32.not_lt.mpr (Int32.le_trans (by decide) h1)
      obtain ⟨cp, hcp, rfl⟩ := nI_of h3
      have h4 : cp ≤ 12 := (nI_leI (b := 12) hcp (by decide)).mp h2
      refine br_t h1 (br_t h2 ?_)
      intro a1 e1 a2 e2
      subst e1 e2
      refine br_t h1 (br_t h2 ?_)
      intro a3 e3
      subst e3
      exact ig_0 h4
    · refine br_t h1 (br_f h2 ?_)
      intro a1 e1 a2 e2
      subst e1 e2
      refine br_t h1 (br_f h2 ?_)
      intro a3 e3
      subst e3
      exact ig_0 (cp := 12) (by decide)
  · refine br_f h1 (br_t (by decide) ?_)
    intro a1 e1 a2 e2
    subst e1 e2
    refine br_f h1 ?_
    intro a3 e3
    subst e3
    exact ig_0 (cp := 1) (by decide)
theorem ig_upd {a : Nat → Int32} {n : Nat} {x : Int32} {Q : Nat → Int32 → Prop} (h : ∀ j, Q j (a j)) (hx : Q n x) : ∀ j, Q j (upd a n x j) := by
  intro j
  by_cases z : j = n
  · subst z; rw [pk_us]; exact hx
  · rw [pk_un z]; exact h j
theorem i_vc_addClass {k : Nat} {u : SX} {v : SY} (I : i_Rel k u v) (hk : k + 4 ≤ 2049) (v1 : Int32) (v2 : Int32) : wpX_addClass (fun r u' => wpY_addClass (fun r' v' => r' = r ∧ i_Rel (k + 4) u' v') v v1 v2) u v1 v2 := by
  refine ig_el (P := fun u v => wpX_addClass (fun r u' => wpY_addClass (fun r' v' => r' = r ∧ i_Rel (k + 4) u' v') v v1 v2) u v1 v2) ?_ I
  intro cp c m ch cf aS aO aX aY fl F
  have F' := F
  obtain ⟨f1, f2, f3, f4, f5, f6, f7⟩ := F'
  have R : i_Rel (k + 4) (nI cp, nI c, nI m, cf, aS, aO, aX, fl) (nI cp, nI c, nI m, ch, cf, aS, aO, aY, fl) := ig_mk cp c m ch cf aS aO aX aY fl F
  by_cases hc : c < 6
  · have hl : nI c < 6 := nI_lt (b := 6) hc (by decide)
    by_cases hH : ∀ j, j < 32 → ¬ ia_H v2 c cf j
    · refine br_t hl ⟨32 + 1, ia_x13 hc (fun _ => br_t hl ⟨32 + 1, ia_y13 hc (fun _ => ⟨rfl, ?_⟩) (fun z => absurd hH z)⟩) (fun z => absurd hH z)⟩
      obtain ⟨q, hq, rfl⟩ := ia_ok hH
      have hq64 : q < 64 := Nat.lt_of_lt_of_le hq (Nat.pow_le_pow_right (n := 2) (j := 6) (by decide) (by omega))
      rw [ib_vc, ib_vb hq64]
      refine ig_mk cp (c + 1) m ch _ _ _ _ _ _ ⟨f1, f2, by omega, by omega, ig_upd (Q := fun j x => ∃ k, k < 2 ^ j ∧ x = nI k) f5 ⟨q, hq, rfl⟩, fun j => ?_, f7⟩
      obtain ⟨p, hp, e⟩ := f6 j
      exact ⟨p, by omega, e⟩
    · exact br_t hl ⟨32 + 1, ia_x13 hc (fun z => absurd z hH) (fun _ => br_t hl ⟨32 + 1, ia_y13 hc (fun z => absurd z hH) (fun _ => ⟨rfl, R⟩)⟩)⟩
  · have hl : ¬ nI c < 6 := nI_nlt (b := 6) (by omega) (by omega)
    exact br_f hl (br_f hl ⟨rfl, R⟩)
theorem i_vc_addMethod {k : Nat} {u : SX} {v : SY} (I : i_Rel k u v) (hk : k + 4 ≤ 2049) (v1 : Int32) (v2 : Int32) (v3 : Int32) : wpX_addMethod (fun r u' => wpY_addMethod (fun r' v' => r' = r ∧ i_Rel (k + 4) u' v') v v1 v2 v3) u v1 v2 v3 := by
  refine ig_el (P := fun u v => wpX_addMethod (fun r u' => wpY_addMethod (fun r' v' => r' = r ∧ i_Rel (k + 4) u' v') v v1 v2 v3) u v1 v2 v3) ?_ I
  intro cp c m ch cf aS aO aX aY fl F
  have F' := F
  obtain ⟨f1, f2, f3, f4, f5, f6, f7⟩ := F'
  have R : i_Rel (k + 4) (nI cp, nI c, nI m, cf, aS, aO, aX, fl) (nI cp, nI c, nI m, ch, cf, aS, aO, aY, fl) := ig_mk cp c m ch cf aS aO aX aY fl F
  by_cases hl : nI m < nI cp
  rotate_left
  · exact br_f hl (br_f hl ⟨rfl, R⟩)
  have hm : m < cp := (nI_ltI (by omega) (by omega)).mp hl
  by_cases hn : v1 < 0
  · exact br_t hl (br_t hn (br_t hl (br_t hn ⟨rfl, R⟩)))
  by_cases hv : v1 < nI c
  rotate_left
  · exact br_t hl (br_f hn (br_f hv (br_t hl (br_f hn (br_f hv ⟨rfl, R⟩)))))
  obtain ⟨a, ha, rfl⟩ := nI_of hn
  have hac : a < c := (nI_ltI ha (by omega)).mp hv
  have hE : ∀ j, aY j = v2.toInt16.toInt32 ↔ aX j = v2 &&& 65535 := by
    intro j
    obtain ⟨g, e1, e2⟩ := f7 j
    rw [e1, e2]
    exact ib_sig g v2
  by_cases hH : ∀ j, j < m → ¬ (aO j = nI a ∧ aX j = v2 &&& 65535)
  · refine br_t hl (br_f hn (br_t hv (nm_e ⟨m + 1, ia_x36 (by omega) (fun _ => br_t hl (br_f hn (br_t hv ⟨m + 1, ia_y34 (by omega) hE (fun _ => ⟨rfl, ?_⟩) (fun z => absurd hH z)⟩))) (fun z => absurd hH z)⟩)))
    rw [ib_vc, ib_vb (show a < 64 by omega), pk_vs]
    refine ig_mk cp c (m + 1) ch _ _ _ _ _ _ ⟨f1, by omega, f3, f4, f5, ig_upd (Q := fun _ x => ∃ k, k < c ∧ x = nI k) f6 ⟨a, hac, rfl⟩, fun j => ?_⟩
    by_cases z : j = m
    · subst z
      exact ⟨v2, pk_us, pk_us⟩
    · rw [pk_un z, pk_un z]
      exact f7 j
  · exact br_t hl (br_f hn (br_t hv (nm_e ⟨m + 1, ia_x36 (by omega) (fun z => absurd z hH) (fun _ => br_t hl (br_f hn (br_t hv ⟨m + 1, ia_y34 (by omega) hE (fun z => absurd z hH) (fun _ => ⟨rfl, R⟩)⟩)))⟩)))
/-- solve and lookup at related states -/
theorem ig_meet {cp c m : Nat} (ch : Int64) (cf : Nat → Int32) {aS aO aX aY : Nat → Int32} (fl : Nat → Int32) (F : ig_F cp c m aS aO aX aY) (p0 p1 : Int32) :
    ∃ r y cn : Int64, r &&& 4095 = y ∧ (r &&& 4294967296 = 0 ↔ cn = 0)
      ∧ (∀ post : Int64 → Prop, post r → wpX_solve post (nI cp, nI c, nI m, cf, aS, aO, aX, fl) p0 p1)
      ∧ (∀ post : Int64 → SY → Prop, post y (nI cp, nI c, nI m, cn, cf, aS, aO, aY, fl) → wpY_lookup post (nI cp, nI c, nI m, ch, cf, aS, aO, aY, fl) p0 p1) := by
  obtain ⟨f1, f2, f3, f4, f5, f6, f7⟩ := F
  obtain ⟨s, hs⟩ := Classical.skolem.mp f5
  obtain ⟨o, ho⟩ := Classical.skolem.mp f6
  exact ie_meet f2 f4 (fun j => (hs j).2) (fun j => (hs j).1) (fun j => (ho j).2) (fun j => (ho j).1) f7 p0 p1
theorem i_vc_verdict {k : Nat} {u : SX} {v : SY} (I : i_Rel k u v) (hk : k + 4 ≤ 2049) (v1 : Int32) (v2 : Int32) : wpX_verdict (fun r => wpY_verdict (fun r' v' => r' = r ∧ i_Rel (k + 4) u v') v v1 v2) u v1 v2 := by
  refine ig_el (P := fun u v => wpX_verdict (fun r => wpY_verdict (fun r' v' => r' = r ∧ i_Rel (k + 4) u v') v v1 v2) u v1 v2) ?_ I
  intro cp c m ch cf aS aO aX aY fl F
  have R : ∀ cn : Int64, i_Rel (k + 4) (nI cp, nI c, nI m, cf, aS, aO, aX, fl) (nI cp, nI c, nI m, cn, cf, aS, aO, aY, fl) := fun cn => ig_mk cp c m cn cf aS aO aX aY fl F
  have f4 : c ≤ 6 := F.2.2.2.1
  by_cases hn : v1 < 0
  · exact br_t hn (br_t hn ⟨rfl, R ch⟩)
  by_cases hl : v1 < nI c
  rotate_left
  · exact br_f hn (br_f hl (br_f hn (br_f hl ⟨rfl, R ch⟩)))
  have hv : vp_in v1 6 := by
    obtain ⟨a, ha, rfl⟩ := nI_of hn
    have hac : a < c := (nI_ltI ha (by omega)).mp hl
    exact vp_in_nI (by omega) (by omega)
  by_cases hf : cf v1.toNatClampNeg &&& 512 = 0
  · exact br_f hn (br_t hl ⟨hv, br_t hf (br_f hn (br_t hl ⟨hv, br_t hf ⟨rfl, R ch⟩⟩))⟩)
  obtain ⟨r, y, cn, e1, e2, hX, hY⟩ := ig_meet ch cf fl F v1 v2
  refine br_f hn (br_t hl ⟨hv, br_f hf (hX _ ?_)⟩)
  dsimp only
  rw [e1]
  by_cases hy : y = 0
  · exact br_t hy (br_f hn (br_t hl ⟨hv, br_f hf (hY _ (br_t hy ⟨rfl, R cn⟩))⟩))
  · exact br_f hy (br_f hn (br_t hl ⟨hv, br_f hf (hY _ (br_f hy ⟨rfl, R cn⟩))⟩))
theorem i_vc_permitted {k : Nat} {u : SX} {v : SY} (I : i_Rel k u v) (hk : k + 4 ≤ 2049) (v1 : Int32) (v2 : Int32) : wpX_permitted (fun r => wpY_permitted (fun r' v' => r' = r ∧ i_Rel (k + 4) u v') v v1 v2) u v1 v2 := by
  refine ig_el (P := fun u v => wpX_permitted (fun r => wpY_permitted (fun r' v' => r' = r ∧ i_Rel (k + 4) u v') v v1 v2) u v1 v2) ?_ I
  intro cp c m ch cf aS aO aX aY fl F
  have R : ∀ cn : Int64, i_Rel (k + 4) (nI cp, nI c, nI m, cf, aS, aO, aX, fl) (nI cp, nI c, nI m, cn, cf, aS, aO, aY, fl) := fun cn => ig_mk cp c m cn cf aS aO aX aY fl F
  obtain ⟨r, y, cn, e1, e2, hX, hY⟩ := ig_meet ch cf fl F v1 v2
  unfold wpX_permitted wpY_permitted
  dsimp only
  refine hX _ ?_
  refine hY _ ?_
  exact ⟨e1.symm, R cn⟩
theorem i_vc_isFree {k : Nat} {u : SX} {v : SY} (I : i_Rel k u v) (hk : k + 4 ≤ 2049) (v1 : Int32) (v2 : Int32) : wpX_isFree (fun r => wpY_isFree (fun r' v' => r' = r ∧ i_Rel (k + 4) u v') v v1 v2) u v1 v2 := by
  refine ig_el (P := fun u v => wpX_isFree (fun r => wpY_isFree (fun r' v' => r' = r ∧ i_Rel (k + 4) u v') v v1 v2) u v1 v2) ?_ I
  intro cp c m ch cf aS aO aX aY fl F
  have R : ∀ cn : Int64, i_Rel (k + 4) (nI cp, nI c, nI m, cf, aS, aO, aX, fl) (nI cp, nI c, nI m, cn, cf, aS, aO, aY, fl) := fun cn => ig_mk cp c m cn cf aS aO aX aY fl F
  obtain ⟨r, y, cn, e1, e2, hX, hY⟩ := ig_meet ch cf fl F v1 v2
  unfold wpX_isFree wpY_isFree
  dsimp only
  refine hX _ ?_
  by_cases hz : r &&& 4294967296 = 0
  · exact br_t hz (hY _ (br_t (e2.mp hz) ⟨rfl, R cn⟩))
  · exact br_f hz (hY _ (br_f (fun w => hz (e2.mpr w)) ⟨rfl, R cn⟩))
theorem i_vc_row {k : Nat} {u : SX} {v : SY} (I : i_Rel k u v) (hk : k + 4 ≤ 2049) (v1 : Int32) : wpX_row (fun r => wpY_row (fun r' => r' = r ∧ i_Rel (k + 4) u v) v v1) u v1 := by
  refine ig_el (P := fun u v => wpX_row (fun r => wpY_row (fun r' => r' = r ∧ i_Rel (k + 4) u v) v v1) u v1) ?_ I
  intro cp c m ch cf aS aO aX aY fl F
  have R : i_Rel (k + 4) (nI cp, nI c, nI m, cf, aS, aO, aX, fl) (nI cp, nI c, nI m, ch, cf, aS, aO, aY, fl) := ig_mk cp c m ch cf aS aO aX aY fl F
  obtain ⟨f1, f2, f3, f4, f5, f6, f7⟩ := F
  by_cases hn : v1 < 0
  · exact br_t hn (br_t hn ⟨rfl, R⟩)
  by_cases hl : v1 < nI m
  rotate_left
  · exact br_f hn (br_f hl (br_f hn (br_f hl ⟨rfl, R⟩)))
  have hv : vp_in v1 12 := by
    obtain ⟨a, ha, rfl⟩ := nI_of hn
    have hac : a < m := (nI_ltI ha (by omega)).mp hl
    exact vp_in_nI (by omega) (by omega)
  refine br_f hn (br_t hl ⟨hv, hv, hv, br_f hn (br_t hl ⟨hv, hv, hv, ?_, R⟩)⟩)
  obtain ⟨g, e1, e2⟩ := f7 v1.toNatClampNeg
  rw [e1, e2, ib_row]
end
