section
/-! pure rows to paste: stores, nI and lN arithmetic, masks, shifts, narrowing, branches by naturals (pk_le, pk_lt, pk_eq), loops (lp1 .. lp16: the measure of the state; rp1 ..: recursion), negatives. Take what you need -/
theorem pk_us {f : Nat → Int32} {k : Nat} {x : Int32} : upd f k x k = x := if_pos rfl
theorem pk_un {f : Nat → Int32} {k j : Nat} {x : Int32} (h : j ≠ k) : upd f k x j = f j := if_neg h
theorem pk_sub {a b : Nat} (h : b ≤ a) : nI a - nI b = nI (a - b) := by
  obtain ⟨c, rfl⟩ : ∃ c, a = c + b := ⟨a - b, by omega⟩
  rw [← nI_add, Int32.add_sub_cancel, Nat.add_sub_cancel]
theorem pk_m1 (n : Nat) : nI (n + 1) + (-1) = nI n := by
  rw [← nI_1, Int32.add_assoc, show (1 : Int32) + (-1) = 0 from rfl, Int32.add_zero]
theorem pk_mul (a b : Nat) : nI a * nI b = nI (a * b) := (Int32.ofNat_mul a b).symm
theorem pk_ix (x : Int32) {n : Nat} (hn : n < 2 ^ 31) : x < 0 ∨ nI n ≤ x ∨ ∃ j : Nat, j < n ∧ x = nI j := by
  by_cases h : x < 0
  · exact Or.inl h
  · obtain ⟨j, hj, rfl⟩ := nI_of h
    by_cases h2 : j < n
    · exact Or.inr (Or.inr ⟨j, h2, rfl⟩)
    · exact Or.inr (Or.inl (nI_le (by omega) hj))
theorem pk_le {x y : Int32} {A B : Prop} (a b : Nat) (f : a ≤ b → A) (g : b < a → B) (hx : x = nI a := by rfl) (hy : y = nI b := by rfl) (ha : a < 2 ^ 31 := by omega) (hb : b < 2 ^ 31 := by omega) : (x ≤ y → A) ∧ (¬ x ≤ y → B) := by
  subst hx hy
  rw [nI_leI ha hb]
  exact ⟨f, fun z => g (by omega)⟩
theorem pk_lt {x y : Int32} {A B : Prop} (a b : Nat) (f : a < b → A) (g : b ≤ a → B) (hx : x = nI a := by rfl) (hy : y = nI b := by rfl) (ha : a < 2 ^ 31 := by omega) (hb : b < 2 ^ 31 := by omega) : (x < y → A) ∧ (¬ x < y → B) := by
  subst hx hy
  rw [nI_ltI ha hb]
  exact ⟨f, fun z => g (by omega)⟩
theorem pk_eq {x y : Int32} {A B : Prop} (a b : Nat) (f : a = b → A) (g : a ≠ b → B) (hx : x = nI a := by rfl) (hy : y = nI b := by rfl) (ha : a < 2 ^ 31 := by omega) (hb : b < 2 ^ 31 := by omega) : (x = y → A) ∧ (¬ x = y → B) := by
  subst hx hy
  rw [nI_eq ha hb]
  exact ⟨f, g⟩
theorem pk_in {x : Int32} (n N : Nat) (h : n < N) (hx : x = nI n := by rfl) (hN : N < 2 ^ 31 := by omega) : vp_in x N := by
  subst hx
  exact vp_in_nI h hN
theorem pk_cl {x : Int32} (n : Nat) (hx : x = nI n := by rfl) (h : n < 2 ^ 31 := by omega) : x.toNatClampNeg = n := by
  subst hx
  exact nI_clamp h
theorem pk_tn {n : Nat} (h : n < 2 ^ 32) : (nI n).toBitVec.toNat = n := Nat.mod_eq_of_lt h
theorem pk_and (x : Int32) {m : Int32} (k : Nat) (hm : m.toBitVec.toNat = 2 ^ k - 1) : x &&& m = nI (x.toBitVec.toNat % 2 ^ k) := by
  apply Int32.toBitVec_inj.mp
  apply BitVec.eq_of_toNat_eq
  rw [Int32.toBitVec_and, BitVec.toNat_and, hm, Nat.and_two_pow_sub_one_eq_mod]
  show _ = (BitVec.ofNat 32 _).toNat
  rw [BitVec.toNat_ofNat]
  exact (Nat.mod_eq_of_lt (Nat.lt_of_le_of_lt (Nat.mod_le _ _) x.toBitVec.isLt)).symm
theorem pk_andN {n : Nat} (h : n < 2 ^ 32) {m : Int32} (k : Nat) (hm : m.toBitVec.toNat = 2 ^ k - 1) : nI n &&& m = nI (n % 2 ^ k) := by
  rw [pk_and _ k hm, pk_tn h]
theorem pk_andE (x : Int32) {m : Int32} (k : Nat) (hm : m.toBitVec.toNat = 2 ^ k - 1) : ∃ j : Nat, j < 2 ^ k ∧ x &&& m = nI j := ⟨_, Nat.mod_lt _ (Nat.two_pow_pos k), pk_and x k hm⟩
theorem pk_andIn (x : Int32) {m : Int32} (k : Nat) (hm : m.toBitVec.toNat = 2 ^ k - 1) (hk : k ≤ 30) : vp_in (x &&& m) (2 ^ k) := by
  obtain ⟨j, hj, e⟩ := pk_andE x k hm
  rw [e]
  exact vp_in_nI hj (Nat.lt_of_le_of_lt (Nat.pow_le_pow_right (by decide) hk) (by decide))
theorem pk_shl (a s : Int32) (k : Nat) (hs : (s.toBitVec.smod 32).toNat = k) : (a <<< s).toBitVec.toNat = a.toBitVec.toNat * 2 ^ k % 2 ^ 32 := by
  show (a.toBitVec <<< (s.toBitVec.smod 32).toNat).toNat = _
  rw [hs, BitVec.toNat_shiftLeft, Nat.shiftLeft_eq]
theorem pk_shlN {n : Nat} (s : Int32) (k : Nat) (hs : (s.toBitVec.smod 32).toNat = k) (h : n * 2 ^ k < 2 ^ 32) : nI n <<< s = nI (n * 2 ^ k) := by
  apply Int32.toBitVec_inj.mp
  apply BitVec.eq_of_toNat_eq
  have hn : n < 2 ^ 32 := Nat.lt_of_le_of_lt (Nat.le_mul_of_pos_right n (Nat.two_pow_pos k)) h
  rw [pk_shl _ _ k hs, pk_tn hn, pk_tn h, Nat.mod_eq_of_lt h]
theorem pk_shr (a s : Int32) (k : Nat) (hs : (s.toBitVec.smod 32).toNat = k) : (a >>> s).toInt = a.toInt >>> k := by
  show (a.toBitVec.sshiftRight (s.toBitVec.smod 32).toNat).toInt = _
  rw [hs, BitVec.toInt_sshiftRight]
  rfl
theorem pk_shrN {n : Nat} (h : n < 2 ^ 31) (s : Int32) (k : Nat) (hs : (s.toBitVec.smod 32).toNat = k) : nI n >>> s = nI (n / 2 ^ k) := by
  apply Int32.toInt_inj.mp
  have h2 : n / 2 ^ k ≤ n := Nat.div_le_self _ _
  rw [pk_shr _ _ k hs, nI_toInt h, nI_toInt (by omega), Int.shiftRight_eq_div_pow]
  rfl
theorem pk_nb (z : Int32) : narrow .byte (.int z.toInt8.toInt32) = .int z.toInt8.toInt32 := congrArg Value.int (by simp)
theorem pk_ns (z : Int32) : narrow .short (.int z.toInt16.toInt32) = .int z.toInt16.toInt32 := congrArg Value.int (by simp)
theorem pk_charN {q : Nat} (hq : q < 65536) : narrow .char (.int (nI q)) = .int (nI q) ∧ fits .char (.int (nI q)) = true := by
  constructor
  · have e : (nI q).toUInt32.toUInt16.toUInt32.toInt32 = nI q := by
      apply Int32.toBitVec_inj.mp
      apply BitVec.eq_of_toNat_eq
      show (nI q).toUInt32.toUInt16.toUInt32.toNat = q % 2 ^ 32
      rw [UInt16.toNat_toUInt32, UInt32.toNat_toUInt16, show (nI q).toUInt32.toNat = q % 2 ^ 32 from rfl]
      omega
    exact congrArg Value.int e
  · have a : (0 : Int32) ≤ nI q := nI_pos' (by omega)
    have b : nI q ≤ 65535 := nI_le (b := 65535) (by omega) (by decide)
    show (decide ((0 : Int32) ≤ nI q) && decide (nI q ≤ 65535)) = true
    rw [decide_eq_true a, decide_eq_true b]
    rfl
theorem pk_char (x : Int32) : (x.toUInt32 % 65536).toInt32 = nI (x.toBitVec.toNat % 65536) := by
  apply Int32.toBitVec_inj.mp
  apply BitVec.eq_of_toNat_eq
  rw [pk_tn (by omega)]
  show (x.toUInt32 % 65536).toNat = _
  rw [UInt32.toNat_mod]
  rfl
theorem pk_nc (x : Int32) : narrow .char (.int (x.toUInt32 % 65536).toInt32) = .int (x.toUInt32 % 65536).toInt32 := by
  rw [pk_char]
  exact (pk_charN (Nat.mod_lt _ (by decide))).1
theorem pk_vs (z : Int32) : vp_nar .short z.toInt16.toInt32 = z.toInt16.toInt32 := by rw [vp_nar_short]; simp
theorem pk_vc (z : Int32) : vp_nar .char (z.toUInt32 % 65536).toInt32 = (z.toUInt32 % 65536).toInt32 := Value.int.inj (pk_nc z)
/-! ===== Int32 by its bits: bt x i ===== -/
def bt (x : Int32) (i : Nat) : Bool := x.toBitVec.getLsbD i
theorem b_ext {x y : Int32} (h : ∀ i, i < 32 → bt x i = bt y i) : x = y := Int32.toBitVec_inj.mp (BitVec.eq_of_getLsbD_eq (fun i hi => h i hi))
theorem b_or (x y : Int32) (i : Nat) : bt (x ||| y) i = (bt x i || bt y i) := by unfold bt; rw [Int32.toBitVec_or, BitVec.getLsbD_or]
theorem b_and (x y : Int32) (i : Nat) : bt (x &&& y) i = (bt x i && bt y i) := by unfold bt; rw [Int32.toBitVec_and, BitVec.getLsbD_and]
theorem b_xor (x y : Int32) (i : Nat) : bt (x ^^^ y) i = (bt x i ^^ bt y i) := by unfold bt; rw [Int32.toBitVec_xor, BitVec.getLsbD_xor]
theorem b_big {x : Int32} {i : Nat} (h : 32 ≤ i) : bt x i = false := BitVec.getLsbD_of_ge _ _ h
theorem b_255 (i : Nat) : bt 255 i = decide (i < 8) := by
  rcases Nat.lt_or_ge i 32 with h | h
  · exact (by decide +kernel : ∀ i, i < 32 → bt 255 i = decide (i < 8)) i h
  · rw [b_big h, decide_eq_false (by omega)]
theorem b_65535 (i : Nat) : bt 65535 i = decide (i < 16) := by
  rcases Nat.lt_or_ge i 32 with h | h
  · exact (by decide +kernel : ∀ i, i < 32 → bt 65535 i = decide (i < 16)) i h
  · rw [b_big h, decide_eq_false (by omega)]
theorem b_m1 : ∀ i, i < 32 → bt (-1) i = true := by decide +kernel
theorem b_0 (i : Nat) : bt 0 i = false := BitVec.getLsbD_zero
theorem s_l : ∀ n, n < 32 → ((nI n &&& 31).toBitVec.smod 32).toNat = n := by decide +kernel
theorem s_u : ∀ n, n < 32 → (((nI n).toUInt32 &&& Int32.toUInt32 31).toBitVec % 32).toNat = n := by decide +kernel
theorem b_shl (n : Nat) (hn : n < 32) (x : Int32) {i : Nat} (hi : i < 32) : bt (x <<< (nI n &&& 31)) i = (decide (n ≤ i) && bt x (i - n)) := by
  unfold bt
  rw [Int32.toBitVec_shiftLeft]
  show (x.toBitVec <<< ((nI n &&& 31).toBitVec.smod 32).toNat).getLsbD i = _
  rw [s_l n hn, BitVec.getLsbD_shiftLeft]
  rcases Nat.lt_or_ge i n with h | h
  · simp [h, Nat.not_le.mpr h]
  · simp [hi, h, Nat.not_lt.mpr h]
theorem b_ushr (n : Nat) (hn : n < 32) (x : Int32) (i : Nat) : bt ((x.toUInt32 >>> ((nI n).toUInt32 &&& Int32.toUInt32 31)).toInt32) i = bt x (n + i) := by
  show (x.toUInt32 >>> ((nI n).toUInt32 &&& Int32.toUInt32 31)).toBitVec.getLsbD i = x.toUInt32.toBitVec.getLsbD (n + i)
  rw [UInt32.toBitVec_shiftRight]
  show (x.toUInt32.toBitVec >>> (((nI n).toUInt32 &&& Int32.toUInt32 31).toBitVec % 32).toNat).getLsbD i = _
  rw [s_u n hn, BitVec.getLsbD_ushiftRight]
theorem b_sshr (n : Nat) (hn : n < 32) (x : Int32) {i : Nat} (hi : i < 32) : bt (x >>> (nI n &&& 31)) i = if n + i < 32 then bt x (n + i) else bt x 31 := by
  unfold bt
  rw [Int32.toBitVec_shiftRight]
  show (x.toBitVec.sshiftRight ((nI n &&& 31).toBitVec.smod 32).toNat).getLsbD i = _
  rw [s_l n hn, BitVec.getLsbD_sshiftRight, BitVec.msb_eq_getLsbD_last]
  simp [hi]
/-! ===== the char cast and 65535 ===== -/
theorem em_w (v : Int32) : ∃ w : Nat, w < 65536 ∧ (v.toUInt32 % 65536).toInt32 = nI w ∧ v &&& 65535 = nI w := by
  have hr := lw_u16_r v
  have h0 : (0 : Int32).toInt = 0 := by decide
  obtain ⟨w, h1, h2⟩ := nI_of (x := lw_u16 v) (by rw [Int32.lt_iff_toInt_lt]; omega)
  have h3 : (v.toUInt32 % 65536).toInt32 = nI w := h2
  rw [h2, nI_toInt h1] at hr
  exact ⟨w, by omega, h3, by rw [← lg_i2c_mask, ← lg_i2c_nf, h3]⟩
/-! ===== nI under and, xor, >>>, one bit, 65535 ===== -/
theorem nx_and (a b : Nat) : nI a &&& nI b = nI (a &&& b) := by
  apply Int32.toBitVec_inj.1
  show BitVec.ofNat 32 a &&& BitVec.ofNat 32 b = BitVec.ofNat 32 (a &&& b)
  apply BitVec.eq_of_getLsbD_eq
  intro i hi
  simp [hi]
theorem nx_xor (a b : Nat) : nI a ^^^ nI b = nI (a ^^^ b) := by
  apply Int32.toBitVec_inj.1
  show BitVec.ofNat 32 a ^^^ BitVec.ofNat 32 b = BitVec.ofNat 32 (a ^^^ b)
  apply BitVec.eq_of_getLsbD_eq
  intro i hi
  simp [hi]
end
section
/-! sets of small numbers as the bits of an Int32 -/
def tw_hb (x : Int32) (i : Nat) : Prop := bt x i = true
theorem tw_hlt {x : Int32} {i : Nat} (h : tw_hb x i) : i < 32 := by
  rcases Nat.lt_or_ge i 32 with q | q
  · exact q
  · unfold tw_hb at h
    rw [b_big q] at h
    cases h
theorem tw_or {x y : Int32} {i : Nat} : tw_hb (x ||| y) i ↔ tw_hb x i ∨ tw_hb y i := by
  unfold tw_hb
  rw [b_or, Bool.or_eq_true]
theorem tw_h0 {i : Nat} : ¬ tw_hb 0 i := by
  unfold tw_hb
  rw [b_0]
  intro h
  cases h
theorem tw_k1 : ∀ i, i < 32 → bt 1 i = decide (i = 0) := by decide +kernel
theorem tw_k2 : ∀ i, i < 32 → bt 2 i = decide (i = 1) := by decide +kernel
theorem tw_k3 : ∀ i, i < 32 → bt 3 i = decide (i < 2) := by decide +kernel
theorem tw_k5 : ∀ i, i < 32 → bt 21845 i = decide (i < 16 ∧ i % 2 = 0) := by decide +kernel
theorem tw_one {n i : Nat} (hn : n < 32) : tw_hb ((1 : Int32) <<< (nI n &&& 31)) i ↔ i = n := by
  rcases Nat.lt_or_ge i 32 with h | h
  · unfold tw_hb
    rw [b_shl n hn 1 h, tw_k1 (i - n) (by omega)]
    simp only [Bool.and_eq_true, decide_eq_true_eq]
    omega
  · constructor
    · intro q
      have := tw_hlt q
      omega
    · intro q
      omega
theorem tw_two {n i : Nat} (hn : n < 31) : tw_hb ((2 : Int32) <<< (nI n &&& 31)) i ↔ i = n + 1 := by
  rcases Nat.lt_or_ge i 32 with h | h
  · unfold tw_hb
    rw [b_shl n (by omega) 2 h, tw_k2 (i - n) (by omega)]
    simp only [Bool.and_eq_true, decide_eq_true_eq]
    omega
  · constructor
    · intro q
      have := tw_hlt q
      omega
    · intro q
      omega
theorem tw_three {n i : Nat} (hn : n < 31) : tw_hb ((3 : Int32) <<< (nI n &&& 31)) i ↔ i = n ∨ i = n + 1 := by
  rcases Nat.lt_or_ge i 32 with h | h
  · unfold tw_hb
    rw [b_shl n (by omega) 3 h, tw_k3 (i - n) (by omega)]
    simp only [Bool.and_eq_true, decide_eq_true_eq]
    omega
  · constructor
    · intro q
      have := tw_hlt q
      omega
    · intro q
      omega
theorem tw_bf {b : Bool} (h : ¬ b = true) : b = false := by cases b <;> first | rfl | exact absurd rfl h
theorem tw_xor {x y : Int32} {i : Nat} : tw_hb (x ^^^ y) i ↔ ¬ (tw_hb x i ↔ tw_hb y i) := by
  unfold tw_hb
  rw [b_xor]
  cases bt x i <;> cases bt y i <;> simp
theorem tw_clr {x : Int32} {n i : Nat} (hn : n < 32) : tw_hb (x &&& (((1 : Int32) <<< (nI n &&& 31)) ^^^ (-1))) i ↔ tw_hb x i ∧ i ≠ n := by
  rcases Nat.lt_or_ge i 32 with h | h
  · have e : bt ((1 : Int32) <<< (nI n &&& 31)) i = true ↔ i = n := tw_one hn
    unfold tw_hb
    rw [b_and, b_xor, b_m1 i h]
    by_cases hi : i = n
    · rw [e.mpr hi]
      simp [hi]
    · rw [tw_bf (fun q => hi (e.mp q))]
      simp [hi]
  · constructor
    · intro q
      have := tw_hlt q
      omega
    · intro q
      have := tw_hlt q.1
      omega
theorem tw_sub {x y : Int32} : (x &&& (y ^^^ (-1))) = 0 ↔ ∀ i, tw_hb x i → tw_hb y i := by
  constructor
  · intro h i hx
    have hi := tw_hlt hx
    have q : bt (x &&& (y ^^^ (-1))) i = false := by rw [h, b_0]
    rw [b_and, b_xor, b_m1 i hi] at q
    unfold tw_hb at hx ⊢
    rw [hx] at q
    cases hy : bt y i
    · rw [hy] at q
      cases q
    · rfl
  · intro h
    apply b_ext
    intro i hi
    rw [b_0, b_and, b_xor, b_m1 i hi]
    have hq := h i
    unfold tw_hb at hq
    cases hx : bt x i
    · rfl
    · rw [hq hx]
      rfl
theorem tw_get (n : Nat) (hn : n < 32) (x : Int32) : (x >>> (nI n &&& 31)) &&& 1 = nI (if bt x n = true then 1 else 0) := by
  apply b_ext
  intro i hi
  rw [b_and, tw_k1 i hi]
  by_cases h0 : i = 0
  · subst h0
    rw [b_sshr n hn x hi, if_pos (by omega), Nat.add_zero]
    cases bt x n <;> decide
  · rw [decide_eq_false h0, Bool.and_false]
    have a1 : ∀ i, i < 32 → i ≠ 0 → bt (nI 1) i = false := by decide +kernel
    cases bt x n
    · exact (b_0 i).symm
    · exact (a1 i hi h0).symm
theorem tw_tst {x : Int32} {n : Nat} (hn : n < 32) : ((x >>> (nI n &&& 31)) &&& 1) = 0 ↔ ¬ tw_hb x n := by
  rw [tw_get n hn x]
  unfold tw_hb
  cases bt x n <;> decide
theorem tw_cns {x : Int32} : ((x &&& (x >>> ((1 : Int32) &&& 31))) &&& 21845) = 0 ↔ ∀ j, j < 8 → ¬ (tw_hb x (2 * j) ∧ tw_hb x (2 * j + 1)) := by
  have e : ∀ i, i < 32 → bt (x >>> ((1 : Int32) &&& 31)) i = if 1 + i < 32 then bt x (1 + i) else bt x 31 := fun i hi => b_sshr 1 (by omega) x hi
  constructor
  · intro h j hj hab
    have a : bt x (2 * j) = true := hab.1
    have b : bt x (2 * j + 1) = true := hab.2
    have q : bt ((x &&& (x >>> ((1 : Int32) &&& 31))) &&& 21845) (2 * j) = true := by
      rw [b_and, b_and, e _ (by omega), tw_k5 _ (by omega), if_pos (by omega), Nat.add_comm 1, a, b]
      simp
      omega
    rw [h, b_0] at q
    cases q
  · intro h
    apply b_ext
    intro i hi
    rw [b_0, b_and, b_and, e i hi, tw_k5 i hi]
    by_cases hc : i < 16 ∧ i % 2 = 0
    · rw [if_pos (by omega)]
      have q := h (i / 2) (by omega)
      unfold tw_hb at q
      rw [show 2 * (i / 2) = i by omega, Nat.add_comm i 1] at q
      cases h1 : bt x i
      · rfl
      · cases h2 : bt x (1 + i)
        · rfl
        · exact absurd ⟨h1, h2⟩ q
    · rw [decide_eq_false hc, Bool.and_false]
theorem tw_chr {x : Int32} {i : Nat} : tw_hb (vp_nar .char ((x.toUInt32 % 65536).toInt32)) i ↔ i < 16 ∧ tw_hb x i := by
  obtain ⟨w, _, h1, h2⟩ := em_w x
  rw [pk_vc, h1, ← h2]
  unfold tw_hb
  rw [b_and, b_65535, Bool.and_eq_true, decide_eq_true_eq]
  exact And.comm
/-! numbers -/
theorem tw_half {c : Nat} (h : c < 2 ^ 31) : nI c >>> ((1 : Int32) &&& 31) = nI (c / 2) := pk_shrN h _ 1 (by decide)
theorem tw_a1 {c : Nat} (h : c < 2 ^ 32) : nI c &&& 1 = nI (c % 2) := pk_andN h 1 (by decide)
def tw_op (c : Nat) : Nat := if c % 2 = 0 then c + 1 else c - 1
theorem tw_op_x : ∀ c, c < 16 → nI c ^^^ 1 = nI (tw_op c) := by decide +kernel
theorem tw_op_op (c : Nat) : tw_op (tw_op c) = c := by unfold tw_op; split <;> split <;> omega
theorem tw_op_div (c : Nat) : tw_op c / 2 = c / 2 := by unfold tw_op; split <;> omega
theorem tw_op_lt {c : Nat} (h : c < 16) : tw_op c < 16 := by unfold tw_op; split <;> omega
theorem tw_op_mod (c : Nat) : tw_op c % 2 = 1 - c % 2 := by unfold tw_op; split <;> omega
theorem tw_op_ev (j : Nat) : tw_op (2 * j) = 2 * j + 1 := by unfold tw_op; split <;> omega
theorem tw_op_od (j : Nat) : tw_op (2 * j + 1) = 2 * j := by unfold tw_op; split <;> omega
theorem tw_op_2 {c d : Nat} (h : c / 2 = d / 2) : c = d ∨ c = tw_op d := by unfold tw_op; split <;> omega
theorem tw_16 {n : Nat} (h : 16 ≤ n) (h2 : n < 2 ^ 31) : (16 : Int32) ≤ nI n := nI_le (a := 16) h h2
theorem tw_n16 {n : Nat} (h : n < 16) : ¬ (16 : Int32) ≤ nI n := nI_ge (b := 16) h (by decide)
theorem tw_8 {n : Nat} (h : 8 ≤ n) (h2 : n < 2 ^ 31) : (8 : Int32) ≤ nI n := nI_le (a := 8) h h2
theorem tw_n8 {n : Nat} (h : n < 8) : ¬ (8 : Int32) ≤ nI n := nI_ge (b := 8) h (by decide)
theorem tw_256 {n : Nat} (h : 256 ≤ n) (h2 : n < 2 ^ 31) : (256 : Int32) ≤ nI n := nI_le (a := 256) h h2
theorem tw_n256 {n : Nat} (h : n < 256) : ¬ (256 : Int32) ≤ nI n := nI_ge (b := 256) h (by decide)
theorem tw_dbl (j : Nat) : (2 : Int32) * nI j = nI (2 * j) := pk_mul 2 j
theorem tw_dbl1 (j : Nat) : (2 : Int32) * nI j + 1 = nI (2 * j + 1) := by rw [tw_dbl, nI_1]
end
section
/-! the plain law: two ways a job, implications, plans -/
def tw_st (a : Int32) : Int32 := (a >>> ((2 : Int32) &&& 31)) &&& 31
def tw_ln (a : Int32) : Int32 := a >>> ((7 : Int32) &&& 31)
/-- the ways a and b collide -/
def tw_cl (a b : Int32) : Prop := a &&& 3 = b &&& 3 ∧ ¬ tw_st b + tw_ln b ≤ tw_st a ∧ ¬ tw_st a + tw_ln a ≤ tw_st b
theorem tw_cl_symm {a b : Int32} (h : tw_cl a b) : tw_cl b a := ⟨h.1.symm, h.2.2, h.2.1⟩
/-- s (the way of each job) is a plan -/
def tw_Pl (th wy pn : Nat → Int32) (s : Nat → Nat) : Prop :=
  (∀ j, j < 8 → th j = 0 → s j = 0) ∧
  (∀ j, j < 8 → th j ≠ 0 → ¬ pn j < 0 → pn j = nI (s j)) ∧
  (∀ j i, j < 8 → i < j → th j ≠ 0 → th i ≠ 0 → ¬ tw_cl (wy (2 * j + s j)) (wy (2 * i + s i)))
/-- the choice c implies e at once -/
def tw_D (th wy pn : Nat → Int32) (c e : Nat) : Prop :=
  th (c / 2) ≠ 0 ∧ ((th (e / 2) ≠ 0 ∧ e / 2 ≠ c / 2 ∧ tw_cl (wy c) (wy (tw_op e))) ∨ (e = tw_op c ∧ ¬ pn (c / 2) < 0 ∧ pn (c / 2) ≠ nI (c % 2)))
/-- I is the closure of tw_D -/
def tw_Good (th wy pn : Nat → Int32) (I : Nat → Nat → Prop) : Prop :=
  (∀ c e, c < 16 → I c e → e < 16 ∧ th (c / 2) ≠ 0 ∧ th (e / 2) ≠ 0) ∧
  (∀ c, c < 16 → th (c / 2) ≠ 0 → I c c) ∧
  (∀ c e, c < 16 → e < 16 → tw_D th wy pn c e → I c e) ∧
  (∀ c m e, c < 16 → m < 16 → I c m → I m e → I c e) ∧
  (∀ c e, c < 16 → I c e → ∀ S : Nat → Prop, (∀ a b, a < 16 → b < 16 → S a → tw_D th wy pn a b → S b) → S c → S e)
def tw_C (I : Nat → Nat → Prop) (S : Nat → Prop) (e : Nat) : Prop := ∃ c, c < 16 ∧ S c ∧ I c e
def tw_Cn (C : Nat → Prop) : Prop := ∀ j, j < 8 → ¬ (C (2 * j) ∧ C (2 * j + 1))
section
variable {th wy pn : Nat → Int32} {I : Nat → Nat → Prop} {s : Nat → Nat}
theorem tw_Dth {c e : Nat} (h : tw_D th wy pn c e) : th (e / 2) ≠ 0 := by
  rcases h.2 with q | q
  · exact q.1
  · rw [q.1, tw_op_div]
    exact h.1
theorem tw_Dop {c e : Nat} (h : tw_D th wy pn c e) : tw_D th wy pn (tw_op e) (tw_op c) := by
  refine ⟨by rw [tw_op_div]; exact tw_Dth h, ?_⟩
  rcases h.2 with q | q
  · left
    rw [tw_op_div c, tw_op_div e, tw_op_op]
    exact ⟨h.1, fun z => q.2.1 z.symm, tw_cl_symm q.2.2⟩
  · right
    obtain ⟨rfl, q1, q2⟩ := q
    exact ⟨by rw [tw_op_op c], by rw [tw_op_op c]; exact q1, by rw [tw_op_op c]; exact q2⟩
theorem tw_PlD (hs : ∀ j, j < 8 → s j < 2) (hp : tw_Pl th wy pn s) {c e : Nat} (hc : c < 16) (he : e < 16) (h : tw_D th wy pn c e) (hk : s (c / 2) = c % 2) : s (e / 2) = e % 2 := by
  obtain ⟨_, h2, h3⟩ := hp
  rcases h.2 with q | q
  · apply Classical.byContradiction
    intro hn
    have hs2 := hs (e / 2) (by omega)
    have e1 : 2 * (e / 2) + s (e / 2) = tw_op e := by
      unfold tw_op
      split <;> omega
    have e2 : 2 * (c / 2) + s (c / 2) = c := by omega
    rcases Nat.lt_or_gt_of_ne q.2.1 with l | l
    · have k := h3 (c / 2) (e / 2) (by omega) l h.1 q.1
      rw [e1, e2] at k
      exact k q.2.2
    · have k := h3 (e / 2) (c / 2) (by omega) l q.1 h.1
      rw [e1, e2] at k
      exact k (tw_cl_symm q.2.2)
  · obtain ⟨rfl, q1, q2⟩ := q
    have k := h2 (c / 2) (by omega) h.1 q1
    rw [hk] at k
    exact absurd k q2
theorem tw_DPl (hs : ∀ j, j < 8 → s j < 2) (h0 : ∀ j, j < 8 → th j = 0 → s j = 0) (hd : ∀ c e, c < 16 → e < 16 → tw_D th wy pn c e → s (c / 2) = c % 2 → s (e / 2) = e % 2) : tw_Pl th wy pn s := by
  refine ⟨h0, ?_, ?_⟩
  · intro j hj ht hp
    apply Classical.byContradiction
    intro hn
    have hsj := hs j hj
    have k1 : (2 * j + s j) / 2 = j := by omega
    have k2 : (2 * j + s j) % 2 = s j := by omega
    have k := hd (2 * j + s j) (tw_op (2 * j + s j)) (by omega) (tw_op_lt (by omega)) ⟨by rw [k1]; exact ht, Or.inr ⟨rfl, by rw [k1]; exact hp, by rw [k1, k2]; exact hn⟩⟩ (by rw [k1, k2])
    rw [tw_op_div, tw_op_mod, k1, k2] at k
    omega
  · intro j i hj hi tj ti hcl
    have hsj := hs j hj
    have hsi := hs i (by omega)
    have k1 : (2 * j + s j) / 2 = j := by omega
    have k2 : (2 * j + s j) % 2 = s j := by omega
    have m1 : (2 * i + s i) / 2 = i := by omega
    have m2 : (2 * i + s i) % 2 = s i := by omega
    have k := hd (2 * j + s j) (tw_op (2 * i + s i)) (by omega) (tw_op_lt (by omega)) ⟨by rw [k1]; exact tj, Or.inl ⟨by rw [tw_op_div, m1]; exact ti, by rw [tw_op_div, m1, k1]; omega, by rw [tw_op_op]; exact hcl⟩⟩ (by rw [k1, k2])
    rw [tw_op_div, tw_op_mod, m1, m2] at k
    omega
theorem tw_Iop (G : tw_Good th wy pn I) {c e : Nat} (hc : c < 16) (h : I c e) : I (tw_op e) (tw_op c) := by
  obtain ⟨g1, g2, g3, g4, g5⟩ := G
  have hcl : ∀ a b, a < 16 → b < 16 → (a < 16 ∧ I (tw_op a) (tw_op c)) → tw_D th wy pn a b → (b < 16 ∧ I (tw_op b) (tw_op c)) := by
    intro a b ha hb sa dab
    exact ⟨hb, g4 _ _ _ (tw_op_lt hb) (tw_op_lt ha) (g3 _ _ (tw_op_lt hb) (tw_op_lt ha) (tw_Dop dab)) sa.2⟩
  exact (g5 c e hc h (fun x => x < 16 ∧ I (tw_op x) (tw_op c)) hcl ⟨hc, g2 _ (tw_op_lt hc) (by rw [tw_op_div]; exact (g1 c e hc h).2.1)⟩).2
theorem tw_PlI (G : tw_Good th wy pn I) (hs : ∀ j, j < 8 → s j < 2) (hp : tw_Pl th wy pn s) {c e : Nat} (hc : c < 16) (h : I c e) (hk : s (c / 2) = c % 2) : s (e / 2) = e % 2 :=
  G.2.2.2.2 c e hc h (fun x => s (x / 2) = x % 2) (fun _ _ ha hb sa dab => tw_PlD hs hp ha hb dab sa) hk
/-- a plan that makes all of S: what S implies holds no opposites -/
theorem tw_A1 (G : tw_Good th wy pn I) (hs : ∀ j, j < 8 → s j < 2) (hp : tw_Pl th wy pn s) {S : Nat → Prop} (hS : ∀ c, c < 16 → th (c / 2) ≠ 0 → S c → s (c / 2) = c % 2) : tw_Cn (tw_C I S) := by
  intro j hj hcd
  obtain ⟨⟨c, hc, sc, ic⟩, ⟨d, hd, sd, jd⟩⟩ := hcd
  have a := tw_PlI G hs hp hc ic (hS c hc (G.1 c _ hc ic).2.1 sc)
  have b := tw_PlI G hs hp hd jd (hS d hd (G.1 d _ hd jd).2.1 sd)
  rw [show 2 * j / 2 = j by omega] at a
  rw [show (2 * j + 1) / 2 = j by omega] at b
  omega
/-- a closed set without opposites, and the rest as s0 has it -/
theorem tw_ext {A : Nat → Prop} {s0 : Nat → Nat}
    (hA1 : ∀ e, A e → th (e / 2) ≠ 0)
    (hA2 : ∀ a b, a < 16 → b < 16 → A a → tw_D th wy pn a b → A b)
    (hA3 : tw_Cn A)
    (hs0 : ∀ j, j < 8 → s0 j < 2) (h00 : ∀ j, j < 8 → th j = 0 → s0 j = 0)
    (h0 : ∀ c e, c < 16 → e < 16 → ¬ A c → ¬ A (tw_op c) → tw_D th wy pn c e → s0 (c / 2) = c % 2 → s0 (e / 2) = e % 2) :
    ∃ s : Nat → Nat, (∀ j, j < 8 → s j < 2) ∧ tw_Pl th wy pn s ∧ ∀ c, c < 16 → A c → s (c / 2) = c % 2 := by
  have hx : ∀ j : Nat, ∃ v : Nat, (A (2 * j) → v = 0) ∧ (¬ A (2 * j) → A (2 * j + 1) → v = 1) ∧ (¬ A (2 * j) → ¬ A (2 * j + 1) → v = s0 j) := by
    intro j
    by_cases p : A (2 * j)
    · exact ⟨0, fun _ => rfl, fun q => absurd p q, fun q => absurd p q⟩
    · by_cases q : A (2 * j + 1)
      · exact ⟨1, fun r => absurd r p, fun _ _ => rfl, fun _ r => absurd q r⟩
      · exact ⟨s0 j, fun r => absurd r p, fun _ r => absurd r q, fun _ _ => rfl⟩
  obtain ⟨s, hs⟩ := Classical.axiomOfChoice hx
  have hb : ∀ j, j < 8 → s j < 2 := by
    intro j hj
    obtain ⟨a1, a2, a3⟩ := hs j
    by_cases p : A (2 * j)
    · rw [a1 p]
      decide
    · by_cases q : A (2 * j + 1)
      · rw [a2 p q]
        decide
      · rw [a3 p q]
        exact hs0 j hj
  have hsat : ∀ c, c < 16 → A c → s (c / 2) = c % 2 := by
    intro c hc ha
    obtain ⟨a1, a2, a3⟩ := hs (c / 2)
    rcases Nat.mod_two_eq_zero_or_one c with m | m
    · rw [show 2 * (c / 2) = c by omega] at a1
      rw [a1 ha, m]
    · have n1 : A (2 * (c / 2) + 1) := by
        rw [show 2 * (c / 2) + 1 = c by omega]
        exact ha
      rw [a2 (fun z => hA3 (c / 2) (by omega) ⟨z, n1⟩) n1, m]
  have hun : ∀ c, c < 16 → ¬ A c → ¬ A (tw_op c) → s (c / 2) = s0 (c / 2) := by
    intro c hc n1 n2
    obtain ⟨a1, a2, a3⟩ := hs (c / 2)
    rcases Nat.mod_two_eq_zero_or_one c with m | m
    · have e1 : 2 * (c / 2) = c := by omega
      have e2 : tw_op c = 2 * (c / 2) + 1 := by
        unfold tw_op
        rw [if_pos m]
        omega
      exact a3 (by rw [e1]; exact n1) (by rw [← e2]; exact n2)
    · have e1 : 2 * (c / 2) + 1 = c := by omega
      have e2 : tw_op c = 2 * (c / 2) := by
        unfold tw_op
        rw [if_neg (by omega)]
        omega
      exact a3 (by rw [← e2]; exact n2) (by rw [e1]; exact n1)
  refine ⟨s, hb, tw_DPl hb ?_ ?_, hsat⟩
  · intro j hj ht
    obtain ⟨a1, a2, a3⟩ := hs j
    have n1 : ¬ A (2 * j) := by
      intro z
      have k := hA1 _ z
      rw [show 2 * j / 2 = j by omega] at k
      exact k ht
    have n2 : ¬ A (2 * j + 1) := by
      intro z
      have k := hA1 _ z
      rw [show (2 * j + 1) / 2 = j by omega] at k
      exact k ht
    rw [a3 n1 n2]
    exact h00 j hj ht
  · intro c e hc he hD hk
    by_cases p : A c
    · exact hsat e he (hA2 c e hc he p hD)
    · by_cases q : A (tw_op c)
      · have k := hsat _ (tw_op_lt hc) q
        rw [tw_op_div, tw_op_mod] at k
        omega
      · rw [hun c hc p q] at hk
        by_cases r : A e
        · exact hsat e he r
        · by_cases t : A (tw_op e)
          · exact absurd (hA2 _ _ (tw_op_lt he) (tw_op_lt hc) t (tw_Dop hD)) q
          · rw [hun e he r t]
            exact h0 c e hc he p q hD hk
/-- where a plan is, a set whose closure holds no opposites is made by a plan -/
theorem tw_A2 (G : tw_Good th wy pn I) {s0 : Nat → Nat} (hs : ∀ j, j < 8 → s0 j < 2) (hp : tw_Pl th wy pn s0) {S : Nat → Prop} (hC : tw_Cn (tw_C I S)) :
    ∃ s : Nat → Nat, (∀ j, j < 8 → s j < 2) ∧ tw_Pl th wy pn s ∧ ∀ c, c < 16 → th (c / 2) ≠ 0 → S c → s (c / 2) = c % 2 := by
  obtain ⟨g1, g2, g3, g4, g5⟩ := G
  obtain ⟨s, b, p, q⟩ := tw_ext (A := tw_C I S) (s0 := s0) (th := th) (wy := wy) (pn := pn) (fun e h => by
      obtain ⟨c, hc, _, i⟩ := h
      exact (g1 c e hc i).2.2) (fun a b ha hb h d => by
      obtain ⟨c, hc, sc, i⟩ := h
      exact ⟨c, hc, sc, g4 c a b hc ha i (g3 a b ha hb d)⟩) hC hs hp.1 (fun c e hc he _ _ d k => tw_PlD hs hp hc he d k)
  exact ⟨s, b, p, fun c hc t sc => q c hc ⟨c, hc, sc, g2 c hc t⟩⟩
/-- a closed set without opposites that holds a choice of each present job below k -/
def tw_Cov (th wy pn : Nat → Int32) (k : Nat) (A : Nat → Prop) : Prop :=
  (∀ e, A e → th (e / 2) ≠ 0) ∧ (∀ a b, a < 16 → b < 16 → A a → tw_D th wy pn a b → A b) ∧ tw_Cn A ∧ (∀ j, j < k → th j ≠ 0 → A (2 * j) ∨ A (2 * j + 1))
theorem tw_step (G : tw_Good th wy pn I) {k l : Nat} {A : Nat → Prop} (hA : tw_Cov th wy pn k A) (hl : l < 16) (hlk : l / 2 = k) (ht : th k ≠ 0) (hn : ¬ A (tw_op l)) (hI : tw_Cn (I l)) :
    tw_Cov th wy pn (k + 1) (fun e => A e ∨ I l e) := by
  have G' := G
  obtain ⟨g1, g2, g3, g4, g5⟩ := G
  obtain ⟨a1, a2, a3, a4⟩ := hA
  have hno : ∀ e, e < 16 → A e → ¬ I l (tw_op e) := by
    intro e he ae ie
    have k2 := tw_Iop G' hl ie
    rw [tw_op_op] at k2
    exact hn (g5 e _ he k2 A a2 ae)
  refine ⟨?_, ?_, ?_, ?_⟩
  · intro e h
    rcases h with h | h
    · exact a1 e h
    · exact (g1 l e hl h).2.2
  · intro a b ha hb h d
    rcases h with h | h
    · exact Or.inl (a2 a b ha hb h d)
    · exact Or.inr (g4 l a b hl ha h (g3 a b ha hb d))
  · intro j hj h
    obtain ⟨h1, h2⟩ := h
    rcases h1 with h1 | h1 <;> rcases h2 with h2 | h2
    · exact a3 j hj ⟨h1, h2⟩
    · exact hno (2 * j) (by omega) h1 (by rw [tw_op_ev]; exact h2)
    · exact hno (2 * j + 1) (by omega) h2 (by rw [tw_op_od]; exact h1)
    · exact hI j hj ⟨h1, h2⟩
  · intro j hj t
    by_cases e : j = k
    · have r := g2 l hl (by rw [hlk]; exact ht)
      rcases Nat.mod_two_eq_zero_or_one l with m | m
      · left
        right
        rw [show 2 * j = l by omega]
        exact r
      · right
        right
        rw [show 2 * j + 1 = l by omega]
        exact r
    · rcases a4 j (by omega) t with r | r
      · exact Or.inl (Or.inl r)
      · exact Or.inr (Or.inl r)
/-- where each present job has a choice without opposites, there is a plan -/
theorem tw_B2 (G : tw_Good th wy pn I) (h : ∀ j, j < 8 → th j ≠ 0 → tw_Cn (I (2 * j)) ∨ tw_Cn (I (2 * j + 1))) :
    ∃ s : Nat → Nat, (∀ j, j < 8 → s j < 2) ∧ tw_Pl th wy pn s := by
  have hk : ∀ k, k ≤ 8 → ∃ A : Nat → Prop, tw_Cov th wy pn k A := by
    intro k
    induction k with
    | zero => exact fun _ => ⟨fun _ => False, fun _ z => z.elim, fun _ _ _ _ z => z.elim, fun _ _ z => z.1.elim, fun j z => absurd z (Nat.not_lt_zero j)⟩
    | succ k ih =>
      intro hk
      obtain ⟨A, hA⟩ := ih (by omega)
      by_cases t : th k = 0
      · refine ⟨A, hA.1, hA.2.1, hA.2.2.1, fun j hj tj => ?_⟩
        by_cases e : j = k
        · rw [e] at tj
          exact absurd t tj
        · exact hA.2.2.2 j (by omega) tj
      · by_cases p : A (2 * k) ∨ A (2 * k + 1)
        · refine ⟨A, hA.1, hA.2.1, hA.2.2.1, fun j hj tj => ?_⟩
          by_cases e : j = k
          · rw [e]
            exact p
          · exact hA.2.2.2 j (by omega) tj
        · rcases h k (by omega) t with q | q
          · exact ⟨_, tw_step G hA (l := 2 * k) (by omega) (by omega) t (by rw [tw_op_ev]; exact fun z => p (Or.inr z)) q⟩
          · exact ⟨_, tw_step G hA (l := 2 * k + 1) (by omega) (by omega) t (by rw [tw_op_od]; exact fun z => p (Or.inl z)) q⟩
  obtain ⟨A, a1, a2, a3, a4⟩ := hk 8 (Nat.le_refl 8)
  obtain ⟨s, b, p, _⟩ := tw_ext (A := A) (s0 := fun _ => 0) (th := th) (wy := wy) (pn := pn) a1 a2 a3 (fun _ _ => by decide) (fun _ _ _ => rfl) (fun c e hc he n1 n2 d _ => by
    exfalso
    rcases Nat.mod_two_eq_zero_or_one c with m | m
    · have e1 : 2 * (c / 2) = c := by omega
      have e2 : tw_op c = 2 * (c / 2) + 1 := by
        unfold tw_op
        rw [if_pos m]
        omega
      rcases a4 (c / 2) (by omega) d.1 with r | r
      · rw [e1] at r
        exact n1 r
      · rw [← e2] at r
        exact n2 r
    · have e1 : 2 * (c / 2) + 1 = c := by omega
      have e2 : tw_op c = 2 * (c / 2) := by
        unfold tw_op
        rw [if_neg (by omega)]
        omega
      rcases a4 (c / 2) (by omega) d.1 with r | r
      · rw [← e2] at r
        exact n2 r
      · rw [e1] at r
        exact n1 r)
  exact ⟨s, b, p⟩
theorem tw_B1 (G : tw_Good th wy pn I) (hs : ∀ j, j < 8 → s j < 2) (hp : tw_Pl th wy pn s) {j : Nat} (hj : j < 8) : tw_Cn (I (2 * j)) ∨ tw_Cn (I (2 * j + 1)) := by
  have hm := hs j hj
  have k : ∀ l, l < 16 → s (l / 2) = l % 2 → tw_Cn (I l) := by
    intro l hl hk i hi h
    obtain ⟨h1, h2⟩ := h
    have a := tw_PlI G hs hp hl h1 hk
    have b := tw_PlI G hs hp hl h2 hk
    rw [show 2 * i / 2 = i by omega] at a
    rw [show (2 * i + 1) / 2 = i by omega] at b
    omega
  by_cases z : s j = 0
  · exact Or.inl (k (2 * j) (by omega) (by rw [show 2 * j / 2 = j by omega]; omega))
  · exact Or.inr (k (2 * j + 1) (by omega) (by rw [show (2 * j + 1) / 2 = j by omega]; omega))
/-- a set with one choice for each present job is a plan when it holds all that it implies -/
theorem tw_stand (G : tw_Good th wy pn I) (hs : ∀ j, j < 8 → s j < 2) (h0 : ∀ j, j < 8 → th j = 0 → s j = 0) {S : Nat → Prop} (hS : ∀ c, S c ↔ (c < 16 ∧ th (c / 2) ≠ 0 ∧ s (c / 2) = c % 2)) :
    (∀ c, c < 16 → S c → ∀ e, I c e → S e) ↔ tw_Pl th wy pn s := by
  constructor
  · intro h
    refine tw_DPl hs h0 (fun c e hc he d k => ?_)
    exact ((hS e).mp (h c hc ((hS c).mpr ⟨hc, d.1, k⟩) e (G.2.2.1 c e hc he d))).2.2
  · intro hp c hc sc e ie
    exact (hS e).mpr ⟨(G.1 c e hc ie).1, (G.1 c e hc ie).2.2, tw_PlI G hs hp hc ie ((hS c).mp sc).2.2⟩
theorem tw_Plc {s' : Nat → Nat} (h : ∀ j, j < 8 → s j = s' j) (hp : tw_Pl th wy pn s) : tw_Pl th wy pn s' := by
  refine ⟨fun j hj ht => ?_, fun j hj ht hn => ?_, fun j i hj hi tj ti => ?_⟩
  · rw [← h j hj]
    exact hp.1 j hj ht
  · rw [← h j hj]
    exact hp.2.1 j hj ht hn
  · rw [← h j hj, ← h i (by omega)]
    exact hp.2.2 j i hj hi tj ti
end
/-! codes -/
def tw_b (c j : Nat) : Nat := c / 2 ^ (7 - j) % 2
theorem tw_b2 {c j : Nat} : tw_b c j < 2 := Nat.mod_lt _ (by decide)
theorem tw_bits : ∀ (n : Nat) (f : Nat → Nat), (∀ i, i < n → f i < 2) → ∃ c, c < 2 ^ n ∧ ∀ i, i < n → c / 2 ^ i % 2 = f i := by
  intro n
  induction n with
  | zero => exact fun f _ => ⟨0, by decide, fun i hi => absurd hi (Nat.not_lt_zero i)⟩
  | succ n ih =>
    intro f hf
    obtain ⟨c, hc, h⟩ := ih (fun i => f (i + 1)) (fun i hi => hf (i + 1) (by omega))
    have f0 := hf 0 (by omega)
    refine ⟨2 * c + f 0, by rw [Nat.pow_succ]; omega, ?_⟩
    intro i hi
    cases i with
    | zero =>
      rw [Nat.pow_zero, Nat.div_one]
      omega
    | succ i =>
      rw [Nat.pow_succ, Nat.mul_comm (2 ^ i) 2, ← Nat.div_div_eq_div_mul, show (2 * c + f 0) / 2 = c by omega]
      exact h i (by omega)
theorem tw_code {s : Nat → Nat} (hs : ∀ j, j < 8 → s j < 2) : ∃ c, c < 256 ∧ ∀ j, j < 8 → s j = tw_b c j := by
  obtain ⟨c, hc, h⟩ := tw_bits 8 (fun i => s (7 - i)) (fun i hi => hs (7 - i) (by omega))
  refine ⟨c, hc, fun j hj => ?_⟩
  have k := h (7 - j) (by omega)
  rw [show 7 - (7 - j) = j by omega] at k
  exact k.symm
theorem tw_ex {j : Nat} (h : j < 8) (x : Nat) : x / 2 ^ (8 - j) = x / 2 ^ (7 - j) / 2 := by
  rw [Nat.div_div_eq_div_mul, ← Nat.pow_succ, show (7 - j).succ = 8 - j by omega]
theorem tw_dig {c c0 : Nat} (hc : c < 256) (h0 : c0 < 256) : ∀ k, k ≤ 8 → (∀ i, i < k → tw_b c i = tw_b c0 i) → c / 2 ^ (8 - k) = c0 / 2 ^ (8 - k) := by
  intro k
  induction k with
  | zero =>
    intro _ _
    rw [show (2 : Nat) ^ (8 - 0) = 256 from rfl]
    omega
  | succ k ih =>
    intro hk h
    have q := ih (by omega) (fun i hi => h i (by omega))
    have r := h k (by omega)
    unfold tw_b at r
    rw [tw_ex (by omega) c, tw_ex (by omega) c0] at q
    rw [show 8 - (k + 1) = 7 - k by omega]
    generalize c / 2 ^ (7 - k) = u at q r ⊢
    generalize c0 / 2 ^ (7 - k) = w at q r ⊢
    omega
theorem tw_lt {c c0 j : Nat} (hc : c < 256) (h0 : c0 < 256) (hj : j < 8) (h : ∀ i, i < j → tw_b c i = tw_b c0 i) (a : tw_b c j = 0) (b : tw_b c0 j = 1) : c < c0 := by
  have q := tw_dig hc h0 j (by omega) h
  rw [tw_ex hj c, tw_ex hj c0] at q
  unfold tw_b at a b
  rcases Nat.lt_or_ge c c0 with l | l
  · exact l
  · exfalso
    have m : c0 / 2 ^ (7 - j) ≤ c / 2 ^ (7 - j) := Nat.div_le_div_right l
    generalize c / 2 ^ (7 - j) = u at q a m
    generalize c0 / 2 ^ (7 - j) = w at q b m
    omega
def tw_Sat (th wy pn : Nat → Int32) : Prop := ∃ c, c < 256 ∧ tw_Pl th wy pn (tw_b c)
def tw_IsF (th wy pn : Nat → Int32) (c0 : Nat) : Prop := c0 < 256 ∧ tw_Pl th wy pn (tw_b c0) ∧ ∀ c, c < c0 → ¬ tw_Pl th wy pn (tw_b c)
section
variable {th wy pn : Nat → Int32} {I : Nat → Nat → Prop}
theorem tw_sat_of {s : Nat → Nat} (hs : ∀ j, j < 8 → s j < 2) (hp : tw_Pl th wy pn s) : tw_Sat th wy pn := by
  obtain ⟨c, hc, h⟩ := tw_code hs
  exact ⟨c, hc, tw_Plc h hp⟩
theorem tw_IsF_sat {c0 : Nat} (h : tw_IsF th wy pn c0) : tw_Sat th wy pn := ⟨c0, h.1, h.2.1⟩
/-- possible, where a plan is -/
theorem tw_A (G : tw_Good th wy pn I) (hS : tw_Sat th wy pn) {S : Nat → Prop} :
    tw_Cn (tw_C I S) ↔ ∃ c, c < 256 ∧ tw_Pl th wy pn (tw_b c) ∧ ∀ d, d < 16 → th (d / 2) ≠ 0 → S d → tw_b c (d / 2) = d % 2 := by
  obtain ⟨c, hc, hp⟩ := hS
  constructor
  · intro h
    obtain ⟨s, b, p, q⟩ := tw_A2 G (fun _ _ => tw_b2) hp h
    obtain ⟨c', hc', h'⟩ := tw_code b
    exact ⟨c', hc', tw_Plc h' p, fun d hd t sd => by rw [← h' (d / 2) (by omega)]; exact q d hd t sd⟩
  · intro h
    obtain ⟨c', _, p, q⟩ := h
    exact tw_A1 G (fun _ _ => tw_b2) p q
theorem tw_B (G : tw_Good th wy pn I) : (∀ j, j < 8 → th j ≠ 0 → tw_Cn (I (2 * j)) ∨ tw_Cn (I (2 * j + 1))) ↔ tw_Sat th wy pn := by
  constructor
  · intro h
    obtain ⟨s, b, p⟩ := tw_B2 G h
    exact tw_sat_of b p
  · intro h j hj _
    obtain ⟨c, _, hp⟩ := h
    exact tw_B1 G (fun _ _ => tw_b2) hp hj
/-- planFirst's step -/
theorem tw_F {c0 : Nat} (G : tw_Good th wy pn I) (hF : tw_IsF th wy pn c0) {j : Nat} (hj : j < 8) (ht : th j ≠ 0) {S : Nat → Prop}
    (hS : ∀ i, S i ↔ (i < 2 * j ∧ th (i / 2) ≠ 0 ∧ tw_b c0 (i / 2) = i % 2) ∨ i = 2 * j) :
    tw_Cn (tw_C I S) ↔ tw_b c0 j = 0 := by
  obtain ⟨h0, hp, hm⟩ := hF
  constructor
  · intro h
    obtain ⟨c, hc, p, q⟩ := (tw_A G ⟨c0, h0, hp⟩).mp h
    have b0 : tw_b c0 j < 2 := tw_b2
    apply Classical.byContradiction
    intro hn
    refine hm c (tw_lt hc h0 hj (fun i hi => ?_) ?_ (by omega)) p
    · by_cases t : th i = 0
      · rw [p.1 i (by omega) t, hp.1 i (by omega) t]
      · have bi : tw_b c0 i < 2 := tw_b2
        have e1 : (2 * i + tw_b c0 i) / 2 = i := by omega
        have e2 : (2 * i + tw_b c0 i) % 2 = tw_b c0 i := by omega
        have k := q (2 * i + tw_b c0 i) (by omega) (by rw [e1]; exact t) ((hS _).mpr (Or.inl ⟨by omega, by rw [e1]; exact t, by rw [e1, e2]⟩))
        rw [e1, e2] at k
        exact k
    · have e1 : 2 * j / 2 = j := by omega
      have k := q (2 * j) (by omega) (by rw [e1]; exact ht) ((hS _).mpr (Or.inr rfl))
      rw [e1] at k
      omega
  · intro h
    refine (tw_A G ⟨c0, h0, hp⟩).mpr ⟨c0, h0, hp, fun d hd t sd => ?_⟩
    rcases (hS d).mp sd with r | r
    · exact r.2.2
    · rw [r, show 2 * j / 2 = j by omega]
      omega
end
end
section
/-! the component's small methods -/
theorem tw_10 : ¬ (1 : Int32) = 0 := by decide
theorem tw_00 : (0 : Int32) = 0 := rfl
/-- the component's fields say what the reference's arrays th (there), wy (ways), pn (pins) say -/
def tw_Mt (fp fn fw : Int32) (aw th wy pn : Nat → Int32) : Prop :=
  (∀ j, tw_hb fp j ↔ (j < 8 ∧ th j ≠ 0)) ∧
  (∀ c, c < 16 → th (c / 2) ≠ 0 → aw c = wy c ∧ vp_nar .short (wy c) = wy c) ∧
  (∀ j, j < 8 → th j ≠ 0 → (tw_hb fn j ↔ ¬ pn j < 0)) ∧
  (∀ j, j < 8 → th j ≠ 0 → tw_hb fn j → pn j = nI (if bt fw j = true then 1 else 0))
def tw_isJ (th : Nat → Int32) (p : Int32) : Prop := ∃ j : Nat, j < 8 ∧ p = nI j ∧ th j ≠ 0
def tw_IW (a : Int32) : Prop := ¬ a < 0 ∧ ¬ 4095 < a ∧ a &&& 3 ≤ 2 ∧ ¬ tw_ln a < 1 ∧ ¬ 20 < tw_st a + tw_ln a
def tw_I (ai : Nat → Int32) (c e : Nat) : Prop := tw_hb (ai c) e
def tw_Ps (ai : Nat → Int32) (set : Int32) : Prop := tw_Cn (tw_C (tw_I ai) (tw_hb set))
theorem tw_xway1 {a : Int32} {post : Int32 → Prop} (h : tw_IW a) (hp : post 1) : wpX_isWay post a := by
  unfold wpX_isWay wpX_machineOf wpX_lengthOf wpX_startOf
  exact br_f h.1 (br_f h.2.1 (br_t h.2.2.1 (br_f h.2.2.2.1 (br_f h.2.2.2.2 hp))))
theorem tw_xway0 {a : Int32} {post : Int32 → Prop} (h : ¬ tw_IW a) (hp : post 0) : wpX_isWay post a := by
  unfold wpX_isWay wpX_machineOf wpX_lengthOf wpX_startOf
  by_cases h1 : a < 0
  · exact br_t h1 hp
  · by_cases h2 : 4095 < a
    · exact br_f h1 (br_t h2 hp)
    · by_cases h3 : a &&& 3 ≤ 2
      · by_cases h4 : tw_ln a < 1
        · exact br_f h1 (br_f h2 (br_t h3 (br_t h4 hp)))
        · by_cases h5 : 20 < tw_st a + tw_ln a
          · exact br_f h1 (br_f h2 (br_t h3 (br_f h4 (br_t h5 hp))))
          · exact absurd ⟨h1, h2, h3, h4, h5⟩ h
      · exact br_f h1 (br_f h2 (br_f h3 hp))
theorem tw_xcol1 {a b : Int32} {post : Int32 → Prop} (h : tw_cl a b) (hp : post 1) : wpX_collide post a b := by
  unfold wpX_collide wpX_machineOf wpX_lengthOf wpX_startOf
  exact br_t h.1 (br_f h.2.1 (br_f h.2.2 hp))
theorem tw_xcol0 {a b : Int32} {post : Int32 → Prop} (h : ¬ tw_cl a b) (hp : post 0) : wpX_collide post a b := by
  unfold wpX_collide wpX_machineOf wpX_lengthOf wpX_startOf
  by_cases h1 : a &&& 3 = b &&& 3
  · by_cases h2 : tw_st b + tw_ln b ≤ tw_st a
    · exact br_t h1 (br_t h2 hp)
    · by_cases h3 : tw_st a + tw_ln a ≤ tw_st b
      · exact br_t h1 (br_f h2 (br_t h3 hp))
      · exact absurd ⟨h1, h2, h3⟩ h
  · exact br_f h1 hp
theorem tw_xnum1 {k : Int32} {post : Int32 → Prop} (h : k = 0 ∨ k = 1) (hp : post 1) : wpX_isWayNumber post k := by
  unfold wpX_isWayNumber
  by_cases h0 : k = 0
  · exact br_t h0 hp
  · exact br_f h0 (br_t (h.resolve_left h0) hp)
theorem tw_xnum0 {k : Int32} {post : Int32 → Prop} (h : ¬ (k = 0 ∨ k = 1)) (hp : post 0) : wpX_isWayNumber post k := by
  unfold wpX_isWayNumber
  exact br_f (fun z => h (Or.inl z)) (br_f (fun z => h (Or.inr z)) hp)
section
variable {fp fn fw fk ff : Int32} {aw ai th wy pn : Nat → Int32}
theorem tw_xhas1 (hM : tw_Mt fp fn fw aw th wy pn) {p : Int32} (h : tw_isJ th p) {post : Int32 → Prop} (hp : post 1) : wpX_has post (fp, fn, fw, fk, ff, aw, ai) p := by
  obtain ⟨j, hj, rfl, ht⟩ := h
  have hb : tw_hb fp j := (hM.1 j).mpr ⟨hj, ht⟩
  exact br_f (nI_pos (by omega)) (br_f (tw_n8 hj) (br_f (fun z => (tw_tst (by omega)).mp z hb) hp))
theorem tw_xhas0 (hM : tw_Mt fp fn fw aw th wy pn) {p : Int32} (h : ¬ tw_isJ th p) {post : Int32 → Prop} (hp : post 0) : wpX_has post (fp, fn, fw, fk, ff, aw, ai) p := by
  rcases pk_ix p (n := 8) (by decide) with q | q | ⟨j, hj, rfl⟩
  · exact br_t q hp
  · exact br_f (Int32.not_lt.mpr (Int32.le_trans (by decide) q)) (br_t q hp)
  · have hb : ¬ tw_hb fp j := fun z => h ⟨j, hj, rfl, ((hM.1 j).mp z).2⟩
    exact br_f (nI_pos (by omega)) (br_f (tw_n8 hj) (br_t ((tw_tst (by omega)).mpr hb) hp))
theorem tw_isJ_n {j : Nat} (hj : j < 8) (h : th j = 0) : ¬ tw_isJ th (nI j) := by
  intro z
  obtain ⟨i, hi, e, t⟩ := z
  rw [(nI_eq (by omega) (by omega)).mp e] at h
  exact t h
theorem tw_xhas (hM : tw_Mt fp fn fw aw th wy pn) {j : Nat} (hj : j < 8) {post : Int32 → Prop} (h1 : th j ≠ 0 → post 1) (h0 : th j = 0 → post 0) : wpX_has post (fp, fn, fw, fk, ff, aw, ai) (nI j) := by
  by_cases t : th j = 0
  · exact tw_xhas0 hM (tw_isJ_n hj t) (h0 t)
  · exact tw_xhas1 hM ⟨j, hj, rfl, t⟩ (h1 t)
/-- the bits of 'direct' below d -/
def tw_Dx (th wy : Nat → Int32) (c d i : Nat) : Prop := i < 16 ∧ tw_op i < d ∧ th (i / 2) ≠ 0 ∧ i / 2 ≠ c / 2 ∧ tw_cl (wy c) (wy (tw_op i))
theorem tw_Dx_s0 {c d : Nat} (h : ¬ (th (d / 2) ≠ 0 ∧ d / 2 ≠ c / 2 ∧ tw_cl (wy c) (wy d))) (i : Nat) : tw_Dx th wy c d i ↔ tw_Dx th wy c (d + 1) i := by
  constructor
  · intro z
    exact ⟨z.1, by have := z.2.1; omega, z.2.2⟩
  · intro z
    obtain ⟨z1, z2, z3, z4, z5⟩ := z
    refine ⟨z1, ?_, z3, z4, z5⟩
    by_cases e : tw_op i = d
    · exfalso
      apply h
      rw [← e, tw_op_div]
      exact ⟨z3, z4, z5⟩
    · omega
theorem tw_Dx_s1 {c d : Nat} (hd : d < 16) (h : th (d / 2) ≠ 0 ∧ d / 2 ≠ c / 2 ∧ tw_cl (wy c) (wy d)) (i : Nat) : (tw_Dx th wy c d i ∨ i = tw_op d) ↔ tw_Dx th wy c (d + 1) i := by
  constructor
  · intro z
    rcases z with z | z
    · exact ⟨z.1, by have := z.2.1; omega, z.2.2⟩
    · rw [z]
      refine ⟨tw_op_lt hd, ?_, ?_⟩
      · rw [tw_op_op]
        omega
      · rw [tw_op_op, tw_op_div]
        exact h
  · intro z
    obtain ⟨z1, z2, z3, z4, z5⟩ := z
    by_cases e : tw_op i = d
    · right
      rw [← e, tw_op_op]
    · left
      exact ⟨z1, by omega, z3, z4, z5⟩
theorem tw_Dx_e0 {c : Nat} (ht : th (c / 2) ≠ 0) (h : ¬ (¬ pn (c / 2) < 0 ∧ pn (c / 2) ≠ nI (c % 2))) (i : Nat) : tw_Dx th wy c 16 i ↔ (i < 16 ∧ tw_D th wy pn c i) := by
  constructor
  · intro z
    exact ⟨z.1, ht, Or.inl z.2.2⟩
  · intro z
    rcases z.2.2 with q | q
    · exact ⟨z.1, tw_op_lt z.1, q⟩
    · exact absurd q.2 h
theorem tw_Dx_e1 {c : Nat} (hc : c < 16) (ht : th (c / 2) ≠ 0) (h : ¬ pn (c / 2) < 0 ∧ pn (c / 2) ≠ nI (c % 2)) (i : Nat) : (tw_Dx th wy c 16 i ∨ i = tw_op c) ↔ (i < 16 ∧ tw_D th wy pn c i) := by
  constructor
  · intro z
    rcases z with z | z
    · exact ⟨z.1, ht, Or.inl z.2.2⟩
    · exact ⟨by rw [z]; exact tw_op_lt hc, ht, Or.inr ⟨z, h⟩⟩
  · intro z
    rcases z.2.2 with q | q
    · exact Or.inl ⟨z.1, tw_op_lt z.1, q⟩
    · exact Or.inr q.1
theorem tw_orb {x : Int32} {n i : Nat} (hn : n < 32) : tw_hb (x ||| ((1 : Int32) <<< (nI n &&& 31))) i ↔ tw_hb x i ∨ i = n := by
  rw [tw_or, tw_one hn]
theorem tw_xdir (hM : tw_Mt fp fn fw aw th wy pn) {c : Nat} (hc : c < 16) (ht : th (c / 2) ≠ 0) {post : Int32 → Prop}
    (K : ∀ r, (∀ i, tw_hb r i ↔ (i < 16 ∧ tw_D th wy pn c i)) → post r) :
    ∀ n d x2, d ≤ 16 → 16 - d < n → (∀ i, tw_hb x2 i ↔ tw_Dx th wy c d i) → wX_direct_4 post (nI c) fp fn fw fk ff aw ai n x2 (nI d) := by
  intro n
  induction n with
  | zero =>
    intro d x2 _ h
    omega
  | succ n ih =>
    intro d x2 hd hn hx
    by_cases e : d = 16
    · subst e
      refine br_t (tw_16 (by omega) (by omega)) ?_
      refine nm_r (tw_half (by omega)) ?_
      have m3 := hM.2.2.1 (c / 2) (by omega) ht
      by_cases hp : tw_hb fn (c / 2)
      · refine br_f (fun z => (tw_tst (by omega)).mp z hp) ?_
        have m4 := hM.2.2.2 (c / 2) (by omega) ht hp
        rw [tw_get _ (by omega), tw_a1 (by omega), ← m4]
        by_cases q : pn (c / 2) = nI (c % 2)
        · refine br_t q ?_
          exact br_t tw_00 (K x2 (fun i => (hx i).trans (tw_Dx_e0 ht (fun z => z.2 q) i)))
        · refine br_f q ?_
          refine br_f tw_10 ?_
          rw [tw_op_x c hc]
          exact K _ (fun i => by
            rw [tw_orb (by have := tw_op_lt hc; omega), hx i]
            exact tw_Dx_e1 hc ht ⟨m3.mp hp, q⟩ i)
      · refine br_t ((tw_tst (by omega)).mpr hp) ?_
        exact br_t tw_00 (K x2 (fun i => (hx i).trans (tw_Dx_e0 ht (fun z => hp (m3.mpr z.1)) i)))
    · have hd' : d < 16 := by omega
      refine br_f (tw_n16 hd') ?_
      rw [tw_half (show d < 2 ^ 31 by omega), tw_half (show c < 2 ^ 31 by omega)]
      refine tw_xhas hM (by omega) (fun t => ?_) (fun t => ?_)
      · refine br_f tw_10 ?_
        by_cases q : d / 2 = c / 2
        · refine br_t (congrArg nI q) ?_
          refine nm_r (nI_1 d) ?_
          exact ih (d + 1) x2 (by omega) (by omega) (fun i => (hx i).trans (tw_Dx_s0 (fun z => z.2.1 q) i))
        · refine br_f (fun z => q ((nI_eq (by omega) (by omega)).mp z)) ?_
          refine ⟨vp_in_nI hc (by decide), vp_in_nI hd' (by decide), ?_⟩
          rw [nI_clamp (show c < 2 ^ 31 by omega), nI_clamp (show d < 2 ^ 31 by omega), (hM.2.1 c hc ht).1, (hM.2.1 d hd' t).1]
          by_cases k : tw_cl (wy c) (wy d)
          · refine tw_xcol1 k ?_
            refine br_f tw_10 ?_
            rw [tw_op_x d hd']
            refine nm_e (nm_r (nI_1 d) ?_)
            exact ih (d + 1) _ (by omega) (by omega) (fun i => by
              rw [tw_orb (by have := tw_op_lt hd'; omega), hx i]
              exact tw_Dx_s1 hd' ⟨t, q, k⟩ i)
          · refine tw_xcol0 k ?_
            refine br_t tw_00 ?_
            refine nm_r (nI_1 d) ?_
            exact ih (d + 1) x2 (by omega) (by omega) (fun i => (hx i).trans (tw_Dx_s0 (fun z => k z.2.2) i))
      · refine br_t tw_00 ?_
        refine nm_r (nI_1 d) ?_
        exact ih (d + 1) x2 (by omega) (by omega) (fun i => (hx i).trans (tw_Dx_s0 (fun z => z.1 t) i))
theorem tw_xdirect (hM : tw_Mt fp fn fw aw th wy pn) {c : Nat} (hc : c < 16) (ht : th (c / 2) ≠ 0) {post : Int32 → Prop}
    (K : ∀ r, (∀ i, tw_hb r i ↔ (i < 16 ∧ tw_D th wy pn c i)) → post r) : wpX_direct post (fp, fn, fw, fk, ff, aw, ai) (nI c) :=
  Exists.intro 17 (tw_xdir hM hc ht K 17 0 0 (by omega) (by omega) (fun i => ⟨fun z => absurd z tw_h0, fun z => absurd z.2.1 (Nat.not_lt_zero _)⟩))
theorem tw_Cnc {A B : Nat → Prop} (h : ∀ e, A e ↔ B e) : tw_Cn A ↔ tw_Cn B := by
  constructor
  · exact fun a j hj z => a j hj ⟨(h _).mpr z.1, (h _).mpr z.2⟩
  · exact fun a j hj z => a j hj ⟨(h _).mp z.1, (h _).mp z.2⟩
theorem tw_xpos4 {set : Int32} {post : Int32 → Prop} (h1 : tw_Ps ai set → post 1) (h0 : ¬ tw_Ps ai set → post 0) :
    ∀ n d x2, d ≤ 16 → 16 - d < n → (∀ i, tw_hb x2 i ↔ ∃ c, c < d ∧ tw_hb set c ∧ tw_hb (ai c) i) → wX_possible_4 post set fp fn fw fk ff aw ai n x2 (nI d) := by
  intro n
  induction n with
  | zero =>
    intro d x2 _ h
    omega
  | succ n ih =>
    intro d x2 hd hn hx
    by_cases e : d = 16
    · subst e
      refine br_t (tw_16 (by omega) (by omega)) ?_
      have k : tw_Cn (tw_hb x2) ↔ tw_Ps ai set := tw_Cnc hx
      by_cases p : tw_Ps ai set
      · exact br_t (tw_cns.mpr (k.mpr p)) ⟨narrow_b1, h1 p⟩
      · exact br_f (fun z => p (k.mp (tw_cns.mp z))) ⟨narrow_b0, h0 p⟩
    · have hd' : d < 16 := by omega
      refine br_f (tw_n16 hd') ?_
      by_cases q : tw_hb set d
      · refine br_f (fun z => (tw_tst (by omega)).mp z q) ?_
        refine ⟨vp_in_nI hd' (by decide), ?_⟩
        rw [nI_clamp (show d < 2 ^ 31 by omega)]
        refine nm_e (nm_r (nI_1 d) ?_)
        refine ih (d + 1) _ (by omega) (by omega) (fun i => ?_)
        rw [tw_or, hx i]
        constructor
        · intro z
          rcases z with ⟨c, z1, z2⟩ | z
          · exact ⟨c, by omega, z2⟩
          · exact ⟨d, by omega, q, z⟩
        · intro z
          obtain ⟨c, z1, z2, z3⟩ := z
          by_cases e : c = d
          · right
            rw [← e]
            exact z3
          · exact Or.inl ⟨c, by omega, z2, z3⟩
      · refine br_t ((tw_tst (by omega)).mpr q) ?_
        refine nm_r (nI_1 d) ?_
        refine ih (d + 1) _ (by omega) (by omega) (fun i => ?_)
        rw [hx i]
        constructor
        · intro z
          obtain ⟨c, z1, z2⟩ := z
          exact ⟨c, by omega, z2⟩
        · intro z
          obtain ⟨c, z1, z2, z3⟩ := z
          by_cases e : c = d
          · rw [e] at z2
            exact absurd z2 q
          · exact ⟨c, by omega, z2, z3⟩
theorem tw_xpos {set : Int32} {post : Int32 → Prop} (h1 : tw_Ps ai set → post 1) (h0 : ¬ tw_Ps ai set → post 0) : wpX_possible post (fp, fn, fw, fk, ff, aw, ai) set :=
  Exists.intro 17 (tw_xpos4 h1 h0 17 0 0 (by omega) (by omega) (fun i => ⟨fun z => absurd z tw_h0, fun z => by
    obtain ⟨c, z1, _⟩ := z
    exact absurd z1 (Nat.not_lt_zero _)⟩))
end
end
section
/-! learn: the closure by stages, and the first plan -/
def tw_Wk (th wy pn : Nat → Int32) (k : Nat) (I : Nat → Nat → Prop) : Prop :=
  (∀ c e, c < 16 → I c e → e < 16 ∧ th (c / 2) ≠ 0 ∧ th (e / 2) ≠ 0) ∧
  (∀ c, c < 16 → th (c / 2) ≠ 0 → I c c) ∧
  (∀ c e, c < 16 → e < 16 → tw_D th wy pn c e → I c e) ∧
  (∀ c m e, c < 16 → m < k → I c m → I m e → I c e) ∧
  (∀ c e, c < 16 → I c e → ∀ S : Nat → Prop, (∀ a b, a < 16 → b < 16 → S a → tw_D th wy pn a b → S b) → S c → S e)
def tw_FB (th : Nat → Int32) (ff : Int32) (c0 : Nat) : Prop := ∀ i, tw_hb ff i ↔ (i < 16 ∧ th (i / 2) ≠ 0 ∧ tw_b c0 (i / 2) = i % 2)
def tw_Lr (th wy pn : Nat → Int32) (ff : Int32) (ai : Nat → Int32) : Prop :=
  tw_Good th wy pn (tw_I ai) ∧ ∀ c0, tw_IsF th wy pn c0 → tw_FB th ff c0
section
variable {th wy pn : Nat → Int32}
theorem tw_W0 {I : Nat → Nat → Prop} (h : ∀ c, c < 16 → ∀ e, I c e ↔ (e < 16 ∧ th (c / 2) ≠ 0 ∧ (e = c ∨ tw_D th wy pn c e))) : tw_Wk th wy pn 0 I := by
  refine ⟨?_, ?_, ?_, ?_, ?_⟩
  · intro c e hc i
    obtain ⟨h1, h2, h3⟩ := (h c hc e).mp i
    refine ⟨h1, h2, ?_⟩
    rcases h3 with q | q
    · rw [q]
      exact h2
    · exact tw_Dth q
  · intro c hc t
    exact (h c hc c).mpr ⟨hc, t, Or.inl rfl⟩
  · intro c e hc he d
    exact (h c hc e).mpr ⟨he, d.1, Or.inr d⟩
  · intro c m e _ hm
    exact absurd hm (Nat.not_lt_zero m)
  · intro c e hc i S hS sc
    obtain ⟨h1, h2, h3⟩ := (h c hc e).mp i
    rcases h3 with q | q
    · rw [q]
      exact sc
    · exact hS c e hc h1 sc q
theorem tw_Ws {I I' : Nat → Nat → Prop} {m : Nat} (hm : m < 16) (W : tw_Wk th wy pn m I) (h : ∀ c, c < 16 → ∀ e, I' c e ↔ (I c e ∨ (I c m ∧ I m e))) : tw_Wk th wy pn (m + 1) I' := by
  obtain ⟨w1, w2, w3, w4, w5⟩ := W
  refine ⟨?_, ?_, ?_, ?_, ?_⟩
  · intro c e hc i
    rcases (h c hc e).mp i with q | q
    · exact w1 c e hc q
    · exact ⟨(w1 m e hm q.2).1, (w1 c m hc q.1).2.1, (w1 m e hm q.2).2.2⟩
  · intro c hc t
    exact (h c hc c).mpr (Or.inl (w2 c hc t))
  · intro c e hc he d
    exact (h c hc e).mpr (Or.inl (w3 c e hc he d))
  · intro c k e hc hk i1 i2
    have p := (h c hc k).mp i1
    have q := (h k (by omega) e).mp i2
    refine (h c hc e).mpr ?_
    by_cases ek : k = m
    · rw [ek] at p q
      have p' : I c m := by
        rcases p with p | p
        · exact p
        · exact p.1
      have q' : I m e := by
        rcases q with q | q
        · exact q
        · exact q.2
      exact Or.inr ⟨p', q'⟩
    · have hk' : k < m := by omega
      rcases p with p | p
      · rcases q with q | q
        · exact Or.inl (w4 c k e hc hk' p q)
        · exact Or.inr ⟨w4 c k m hc hk' p q.1, q.2⟩
      · rcases q with q | q
        · exact Or.inr ⟨p.1, w4 m k e hm hk' p.2 q⟩
        · exact Or.inr ⟨p.1, q.2⟩
  · intro c e hc i S hS sc
    rcases (h c hc e).mp i with q | q
    · exact w5 c e hc q S hS sc
    · exact w5 m e hm q.2 S hS (w5 c m hc q.1 S hS sc)
end
section
variable {fp fn fw fk ff : Int32} {aw th wy pn : Nat → Int32}
theorem tw_xplan {ai : Nat → Int32} (hM : tw_Mt fp fn fw aw th wy pn) (G : tw_Good th wy pn (tw_I ai)) {post : SX → Prop}
    (K : ∀ f, (∀ c0, tw_IsF th wy pn c0 → tw_FB th f c0) → post (fp, fn, fw, fk, f, aw, ai)) :
    ∀ n j x1, j ≤ 8 → 8 - j < n → (∀ c0, tw_IsF th wy pn c0 → ∀ i, tw_hb x1 i ↔ (i < 2 * j ∧ th (i / 2) ≠ 0 ∧ tw_b c0 (i / 2) = i % 2)) →
      wX_planFirst_4 post fp fn fw fk ff aw ai n x1 (nI j) := by
  intro n
  induction n with
  | zero =>
    intro j x1 _ h
    omega
  | succ n ih =>
    intro j x1 hj hn hx
    by_cases hde : j = 8
    · subst hde
      exact br_t (tw_8 (by omega) (by omega)) (K x1 hx)
    · have hj' : j < 8 := by omega
      refine br_f (tw_n8 hj') ?_
      refine tw_xhas hM hj' (fun t => ?_) (fun t => ?_)
      · refine br_f tw_10 ?_
        rw [tw_dbl j]
        refine nm_e ?_
        have hz : ∀ c0, tw_IsF th wy pn c0 → ∀ i, tw_hb (x1 ||| ((1 : Int32) <<< (nI (2 * j) &&& 31))) i ↔ ((i < 2 * j ∧ th (i / 2) ≠ 0 ∧ tw_b c0 (i / 2) = i % 2) ∨ i = 2 * j) := by
          intro c0 hF i
          rw [tw_orb (by omega), hx c0 hF i]
        refine tw_xpos (fun p => ?_) (fun p => ?_)
        · refine br_f tw_10 ?_
          refine nm_r (nI_1 j) ?_
          refine ih (j + 1) _ (by omega) (by omega) (fun c0 hF i => ?_)
          rw [hz c0 hF i]
          have b0 := (tw_F G hF hj' t (hz c0 hF)).mp p
          constructor
          · intro z
            rcases z with z | z
            · exact ⟨by omega, z.2⟩
            · rw [z, show 2 * j / 2 = j by omega]
              exact ⟨by omega, t, by omega⟩
          · intro z
            by_cases l : i < 2 * j
            · exact Or.inl ⟨l, z.2⟩
            · obtain ⟨z1, z2, z3⟩ := z
              rw [show i / 2 = j by omega] at z3
              right
              omega
        · refine br_t tw_00 ?_
          refine nm_e (nm_r (nI_1 j) ?_)
          refine ih (j + 1) _ (by omega) (by omega) (fun c0 hF i => ?_)
          rw [tw_or, tw_two (by omega), hx c0 hF i]
          have b0 := fun z => p ((tw_F G hF hj' t (hz c0 hF)).mpr z)
          have b1 : tw_b c0 j < 2 := tw_b2
          have b2 : tw_b c0 j = 1 := by
            have b3 : ¬ tw_b c0 j = 0 := b0
            omega
          constructor
          · intro z
            rcases z with z | z
            · exact ⟨by omega, z.2⟩
            · rw [z, show (2 * j + 1) / 2 = j by omega]
              exact ⟨by omega, t, by omega⟩
          · intro z
            by_cases l : i < 2 * j
            · exact Or.inl ⟨l, z.2⟩
            · obtain ⟨z1, z2, z3⟩ := z
              rw [show i / 2 = j by omega] at z3
              right
              omega
      · refine br_t tw_00 ?_
        refine nm_r (nI_1 j) ?_
        refine ih (j + 1) _ (by omega) (by omega) (fun c0 hF i => ?_)
        rw [hx c0 hF i]
        constructor
        · intro z
          exact ⟨by omega, z.2⟩
        · intro z
          by_cases l : i < 2 * j
          · exact ⟨l, z.2⟩
          · have z2 := z.2.1
            rw [show i / 2 = j by omega] at z2
            exact absurd t z2
theorem tw_xplanF {ai : Nat → Int32} (hM : tw_Mt fp fn fw aw th wy pn) (G : tw_Good th wy pn (tw_I ai)) {post : SX → Prop}
    (K : ∀ f, (∀ c0, tw_IsF th wy pn c0 → tw_FB th f c0) → post (fp, fn, fw, fk, f, aw, ai)) : wpX_planFirst post (fp, fn, fw, fk, ff, aw, ai) :=
  Exists.intro 9 (tw_xplan hM G K 9 0 0 (by omega) (by omega) (fun c0 _ i => ⟨fun z => absurd z tw_h0, fun z => absurd z.1 (by omega)⟩))
/-- one stage of the closure -/
theorem tw_x67 {a0 : Nat → Int32} {post : SX → Prop} {J : Int32 → (Nat → Int32) → (Nat → Int32) → Prop} {m : Nat} (hm : m < 16)
    (hr : ∀ c e, c < 16 → tw_I a0 c e → e < 16)
    (K : ∀ ai, (∀ c, c < 16 → ∀ e, tw_I ai c e ↔ (tw_I a0 c e ∨ (tw_I a0 c m ∧ tw_I a0 m e))) → J (nI (m + 1)) aw ai) :
    ∀ n d ai, d ≤ 16 → 16 - d < n → (∀ c, c < 16 → ∀ e, tw_I ai c e ↔ (tw_I a0 c e ∨ (c < d ∧ tw_I a0 c m ∧ tw_I a0 m e))) →
      wX_learn_67 post J (nI m) fp fn fw fk ff n (nI d) aw ai := by
  intro n
  induction n with
  | zero =>
    intro d ai _ h
    omega
  | succ n ih =>
    intro d ai hd hn hx
    by_cases hde : d = 16
    · subst hde
      refine br_t (tw_16 (by omega) (by omega)) ?_
      refine nm_r (nI_1 m) ?_
      refine K ai (fun c hc e => ?_)
      rw [hx c hc e]
      constructor
      · intro z
        rcases z with z | z
        · exact Or.inl z
        · exact Or.inr z.2
      · intro z
        rcases z with z | z
        · exact Or.inl z
        · exact Or.inr ⟨hc, z⟩
    · have hd' : d < 16 := by omega
      have hdI : ∀ e, tw_I ai d e ↔ tw_I a0 d e := by
        intro e
        rw [hx d hd' e]
        constructor
        · intro z
          rcases z with z | z
          · exact z
          · exact absurd z.1 (Nat.lt_irrefl d)
        · exact Or.inl
      have hmI : ∀ e, tw_I ai m e ↔ tw_I a0 m e := by
        intro e
        rw [hx m hm e]
        constructor
        · intro z
          rcases z with z | z
          · exact z
          · exact z.2.2
        · exact Or.inl
      refine br_f (tw_n16 hd') ?_
      refine ⟨vp_in_nI hd' (by decide), ?_⟩
      rw [nI_clamp (show d < 2 ^ 31 by omega), nI_clamp (show m < 2 ^ 31 by omega)]
      by_cases q : tw_I a0 d m
      · have q' : tw_hb (ai d) m := (hdI m).mpr q
        refine br_f (fun z => (tw_tst (by omega)).mp z q') ?_
        refine ⟨vp_in_nI hd' (by decide), vp_in_nI hm (by decide), vp_in_nI hd' (by decide), ?_⟩
        refine nm_e (nm_r (nI_1 d) ?_)
        refine ih (d + 1) _ (by omega) (by omega) (fun c hc e => ?_)
        by_cases ec : c = d
        · subst ec
          have k1 : tw_I (upd ai c (vp_nar .char (((ai c ||| ai m).toUInt32 % 65536).toInt32))) c e ↔ (e < 16 ∧ (tw_I ai c e ∨ tw_I ai m e)) := by
            unfold tw_I
            rw [pk_us, tw_chr, tw_or]
          rw [k1, hdI e, hmI e]
          constructor
          · intro z
            rcases z.2 with z | z
            · exact Or.inl z
            · exact Or.inr ⟨by omega, q, z⟩
          · intro z
            rcases z with z | z
            · exact ⟨hr c e hc z, Or.inl z⟩
            · exact ⟨hr m e hm z.2.2, Or.inr z.2.2⟩
        · have k1 : tw_I (upd ai d (vp_nar .char (((ai d ||| ai m).toUInt32 % 65536).toInt32))) c e ↔ tw_I ai c e := by
            unfold tw_I
            rw [pk_un ec]
          rw [k1, hx c hc e]
          constructor
          · intro z
            rcases z with z | z
            · exact Or.inl z
            · exact Or.inr ⟨by omega, z.2⟩
          · intro z
            rcases z with z | z
            · exact Or.inl z
            · exact Or.inr ⟨by omega, z.2⟩
      · have q' : ¬ tw_hb (ai d) m := fun z => q ((hdI m).mp z)
        refine br_t ((tw_tst (by omega)).mpr q') ?_
        refine nm_r (nI_1 d) ?_
        refine ih (d + 1) _ (by omega) (by omega) (fun c hc e => ?_)
        rw [hx c hc e]
        constructor
        · intro z
          rcases z with z | z
          · exact Or.inl z
          · exact Or.inr ⟨by omega, z.2⟩
        · intro z
          rcases z with z | z
          · exact Or.inl z
          · by_cases ec : c = d
            · rw [ec] at z
              exact absurd z.2.1 q
            · exact Or.inr ⟨by omega, z.2⟩
theorem tw_x59 (hM : tw_Mt fp fn fw aw th wy pn) {post : SX → Prop}
    (K : ∀ f ai, tw_Lr th wy pn f ai → post (fp, fn, fw, fk, f, aw, ai)) :
    ∀ n m ai, m ≤ 16 → 16 - m < n → tw_Wk th wy pn m (tw_I ai) → wX_learn_59 post fp fn fw fk ff n (nI m) aw ai := by
  intro n
  induction n with
  | zero =>
    intro m ai _ h
    omega
  | succ n ih =>
    intro m ai hm hn W
    by_cases hde : m = 16
    · subst hde
      refine br_t (tw_16 (by omega) (by omega)) ?_
      exact tw_xplanF hM W (fun f hf => K f ai ⟨W, hf⟩)
    · have hm' : m < 16 := by omega
      refine br_f (tw_n16 hm') ?_
      refine ⟨17, tw_x67 (a0 := ai) hm' (fun c e hc i => (W.1 c e hc i).1) (fun ai' h => ?_) 17 0 ai (by omega) (by omega) (fun c hc e => ?_)⟩
      · exact ih (m + 1) ai' (by omega) (by omega) (tw_Ws hm' W h)
      · constructor
        · exact Or.inl
        · intro z
          rcases z with z | z
          · exact z
          · exact absurd z.1 (Nat.not_lt_zero c)
theorem tw_x15 (hM : tw_Mt fp fn fw aw th wy pn) {post : SX → Prop}
    (K : ∀ f ai, tw_Lr th wy pn f ai → post (fp, fn, fw, fk, f, aw, ai)) :
    ∀ n d ai, d ≤ 16 → 16 - d < n → (∀ c, c < d → ∀ e, tw_I ai c e ↔ (e < 16 ∧ th (c / 2) ≠ 0 ∧ (e = c ∨ tw_D th wy pn c e))) →
      wX_learn_15 post fp fn fw fk ff n (nI d) aw ai := by
  intro n
  induction n with
  | zero =>
    intro d ai _ h
    omega
  | succ n ih =>
    intro d ai hd hn hx
    by_cases hde : d = 16
    · subst hde
      refine br_t (tw_16 (by omega) (by omega)) ?_
      exact Exists.intro 17 (tw_x59 hM K 17 0 ai (by omega) (by omega) (tw_W0 hx))
    · have hd' : d < 16 := by omega
      refine br_f (tw_n16 hd') ?_
      rw [tw_half (show d < 2 ^ 31 by omega)]
      refine tw_xhas hM (by omega) (fun t => ?_) (fun t => ?_)
      · refine br_f tw_10 ?_
        refine tw_xdirect hM hd' t (fun r hr => ?_)
        refine ⟨vp_in_nI hd' (by decide), ?_⟩
        rw [nI_clamp (show d < 2 ^ 31 by omega)]
        refine nm_e (nm_r (nI_1 d) ?_)
        refine ih (d + 1) _ (by omega) (by omega) (fun c hc e => ?_)
        by_cases ec : c = d
        · subst ec
          unfold tw_I
          rw [pk_us, tw_chr, tw_or, tw_one (by omega), hr e]
          constructor
          · intro z
            refine ⟨z.1, t, ?_⟩
            rcases z.2 with z | z
            · exact Or.inl z
            · exact Or.inr z.2
          · intro z
            refine ⟨z.1, ?_⟩
            rcases z.2.2 with q | q
            · exact Or.inl q
            · exact Or.inr ⟨z.1, q⟩
        · have k1 : ∀ v, tw_I (upd ai d v) c e ↔ tw_I ai c e := by
            intro v
            unfold tw_I
            rw [pk_un ec]
          rw [k1]
          exact hx c (by omega) e
      · refine br_t tw_00 ?_
        refine ⟨vp_in_nI hd' (by decide), ?_⟩
        rw [nI_clamp (show d < 2 ^ 31 by omega)]
        refine nm_e (nm_r (nI_1 d) ?_)
        refine ih (d + 1) _ (by omega) (by omega) (fun c hc e => ?_)
        by_cases ec : c = d
        · subst ec
          unfold tw_I
          rw [pk_us, tw_chr]
          constructor
          · intro z
            exact absurd z.2 tw_h0
          · intro z
            exact absurd t z.2.1
        · have k1 : ∀ v, tw_I (upd ai d v) c e ↔ tw_I ai c e := by
            intro v
            unfold tw_I
            rw [pk_un ec]
          rw [k1]
          exact hx c (by omega) e
theorem tw_xlearn {ai : Nat → Int32} (hM : tw_Mt fp fn fw aw th wy pn) (hK : fk ≠ 0 → tw_Lr th wy pn ff ai) {post : SX → Prop}
    (K : ∀ f k a, k ≠ 0 → tw_Lr th wy pn f a → post (fp, fn, fw, k, f, aw, a)) : wpX_learn post (fp, fn, fw, fk, ff, aw, ai) := by
  by_cases z : fk = 0
  · refine br_t z ?_
    exact Exists.intro 17 (tw_x15 hM (fun f a h => K f 1 a tw_10 h) 17 0 ai (by omega) (by omega) (fun c hc => absurd hc (Nat.not_lt_zero c)))
  · exact br_f z (K ff fk ai z (hK z))
end
end
section
/-! solvable, avoiding, stands -/
theorem tw_ps1 {ai : Nat → Int32} {l : Nat} (hl : l < 16) : tw_Ps ai ((1 : Int32) <<< (nI l &&& 31)) ↔ tw_Cn (tw_I ai l) := by
  refine tw_Cnc (fun e => ⟨fun z => ?_, fun z => ⟨l, hl, (tw_one (by omega)).mpr rfl, z⟩⟩)
  obtain ⟨c, hc, sc, i⟩ := z
  rw [(tw_one (by omega)).mp sc] at i
  exact i
theorem tw_ps2 {ai : Nat → Int32} {l : Nat} (hl : l < 15) : tw_Ps ai ((2 : Int32) <<< (nI l &&& 31)) ↔ tw_Cn (tw_I ai (l + 1)) := by
  refine tw_Cnc (fun e => ⟨fun z => ?_, fun z => ⟨l + 1, by omega, (tw_two (by omega)).mpr rfl, z⟩⟩)
  obtain ⟨c, hc, sc, i⟩ := z
  rw [(tw_two (by omega)).mp sc] at i
  exact i
/-- 1 where p holds, else 0 -/
noncomputable def tw_ind (p : Prop) : Int32 := @ite Int32 p (Classical.propDecidable p) 1 0
theorem tw_ind1 {p : Prop} (h : p) : tw_ind p = 1 := if_pos h
theorem tw_ind0 {p : Prop} (h : ¬ p) : tw_ind p = 0 := if_neg h
noncomputable def tw_cnt (Q : Nat → Prop) : Nat → Int32
  | 0 => 0
  | j + 1 => tw_cnt Q j + tw_ind (Q j)
theorem tw_cnt1 {Q : Nat → Prop} {j : Nat} (h : Q j) : tw_cnt Q j + 1 = tw_cnt Q (j + 1) := by
  show _ = tw_cnt Q j + tw_ind (Q j)
  rw [tw_ind1 h]
theorem tw_cnt0 {Q : Nat → Prop} {j : Nat} (h : ¬ Q j) : tw_cnt Q (j + 1) = tw_cnt Q j := by
  show tw_cnt Q j + tw_ind (Q j) = _
  rw [tw_ind0 h, Int32.add_zero]
def tw_Sv (th : Nat → Int32) (ai : Nat → Int32) (k : Nat) : Prop := ∀ j, j < k → th j ≠ 0 → tw_Cn (tw_I ai (2 * j)) ∨ tw_Cn (tw_I ai (2 * j + 1))
section
variable {fp fn fw fk ff : Int32} {aw ai th wy pn : Nat → Int32}
theorem tw_xsol6 (hM : tw_Mt fp fn fw aw th wy pn) {post : Int32 → SX → Prop}
    (h1 : tw_Sv th ai 8 → post 1 (fp, fn, fw, fk, ff, aw, ai)) (h0 : ¬ tw_Sv th ai 8 → post 0 (fp, fn, fw, fk, ff, aw, ai)) :
    ∀ n j, j ≤ 8 → 8 - j < n → tw_Sv th ai j → wX_solvable_6 post fp fn fw fk ff aw ai n (nI j) := by
  intro n
  induction n with
  | zero =>
    intro j _ h
    omega
  | succ n ih =>
    intro j hj hn hx
    by_cases hje : j = 8
    · subst hje
      exact br_t (tw_8 (by omega) (by omega)) (h1 hx)
    · have hj' : j < 8 := by omega
      refine br_f (tw_n8 hj') ?_
      refine tw_xhas hM hj' (fun t => ?_) (fun t => ?_)
      · refine br_f tw_10 ?_
        rw [tw_dbl j]
        have go : (tw_Cn (tw_I ai (2 * j)) ∨ tw_Cn (tw_I ai (2 * j + 1))) → tw_Sv th ai (j + 1) := by
          intro q i hi ti
          by_cases e : i = j
          · rw [e]
            exact q
          · exact hx i (by omega) ti
        refine tw_xpos (fun p => ?_) (fun p => ?_)
        · refine br_f tw_10 ?_
          refine nm_r (nI_1 j) ?_
          exact ih (j + 1) (by omega) (by omega) (go (Or.inl ((tw_ps1 (by omega)).mp p)))
        · refine br_t tw_00 ?_
          refine tw_xpos (fun q => ?_) (fun q => ?_)
          · refine br_f tw_10 ?_
            refine nm_r (nI_1 j) ?_
            exact ih (j + 1) (by omega) (by omega) (go (Or.inr ((tw_ps2 (by omega)).mp q)))
          · refine br_t tw_00 ?_
            refine h0 (fun z => ?_)
            rcases z j hj' t with z | z
            · exact p ((tw_ps1 (by omega)).mpr z)
            · exact q ((tw_ps2 (by omega)).mpr z)
      · refine br_t tw_00 ?_
        refine nm_r (nI_1 j) ?_
        refine ih (j + 1) (by omega) (by omega) (fun i hi ti => ?_)
        by_cases e : i = j
        · rw [e] at ti
          exact absurd t ti
        · exact hx i (by omega) ti
theorem tw_xsolv (hM : tw_Mt fp fn fw aw th wy pn) (hK : fk ≠ 0 → tw_Lr th wy pn ff ai) {post : Int32 → SX → Prop}
    (K1 : tw_Sat th wy pn → ∀ f k a, k ≠ 0 → tw_Lr th wy pn f a → post 1 (fp, fn, fw, k, f, aw, a))
    (K0 : ¬ tw_Sat th wy pn → ∀ f k a, post 0 (fp, fn, fw, k, f, aw, a)) : wpX_solvable post (fp, fn, fw, fk, ff, aw, ai) := by
  unfold wpX_solvable
  refine tw_xlearn hM hK (fun f k a hk hL => ?_)
  exact Exists.intro 9 (tw_xsol6 hM (fun z => K1 ((tw_B hL.1).mp z) f k a hk hL) (fun z => K0 (fun y => z ((tw_B hL.1).mpr y)) f k a) 9 0 (by omega) (by omega) (fun i hi => absurd hi (Nat.not_lt_zero i)))
/-- the bits of 'avoiding' below d -/
def tw_Av (th wy : Nat → Int32) (a : Int32) (d i : Nat) : Prop := i < 16 ∧ tw_op i < d ∧ th (i / 2) ≠ 0 ∧ tw_cl (wy (tw_op i)) a
theorem tw_Av_s0 {a : Int32} {d : Nat} (h : ¬ (th (d / 2) ≠ 0 ∧ tw_cl (wy d) a)) (i : Nat) : tw_Av th wy a d i ↔ tw_Av th wy a (d + 1) i := by
  constructor
  · intro z
    exact ⟨z.1, by have := z.2.1; omega, z.2.2⟩
  · intro z
    obtain ⟨z1, z2, z3, z5⟩ := z
    refine ⟨z1, ?_, z3, z5⟩
    by_cases e : tw_op i = d
    · exfalso
      apply h
      rw [← e, tw_op_div]
      exact ⟨z3, z5⟩
    · omega
theorem tw_Av_s1 {a : Int32} {d : Nat} (hd : d < 16) (h : th (d / 2) ≠ 0 ∧ tw_cl (wy d) a) (i : Nat) : (tw_Av th wy a d i ∨ i = tw_op d) ↔ tw_Av th wy a (d + 1) i := by
  constructor
  · intro z
    rcases z with z | z
    · exact ⟨z.1, by have := z.2.1; omega, z.2.2⟩
    · rw [z]
      refine ⟨tw_op_lt hd, ?_, ?_⟩
      · rw [tw_op_op]
        omega
      · rw [tw_op_op, tw_op_div]
        exact h
  · intro z
    obtain ⟨z1, z2, z3, z5⟩ := z
    by_cases e : tw_op i = d
    · right
      rw [← e, tw_op_op]
    · left
      exact ⟨z1, by omega, z3, z5⟩
theorem tw_xav4 (hM : tw_Mt fp fn fw aw th wy pn) {a : Int32} {post : Int32 → Prop}
    (K : ∀ r, (∀ i, tw_hb r i ↔ (i < 16 ∧ th (i / 2) ≠ 0 ∧ tw_cl (wy (tw_op i)) a)) → post r) :
    ∀ n d x2, d ≤ 16 → 16 - d < n → (∀ i, tw_hb x2 i ↔ tw_Av th wy a d i) → wX_avoiding_4 post a fp fn fw fk ff aw ai n x2 (nI d) := by
  intro n
  induction n with
  | zero =>
    intro d x2 _ h
    omega
  | succ n ih =>
    intro d x2 hd hn hx
    by_cases hde : d = 16
    · subst hde
      refine br_t (tw_16 (by omega) (by omega)) (K x2 (fun i => ?_))
      rw [hx i]
      exact ⟨fun z => ⟨z.1, z.2.2⟩, fun z => ⟨z.1, tw_op_lt z.1, z.2⟩⟩
    · have hd' : d < 16 := by omega
      refine br_f (tw_n16 hd') ?_
      rw [tw_half (show d < 2 ^ 31 by omega)]
      refine tw_xhas hM (by omega) (fun t => ?_) (fun t => ?_)
      · refine br_f tw_10 ?_
        refine ⟨vp_in_nI hd' (by decide), ?_⟩
        rw [nI_clamp (show d < 2 ^ 31 by omega), (hM.2.1 d hd' t).1]
        by_cases k : tw_cl (wy d) a
        · refine tw_xcol1 k ?_
          refine br_f tw_10 ?_
          rw [tw_op_x d hd']
          refine nm_e (nm_r (nI_1 d) ?_)
          exact ih (d + 1) _ (by omega) (by omega) (fun i => by
            rw [tw_orb (by have := tw_op_lt hd'; omega), hx i]
            exact tw_Av_s1 hd' ⟨t, k⟩ i)
        · refine tw_xcol0 k ?_
          refine br_t tw_00 ?_
          refine nm_r (nI_1 d) ?_
          exact ih (d + 1) x2 (by omega) (by omega) (fun i => (hx i).trans (tw_Av_s0 (fun z => k z.2) i))
      · refine br_t tw_00 ?_
        refine nm_r (nI_1 d) ?_
        exact ih (d + 1) x2 (by omega) (by omega) (fun i => (hx i).trans (tw_Av_s0 (fun z => z.1 t) i))
theorem tw_xav (hM : tw_Mt fp fn fw aw th wy pn) {a : Int32} {post : Int32 → Prop}
    (K : ∀ r, (∀ i, tw_hb r i ↔ (i < 16 ∧ th (i / 2) ≠ 0 ∧ tw_cl (wy (tw_op i)) a)) → post r) : wpX_avoiding post (fp, fn, fw, fk, ff, aw, ai) a :=
  Exists.intro 17 (tw_xav4 hM K 17 0 0 (by omega) (by omega) (fun i => ⟨fun z => absurd z tw_h0, fun z => absurd z.2.1 (Nat.not_lt_zero _)⟩))
def tw_Sd (ai : Nat → Int32) (set : Int32) (k : Nat) : Prop := ∀ c, c < k → tw_hb set c → ∀ e, tw_I ai c e → tw_hb set e
theorem tw_xst2 {set : Int32} {post : Int32 → Prop} (h1 : tw_Sd ai set 16 → post 1) (h0 : ¬ tw_Sd ai set 16 → post 0) :
    ∀ n d, d ≤ 16 → 16 - d < n → tw_Sd ai set d → wX_stands_2 post set fp fn fw fk ff aw ai n (nI d) := by
  intro n
  induction n with
  | zero =>
    intro d _ h
    omega
  | succ n ih =>
    intro d hd hn hx
    by_cases hde : d = 16
    · subst hde
      exact br_t (tw_16 (by omega) (by omega)) (h1 hx)
    · have hd' : d < 16 := by omega
      refine br_f (tw_n16 hd') ?_
      by_cases q : tw_hb set d
      · refine br_f (fun z => (tw_tst (by omega)).mp z q) ?_
        refine ⟨vp_in_nI hd' (by decide), ?_⟩
        rw [nI_clamp (show d < 2 ^ 31 by omega)]
        by_cases r : ∀ i, tw_hb (ai d) i → tw_hb set i
        · refine br_t (tw_sub.mpr r) ?_
          refine nm_r (nI_1 d) ?_
          refine ih (d + 1) (by omega) (by omega) (fun c hc sc e i => ?_)
          by_cases ec : c = d
          · rw [ec] at i
            exact r e i
          · exact hx c (by omega) sc e i
        · refine br_f (fun z => r (tw_sub.mp z)) ?_
          exact h0 (fun z => r (z d hd' q))
      · refine br_t ((tw_tst (by omega)).mpr q) ?_
        refine nm_r (nI_1 d) ?_
        refine ih (d + 1) (by omega) (by omega) (fun c hc sc e i => ?_)
        by_cases ec : c = d
        · rw [ec] at sc
          exact absurd sc q
        · exact hx c (by omega) sc e i
theorem tw_xst {set : Int32} {post : Int32 → Prop} (h1 : tw_Sd ai set 16 → post 1) (h0 : ¬ tw_Sd ai set 16 → post 0) : wpX_stands post (fp, fn, fw, fk, ff, aw, ai) set :=
  Exists.intro 17 (tw_xst2 h1 h0 17 0 (by omega) (by omega) (fun c hc => absurd hc (Nat.not_lt_zero c)))
/-- flips counts the present jobs at which the first plan's set, turned, stands -/
theorem tw_xfl8 (hM : tw_Mt fp fn fw aw th wy pn) {Q : Nat → Prop} {post : Int32 → SX → Prop} (hQ : ∀ j, j < 8 → (Q j ↔ (th j ≠ 0 ∧ tw_Sd ai (ff ^^^ ((3 : Int32) <<< (nI (2 * j) &&& 31))) 16)))
    (K : post (tw_cnt Q 8) (fp, fn, fw, fk, ff, aw, ai)) :
    ∀ n j, j ≤ 8 → 8 - j < n → wX_flips_8 post fp fn fw fk ff aw ai n (tw_cnt Q j) (nI j) := by
  intro n
  induction n with
  | zero =>
    intro j _ h
    omega
  | succ n ih =>
    intro j hj hn
    by_cases hje : j = 8
    · subst hje
      exact br_t (tw_8 (by omega) (by omega)) K
    · have hj' : j < 8 := by omega
      refine br_f (tw_n8 hj') ?_
      refine tw_xhas hM hj' (fun t => ?_) (fun t => ?_)
      · refine br_f tw_10 ?_
        rw [tw_dbl j]
        refine nm_e ?_
        refine tw_xst (fun p => ?_) (fun p => ?_)
        · refine br_f tw_10 ?_
          refine nm_r (tw_cnt1 ((hQ j hj').mpr ⟨t, p⟩)) (nm_r (nI_1 j) ?_)
          exact ih (j + 1) (by omega) (by omega)
        · refine br_t tw_00 ?_
          rw [Int32.add_zero, ← tw_cnt0 (Q := Q) (j := j) (fun z => p ((hQ j hj').mp z).2)]
          refine nm_e (nm_r (nI_1 j) ?_)
          exact ih (j + 1) (by omega) (by omega)
      · refine br_t tw_00 ?_
        rw [← tw_cnt0 (Q := Q) (j := j) (fun z => ((hQ j hj').mp z).1 t)]
        refine nm_r (nI_1 j) ?_
        exact ih (j + 1) (by omega) (by omega)
end
end
section
/-! the reference's methods -/
theorem tw_eL {n : Nat} (hn : n < 2 ^ 31) : tw_ln (nI n) = nI (n / 128) := pk_shrN hn _ 7 (by decide)
theorem tw_eS {n : Nat} (hn : n < 2 ^ 31) : tw_st (nI n) = nI (n / 4 % 32) := by
  unfold tw_st
  rw [pk_shrN hn _ 2 (by decide), pk_andN (by omega) 5 (by decide)]
theorem tw_eM {n : Nat} (hn : n < 2 ^ 31) : nI n &&& 3 = nI (n % 4) := pk_andN (by omega) 2 (by decide)
theorem tw_IWn {n : Nat} (hn : n < 2 ^ 31) : tw_IW (nI n) ↔ (n ≤ 4095 ∧ n % 4 ≤ 2 ∧ 1 ≤ n / 128 ∧ n / 4 % 32 + n / 128 ≤ 20) := by
  unfold tw_IW
  rw [tw_eL hn, tw_eS hn, tw_eM hn, nI_add]
  have e1 : ¬ nI n < 0 := nI_pos hn
  have e2 : (4095 : Int32) < nI n ↔ 4095 < n := nI_ltI (a := 4095) (by decide) hn
  have e3 : nI (n % 4) ≤ 2 ↔ n % 4 ≤ 2 := nI_leI (b := 2) (by omega) (by decide)
  have e4 : nI (n / 128) < 1 ↔ n / 128 < 1 := nI_ltI (b := 1) (by omega) (by decide)
  have e5 : (20 : Int32) < nI (n / 4 % 32 + n / 128) ↔ 20 < n / 4 % 32 + n / 128 := nI_ltI (a := 20) (by decide) (by omega)
  rw [e2, e3, e4, e5]
  constructor
  · intro z
    exact ⟨by omega, z.2.2.1, by omega, by omega⟩
  · intro z
    exact ⟨e1, by omega, z.2.1, by omega, by omega⟩
theorem tw_IWs {a : Int32} (h : tw_IW a) : vp_nar .short a.toInt16.toInt32 = a := by
  obtain ⟨n, hn, rfl⟩ := nI_of h.1
  have k := (tw_IWn hn).mp h
  have e := nI_toInt hn
  rw [pk_vs]
  exact lg_i2s_small (by omega) (by omega)
theorem tw_IWv {a : Int32} (h : tw_IW a) : vp_nar .short a = a := by
  have e := tw_IWs h
  rw [pk_vs] at e
  rw [vp_nar_short]
  exact e
section
variable {th wy pn pk : Nat → Int32}
theorem tw_yway1 {a : Int32} {post : Int32 → Prop} (h : tw_IW a) (hp : post 1) : wpY_isWay post (th, wy, pn, pk) a := by
  obtain ⟨n, hn, rfl⟩ := nI_of h.1
  obtain ⟨k1, k2, k3, k4⟩ := (tw_IWn hn).mp h
  refine nm_r (tw_eS hn) (nm_r (tw_eL hn) ?_)
  refine br_f (nI_pos hn) ?_
  rw [tw_eM hn]
  refine pk_lt 2 (n % 4) (fun q => absurd q (by omega)) (fun _ => ?_)
  refine pk_lt (n / 128) 1 (fun q => absurd q (by omega)) (fun _ => ?_)
  refine pk_lt 20 (n / 128) (fun q => absurd q (by omega)) (fun _ => ?_)
  refine pk_lt 19 (n / 4 % 32) (fun q => absurd q (by omega)) (fun _ => ?_)
  exact pk_lt 20 (n / 4 % 32 + n / 128) (fun q => absurd q (by omega)) (fun _ => hp) rfl (nI_add _ _)
theorem tw_yway0 {a : Int32} {post : Int32 → Prop} (h : ¬ tw_IW a) (hp : post 0) : wpY_isWay post (th, wy, pn, pk) a := by
  by_cases h0 : a < 0
  · exact nm_e (nm_e (br_t h0 hp))
  · obtain ⟨n, hn, rfl⟩ := nI_of h0
    rw [tw_IWn hn] at h
    refine nm_r (tw_eS hn) (nm_r (tw_eL hn) ?_)
    refine br_f (nI_pos hn) ?_
    rw [tw_eM hn]
    refine pk_lt 2 (n % 4) (fun _ => hp) (fun _ => ?_)
    refine pk_lt (n / 128) 1 (fun _ => hp) (fun _ => ?_)
    refine pk_lt 20 (n / 128) (fun _ => hp) (fun _ => ?_)
    refine pk_lt 19 (n / 4 % 32) (fun _ => hp) (fun _ => ?_)
    exact pk_lt 20 (n / 4 % 32 + n / 128) (fun _ => hp) (fun _ => absurd (by omega) h) rfl (nI_add _ _)
theorem tw_ycol1 {a b : Int32} {post : Int32 → Prop} (h : tw_cl a b) (hp : post 1) : wpY_collide post (th, wy, pn, pk) a b :=
  nm_e (nm_e (br_t h.1 (br_f h.2.1 (br_f h.2.2 hp))))
theorem tw_ycol0 {a b : Int32} {post : Int32 → Prop} (h : ¬ tw_cl a b) (hp : post 0) : wpY_collide post (th, wy, pn, pk) a b := by
  refine nm_e (nm_e ?_)
  by_cases h1 : a &&& 3 = b &&& 3
  · by_cases h2 : tw_st b + tw_ln b ≤ tw_st a
    · exact br_t h1 (br_t h2 hp)
    · by_cases h3 : tw_st a + tw_ln a ≤ tw_st b
      · exact br_t h1 (br_f h2 (br_t h3 hp))
      · exact absurd ⟨h1, h2, h3⟩ h
  · exact br_f h1 hp
theorem tw_yis1 {p : Int32} (h : tw_isJ th p) {post : Int32 → Prop} (hp : post 1) : wpY_is post (th, wy, pn, pk) p := by
  obtain ⟨j, hj, rfl, ht⟩ := h
  refine br_f (nI_pos (by omega)) (br_f (tw_n8 hj) ⟨vp_in_nI hj (by decide), br_f ?_ hp⟩)
  rw [nI_clamp (by omega)]
  exact ht
theorem tw_yis0 {p : Int32} (h : ¬ tw_isJ th p) {post : Int32 → Prop} (hp : post 0) : wpY_is post (th, wy, pn, pk) p := by
  rcases pk_ix p (n := 8) (by decide) with q | q | ⟨j, hj, rfl⟩
  · exact br_t q hp
  · exact br_f (Int32.not_lt.mpr (Int32.le_trans (by decide) q)) (br_t q hp)
  · refine br_f (nI_pos (by omega)) (br_f (tw_n8 hj) ⟨vp_in_nI hj (by decide), br_t ?_ hp⟩)
    rw [nI_clamp (by omega)]
    exact Classical.byContradiction (fun z => h ⟨j, hj, rfl, z⟩)
theorem tw_yis {j : Nat} (hj : j < 8) {post : Int32 → Prop} (h1 : th j ≠ 0 → post 1) (h0 : th j = 0 → post 0) : wpY_is post (th, wy, pn, pk) (nI j) := by
  by_cases t : th j = 0
  · exact tw_yis0 (tw_isJ_n hj t) (h0 t)
  · exact tw_yis1 ⟨j, hj, rfl, t⟩ (h1 t)
/-- the pair of the jobs j, i is in order -/
def tw_gd (th wy : Nat → Int32) (s : Nat → Nat) (j i : Nat) : Prop := th j ≠ 0 → th i ≠ 0 → ¬ tw_cl (wy (2 * j + s j)) (wy (2 * i + s i))
def tw_OK (th wy : Nat → Int32) (s : Nat → Nat) (k : Nat) : Prop := ∀ j i, j < k → i < j → tw_gd th wy s j i
theorem tw_y12 {s : Nat → Nat} (hs : ∀ j, j < 8 → s j < 2) (hpk : ∀ j, j < 8 → pk j = nI (s j)) {j : Nat} (hj : j < 8) {post : Int32 → Prop} {J : Int32 → Int32 → Prop}
    (K1 : tw_OK th wy s (j + 1) → J 1 (nI (j + 1))) (K0 : ¬ tw_OK th wy s 8 → J 0 (nI (j + 1))) (hO : tw_OK th wy s j ∨ ¬ tw_OK th wy s 8) :
    ∀ n i x1, i ≤ j → j - i < n → ((x1 = 1 ∧ tw_OK th wy s j ∧ ∀ i', i' < i → tw_gd th wy s j i') ∨ (x1 = 0 ∧ ¬ tw_OK th wy s 8)) →
      wY_apart_12 post J (nI j) th wy pn pk n x1 (nI i) := by
  intro n
  induction n with
  | zero =>
    intro i x1 _ h
    omega
  | succ n ih =>
    intro i x1 hi hn hx
    by_cases hie : i = j
    · subst hie
      refine br_t (nI_le (Nat.le_refl i) (by omega)) ?_
      refine nm_r (nI_1 i) ?_
      rcases hx with ⟨rfl, hx, hy⟩ | ⟨rfl, hx⟩
      · refine K1 (fun j' i' hj' hi' => ?_)
        by_cases e : j' = i
        · rw [e] at hi' ⊢
          exact hy i' hi'
        · exact hx j' i' (by omega) hi'
      · exact K0 hx
    · have hi' : i < j := by omega
      refine br_f (nI_ge hi' (by omega)) ?_
      rcases hx with ⟨rfl, hx, hy⟩ | ⟨rfl, hx⟩
      · have go : tw_gd th wy s j i → ((1 : Int32) = 1 ∧ tw_OK th wy s j ∧ ∀ i', i' < i + 1 → tw_gd th wy s j i') ∨ ((1 : Int32) = 0 ∧ ¬ tw_OK th wy s 8) := by
          intro g
          refine Or.inl ⟨rfl, hx, fun i' h' => ?_⟩
          by_cases e : i' = i
          · rw [e]
            exact g
          · exact hy i' (by omega)
        refine br_f tw_10 ?_
        refine ⟨vp_in_nI hj (by decide), ?_⟩
        rw [nI_clamp (show j < 2 ^ 31 by omega), nI_clamp (show i < 2 ^ 31 by omega), hpk j hj, hpk i (by omega), tw_dbl, tw_dbl, nI_add, nI_add,
          nI_clamp (show 2 * j + s j < 2 ^ 31 by have := hs j hj; omega), nI_clamp (show 2 * i + s i < 2 ^ 31 by have := hs i (by omega); omega)]
        by_cases tj : th j = 0
        · refine br_t tj (nm_r (nI_1 i) ?_)
          exact ih (i + 1) 1 (by omega) (by omega) (go (fun z => absurd tj z))
        · refine br_f tj ⟨vp_in_nI (by omega) (by decide), ?_⟩
          by_cases ti : th i = 0
          · refine br_t ti (nm_r (nI_1 i) ?_)
            exact ih (i + 1) 1 (by omega) (by omega) (go (fun _ z => absurd ti z))
          · refine br_f ti ⟨vp_in_nI hj (by decide), vp_in_nI (by have := hs j hj; omega) (by decide), vp_in_nI (by omega) (by decide), vp_in_nI (by have := hs i (by omega); omega) (by decide), ?_⟩
            by_cases k : tw_cl (wy (2 * j + s j)) (wy (2 * i + s i))
            · refine tw_ycol1 k ?_
              refine br_f tw_10 (nm_r (nI_1 i) ?_)
              exact ih (i + 1) 0 (by omega) (by omega) (Or.inr ⟨rfl, fun z => z j i hj hi' tj ti k⟩)
            · refine tw_ycol0 k ?_
              refine br_t tw_00 (nm_r (nI_1 i) ?_)
              exact ih (i + 1) 1 (by omega) (by omega) (go (fun _ _ => k))
      · refine br_t tw_00 (nm_r (nI_1 i) ?_)
        exact ih (i + 1) 0 (by omega) (by omega) (Or.inr ⟨rfl, hx⟩)
theorem tw_y4 {s : Nat → Nat} (hs : ∀ j, j < 8 → s j < 2) (hpk : ∀ j, j < 8 → pk j = nI (s j)) {post : Int32 → Prop}
    (K1 : tw_OK th wy s 8 → post 1) (K0 : ¬ tw_OK th wy s 8 → post 0) :
    ∀ n j x1, j ≤ 8 → 8 - j < n → ((x1 = 1 ∧ tw_OK th wy s j) ∨ (x1 = 0 ∧ ¬ tw_OK th wy s 8)) → wY_apart_4 post th wy pn pk n x1 (nI j) := by
  intro n
  induction n with
  | zero =>
    intro j x1 _ h
    omega
  | succ n ih =>
    intro j x1 hj hn hx
    by_cases hje : j = 8
    · subst hje
      refine br_t (tw_8 (by omega) (by omega)) ?_
      rcases hx with ⟨rfl, hx⟩ | ⟨rfl, hx⟩
      · exact ⟨narrow_b1, K1 hx⟩
      · exact ⟨narrow_b0, K0 hx⟩
    · have hj' : j < 8 := by omega
      refine br_f (tw_n8 hj') ?_
      refine Exists.intro (j + 1) (tw_y12 hs hpk hj' (fun z => ?_) (fun z => ?_) ?_ (j + 1) 0 x1 (by omega) (by omega) ?_)
      · exact ih (j + 1) 1 (by omega) (by omega) (Or.inl ⟨rfl, z⟩)
      · exact ih (j + 1) 0 (by omega) (by omega) (Or.inr ⟨rfl, z⟩)
      · rcases hx with ⟨_, hx⟩ | ⟨_, hx⟩
        · exact Or.inl hx
        · exact Or.inr hx
      · rcases hx with ⟨e, hx⟩ | ⟨e, hx⟩
        · exact Or.inl ⟨e, hx, fun i' z => absurd z (Nat.not_lt_zero i')⟩
        · exact Or.inr ⟨e, hx⟩
theorem tw_yapart {s : Nat → Nat} (hs : ∀ j, j < 8 → s j < 2) (hpk : ∀ j, j < 8 → pk j = nI (s j)) {post : Int32 → Prop}
    (K1 : tw_OK th wy s 8 → post 1) (K0 : ¬ tw_OK th wy s 8 → post 0) : wpY_apart post (th, wy, pn, pk) :=
  Exists.intro 9 (tw_y4 hs hpk K1 K0 9 0 1 (by omega) (by omega) (Or.inl ⟨rfl, fun j i z => absurd z (Nat.not_lt_zero j)⟩))
theorem tw_ybit {c j : Nat} (hc : c < 2 ^ 31) (hj : j < 8) : (nI c >>> (((7 : Int32) - nI j) &&& 31)) &&& 1 = nI (tw_b c j) := by
  have e : (7 : Int32) - nI j = nI (7 - j) := pk_sub (a := 7) (by omega)
  have h : c / 2 ^ (7 - j) ≤ c := Nat.div_le_self _ _
  rw [e, pk_shrN hc _ (7 - j) (s_l (7 - j) (by omega)), tw_a1 (by omega)]
  rfl
end
theorem tw_y2 {th wy pn : Nat → Int32} {c : Nat} (hc : c < 256) {post : Int32 → SY → Prop}
    (h1 : tw_Pl th wy pn (tw_b c) → ∀ pk, (∀ j, j < 8 → pk j = nI (tw_b c j)) → post 1 (th, wy, pn, pk))
    (h0 : ¬ tw_Pl th wy pn (tw_b c) → ∀ pk, post 0 (th, wy, pn, pk)) :
    ∀ n j pk, j ≤ 8 → 8 - j < n → (∀ i, i < j → pk i = nI (tw_b c i)) → (∀ i, i < j → th i = 0 → tw_b c i = 0) → (∀ i, i < j → th i ≠ 0 → ¬ pn i < 0 → pn i = nI (tw_b c i)) →
      wY_plan_2 post (nI c) n (nI j) th wy pn pk := by
  intro n
  induction n with
  | zero =>
    intro j pk _ h
    omega
  | succ n ih =>
    intro j pk hj hn hx ha hb
    by_cases hje : j = 8
    · subst hje
      refine br_t (tw_8 (by omega) (by omega)) ?_
      refine tw_yapart (s := tw_b c) (fun _ _ => tw_b2) hx (fun z => ?_) (fun z => ?_)
      · exact ⟨narrow_b1, h1 ⟨ha, hb, fun j i hj hi tj ti => z j i hj hi tj ti⟩ pk hx⟩
      · exact ⟨narrow_b0, h0 (fun p => z (fun j i hj hi tj ti => p.2.2 j i hj hi tj ti)) pk⟩
    · have hj' : j < 8 := by omega
      refine br_f (tw_n8 hj') ?_
      refine ⟨vp_in_nI hj' (by decide), ?_⟩
      rw [tw_ybit (by omega) hj', nI_clamp (show j < 2 ^ 31 by omega)]
      refine nm_e ?_
      refine ⟨vp_in_nI hj' (by decide), ?_⟩
      have hx' : ∀ i, i < j + 1 → upd pk j (nI (tw_b c j)) i = nI (tw_b c i) := by
        intro i hi
        by_cases e : i = j
        · rw [e, pk_us]
        · rw [pk_un e]
          exact hx i (by omega)
      have hb0 : tw_b c j < 2 := tw_b2
      have go : (th j = 0 → tw_b c j = 0) → (th j ≠ 0 → ¬ pn j < 0 → pn j = nI (tw_b c j)) → wY_plan_2 post (nI c) n (nI (j + 1)) th wy pn (upd pk j (nI (tw_b c j))) := by
        intro g1 g2
        refine ih (j + 1) _ (by omega) (by omega) hx' (fun i hi t => ?_) (fun i hi t p => ?_)
        · by_cases e : i = j
          · rw [e] at t ⊢
            exact g1 t
          · exact ha i (by omega) t
        · by_cases e : i = j
          · rw [e] at t p ⊢
            exact g2 t p
          · exact hb i (by omega) t p
      by_cases t : th j = 0
      · refine br_t t ⟨vp_in_nI hj' (by decide), ?_⟩
        rw [pk_us]
        by_cases b1 : tw_b c j = 1
        · refine br_t (congrArg nI b1) ?_
          refine h0 (fun p => ?_) _
          have := p.1 j hj' t
          omega
        · refine br_f (fun z => b1 ((nI_eq (b := 1) (by omega) (by decide)).mp z)) ?_
          refine And.intro (vp_in_nI hj' (by decide)) ?_
          rw [nI_clamp (show j < 2 ^ 31 by omega)]
          refine br_t t (nm_r (nI_1 j) ?_)
          exact go (fun _ => by omega) (fun z => absurd t z)
      · refine br_f t ?_
        refine And.intro (vp_in_nI hj' (by decide)) ?_
        rw [nI_clamp (show j < 2 ^ 31 by omega)]
        refine br_f t ⟨vp_in_nI hj' (by decide), ?_⟩
        by_cases p : pn j < 0
        · refine br_t p (nm_r (nI_1 j) ?_)
          exact go (fun z => absurd z t) (fun _ z => absurd p z)
        · refine br_f p ⟨vp_in_nI hj' (by decide), vp_in_nI hj' (by decide), ?_⟩
          rw [pk_us]
          by_cases q : pn j = nI (tw_b c j)
          · refine br_t q (nm_r (nI_1 j) ?_)
            exact go (fun z => absurd z t) (fun _ _ => q)
          · refine br_f q ?_
            exact h0 (fun z => q (z.2.1 j hj' t p)) _
theorem tw_yplan {th wy pn pk : Nat → Int32} {c : Nat} (hc : c < 256) {post : Int32 → SY → Prop}
    (h1 : tw_Pl th wy pn (tw_b c) → ∀ pk, (∀ j, j < 8 → pk j = nI (tw_b c j)) → post 1 (th, wy, pn, pk))
    (h0 : ¬ tw_Pl th wy pn (tw_b c) → ∀ pk, post 0 (th, wy, pn, pk)) : wpY_plan post (th, wy, pn, pk) (nI c) :=
  Exists.intro 9 (tw_y2 hc h1 h0 9 0 pk (by omega) (by omega) (fun i z => absurd z (Nat.not_lt_zero i)) (fun i z => absurd z (Nat.not_lt_zero i)) (fun i z => absurd z (Nat.not_lt_zero i)))
end
section
/-! first, implies, hit, avoids -/
section
variable {th wy pn : Nat → Int32}
theorem tw_yf2 {post : Int32 → SY → Prop}
    (h1 : ∀ c0, tw_IsF th wy pn c0 → ∀ pk, post (nI c0) (th, wy, pn, pk))
    (h0 : ¬ tw_Sat th wy pn → ∀ pk, post (-1) (th, wy, pn, pk)) :
    ∀ n c pk, c ≤ 256 → 256 - c < n → (∀ d, d < c → ¬ tw_Pl th wy pn (tw_b d)) → wY_first_2 post n (nI c) th wy pn pk := by
  intro n
  induction n with
  | zero =>
    intro c pk _ h
    omega
  | succ n ih =>
    intro c pk hc hn hx
    by_cases hce : c = 256
    · subst hce
      refine br_t (tw_256 (by omega) (by omega)) (h0 (fun z => ?_) pk)
      obtain ⟨d, hd, p⟩ := z
      exact hx d hd p
    · have hc' : c < 256 := by omega
      refine br_f (tw_n256 hc') ?_
      refine tw_yplan hc' (fun p pk' _ => ?_) (fun p pk' => ?_)
      · exact br_f tw_10 (h1 c ⟨hc', p, hx⟩ pk')
      · refine br_t tw_00 (nm_r (nI_1 c) ?_)
        refine ih (c + 1) pk' (by omega) (by omega) (fun d hd => ?_)
        by_cases e : d = c
        · rw [e]
          exact p
        · exact hx d (by omega)
theorem tw_yfirst {pk : Nat → Int32} {post : Int32 → SY → Prop}
    (h1 : ∀ c0, tw_IsF th wy pn c0 → ∀ pk, post (nI c0) (th, wy, pn, pk))
    (h0 : ¬ tw_Sat th wy pn → ∀ pk, post (-1) (th, wy, pn, pk)) : wpY_first post (th, wy, pn, pk) :=
  Exists.intro 257 (tw_yf2 h1 h0 257 0 pk (by omega) (by omega) (fun d z => absurd z (Nat.not_lt_zero d)))
/-- below the code c, every plan with way k of job j has way m of job i -/
def tw_Im (th wy pn : Nat → Int32) (j k i m c : Nat) : Prop := ∀ d, d < c → tw_Pl th wy pn (tw_b d) → tw_b d j = k → tw_b d i = m
theorem tw_y44 {j k i m : Nat} (hj : j < 8) (hi : i < 8) (hk : k < 2) (hm : m < 2) {post : Int32 → SY → Prop}
    (h1 : tw_Im th wy pn j k i m 256 → ∀ pk, post 1 (th, wy, pn, pk))
    (h0 : ¬ tw_Im th wy pn j k i m 256 → ∀ pk, post 0 (th, wy, pn, pk)) :
    ∀ n c x5 pk, c ≤ 256 → 256 - c < n → ((x5 = 1 ∧ tw_Im th wy pn j k i m c) ∨ (x5 = 0 ∧ ¬ tw_Im th wy pn j k i m 256)) →
      wY_implies_44 post (nI j) (nI k) (nI i) (nI m) n x5 (nI c) th wy pn pk := by
  intro n
  induction n with
  | zero =>
    intro c x5 pk _ h
    omega
  | succ n ih =>
    intro c x5 pk hc hn hx
    by_cases hce : c = 256
    · subst hce
      refine br_t (tw_256 (by omega) (by omega)) ?_
      rcases hx with ⟨rfl, hx⟩ | ⟨rfl, hx⟩
      · exact ⟨narrow_b1, h1 hx pk⟩
      · exact ⟨narrow_b0, h0 hx pk⟩
    · have hc' : c < 256 := by omega
      have go : (tw_Pl th wy pn (tw_b c) → tw_b c j = k → tw_b c i = m) → tw_Im th wy pn j k i m c → tw_Im th wy pn j k i m (c + 1) := by
        intro g hx d hd
        by_cases e : d = c
        · rw [e]
          exact g
        · exact hx d (by omega)
      refine br_f (tw_n256 hc') ?_
      refine tw_yplan hc' (fun p pk' hpk => ?_) (fun p pk' => ?_)
      · refine br_f tw_10 ?_
        rcases hx with ⟨rfl, hx⟩ | ⟨rfl, hx⟩
        · refine br_f tw_10 ⟨vp_in_nI hj (by decide), ?_⟩
          rw [nI_clamp (show j < 2 ^ 31 by omega), nI_clamp (show i < 2 ^ 31 by omega), hpk j hj, hpk i hi]
          have bj : tw_b c j < 2 := tw_b2
          have bi : tw_b c i < 2 := tw_b2
          by_cases e1 : tw_b c j = k
          · refine br_t (congrArg nI e1) ⟨vp_in_nI hi (by decide), ?_⟩
            by_cases e2 : tw_b c i = m
            · refine br_t (congrArg nI e2) (nm_r (nI_1 c) ?_)
              exact ih (c + 1) 1 pk' (by omega) (by omega) (Or.inl ⟨rfl, go (fun _ _ => e2) hx⟩)
            · refine br_f (fun z => e2 ((nI_eq (by omega) (by omega)).mp z)) (nm_r (nI_1 c) ?_)
              exact ih (c + 1) 0 pk' (by omega) (by omega) (Or.inr ⟨rfl, fun z => e2 (z c hc' p e1)⟩)
          · refine br_f (fun z => e1 ((nI_eq (by omega) (by omega)).mp z)) (nm_r (nI_1 c) ?_)
            exact ih (c + 1) 1 pk' (by omega) (by omega) (Or.inl ⟨rfl, go (fun _ z => absurd z e1) hx⟩)
        · refine br_t tw_00 (nm_r (nI_1 c) ?_)
          exact ih (c + 1) 0 pk' (by omega) (by omega) (Or.inr ⟨rfl, hx⟩)
      · refine br_t tw_00 (nm_r (nI_1 c) ?_)
        rcases hx with ⟨e, hx⟩ | ⟨e, hx⟩
        · exact ih (c + 1) x5 pk' (by omega) (by omega) (Or.inl ⟨e, go (fun z => absurd z p) hx⟩)
        · exact ih (c + 1) x5 pk' (by omega) (by omega) (Or.inr ⟨e, hx⟩)
theorem tw_y25 {pk : Nat → Int32} {j k i m : Nat} (hj : j < 8) (hi : i < 8) (hk : k < 2) (hm : m < 2) {post : Int32 → SY → Prop}
    (h1 : tw_Im th wy pn j k i m 256 → ∀ pk, post 1 (th, wy, pn, pk))
    (h0 : ¬ tw_Im th wy pn j k i m 256 → ∀ pk, post 0 (th, wy, pn, pk)) : wY_implies_25 post (nI j) (nI k) (nI i) (nI m) th wy pn pk := by
  have go : ∃ n, wY_implies_44 post (nI j) (nI k) (nI i) (nI m) n 1 0 th wy pn pk :=
    ⟨257, tw_y44 hj hi hk hm h1 h0 257 0 1 pk (by omega) (by omega) (Or.inl ⟨rfl, fun d z => absurd z (Nat.not_lt_zero d)⟩)⟩
  by_cases m0 : m = 0
  · exact br_t (congrArg nI m0) go
  · have m1 : m = 1 := by omega
    exact br_f (fun z => m0 ((nI_eq (b := 0) (by omega) (by decide)).mp z)) (br_t (congrArg nI m1) go)
theorem tw_yimp {pk : Nat → Int32} {j k i m : Nat} (hj : j < 8) (hi : i < 8) (tj : th j ≠ 0) (ti : th i ≠ 0) (hk : k < 2) (hm : m < 2) {post : Int32 → SY → Prop}
    (h1 : tw_Im th wy pn j k i m 256 → ∀ pk, post 1 (th, wy, pn, pk))
    (h0 : ¬ tw_Im th wy pn j k i m 256 → ∀ pk, post 0 (th, wy, pn, pk)) : wpY_implies post (th, wy, pn, pk) (nI j) (nI k) (nI i) (nI m) := by
  unfold wpY_implies
  refine tw_yis1 ⟨j, hj, rfl, tj⟩ (br_f tw_10 ?_)
  refine tw_yis1 ⟨i, hi, rfl, ti⟩ (br_f tw_10 ?_)
  by_cases k0 : k = 0
  · exact br_t (congrArg nI k0) (tw_y25 hj hi hk hm h1 h0)
  · have k1 : k = 1 := by omega
    exact br_f (fun z => k0 ((nI_eq (b := 0) (by omega) (by decide)).mp z)) (br_t (congrArg nI k1) (tw_y25 hj hi hk hm h1 h0))
/-- a chosen way of a job below k collides with a -/
def tw_Ht (th wy : Nat → Int32) (s : Nat → Nat) (a : Int32) (k : Nat) : Prop := ∃ j, j < k ∧ th j ≠ 0 ∧ tw_cl (wy (2 * j + s j)) a
theorem tw_yhit4 {pk : Nat → Int32} {s : Nat → Nat} {a : Int32} (hs : ∀ j, j < 8 → s j < 2) (hpk : ∀ j, j < 8 → pk j = nI (s j)) {post : Int32 → Prop}
    (h1 : tw_Ht th wy s a 8 → post 1) (h0 : ¬ tw_Ht th wy s a 8 → post 0) :
    ∀ n j x2, j ≤ 8 → 8 - j < n → ((x2 = 0 ∧ ¬ tw_Ht th wy s a j) ∨ (x2 = 1 ∧ tw_Ht th wy s a 8)) → wY_hit_4 post a th wy pn pk n x2 (nI j) := by
  intro n
  induction n with
  | zero =>
    intro j x2 _ h
    omega
  | succ n ih =>
    intro j x2 hj hn hx
    by_cases hje : j = 8
    · subst hje
      refine br_t (tw_8 (by omega) (by omega)) ?_
      rcases hx with ⟨rfl, hx⟩ | ⟨rfl, hx⟩
      · exact ⟨narrow_b0, h0 hx⟩
      · exact ⟨narrow_b1, h1 hx⟩
    · have hj' : j < 8 := by omega
      refine br_f (tw_n8 hj') ?_
      rcases hx with ⟨rfl, hx⟩ | ⟨rfl, hx⟩
      · have go : ¬ (th j ≠ 0 ∧ tw_cl (wy (2 * j + s j)) a) → ¬ tw_Ht th wy s a (j + 1) := by
          intro g z
          obtain ⟨i, hi, ti, c⟩ := z
          by_cases e : i = j
          · rw [e] at ti c
            exact g ⟨ti, c⟩
          · exact hx ⟨i, by omega, ti, c⟩
        refine br_t tw_00 ⟨vp_in_nI hj' (by decide), ?_⟩
        rw [nI_clamp (show j < 2 ^ 31 by omega), hpk j hj', tw_dbl, nI_add, nI_clamp (show 2 * j + s j < 2 ^ 31 by have := hs j hj'; omega)]
        by_cases t : th j = 0
        · refine br_t t (nm_r (nI_1 j) ?_)
          exact ih (j + 1) 0 (by omega) (by omega) (Or.inl ⟨rfl, go (fun z => z.1 t)⟩)
        · refine br_f t ⟨vp_in_nI hj' (by decide), vp_in_nI (by have := hs j hj'; omega) (by decide), ?_⟩
          by_cases k : tw_cl (wy (2 * j + s j)) a
          · refine tw_ycol1 k (br_f tw_10 (nm_r (nI_1 j) ?_))
            exact ih (j + 1) 1 (by omega) (by omega) (Or.inr ⟨rfl, j, hj', t, k⟩)
          · refine tw_ycol0 k (br_t tw_00 (nm_r (nI_1 j) ?_))
            exact ih (j + 1) 0 (by omega) (by omega) (Or.inl ⟨rfl, go (fun z => k z.2)⟩)
      · refine br_f tw_10 (nm_r (nI_1 j) ?_)
        exact ih (j + 1) 1 (by omega) (by omega) (Or.inr ⟨rfl, hx⟩)
theorem tw_yhit {pk : Nat → Int32} {s : Nat → Nat} {a : Int32} (hs : ∀ j, j < 8 → s j < 2) (hpk : ∀ j, j < 8 → pk j = nI (s j)) {post : Int32 → Prop}
    (h1 : tw_Ht th wy s a 8 → post 1) (h0 : ¬ tw_Ht th wy s a 8 → post 0) : wpY_hit post (th, wy, pn, pk) a :=
  Exists.intro 9 (tw_yhit4 hs hpk h1 h0 9 0 0 (by omega) (by omega) (Or.inl ⟨rfl, fun z => by
    obtain ⟨i, hi, _⟩ := z
    exact absurd hi (Nat.not_lt_zero i)⟩))
/-- a plan below the code c keeps the way a free -/
def tw_Fr (th wy pn : Nat → Int32) (a : Int32) (c : Nat) : Prop := ∃ d, d < c ∧ tw_Pl th wy pn (tw_b d) ∧ ¬ tw_Ht th wy (tw_b d) a 8
theorem tw_yav4 {a : Int32} {post : Int32 → SY → Prop}
    (h1 : tw_Fr th wy pn a 256 → ∀ pk, post 1 (th, wy, pn, pk))
    (h0 : ¬ tw_Fr th wy pn a 256 → ∀ pk, post 0 (th, wy, pn, pk)) :
    ∀ n c x2 pk, c ≤ 256 → 256 - c < n → ((x2 = 0 ∧ ¬ tw_Fr th wy pn a c) ∨ (x2 = 1 ∧ tw_Fr th wy pn a 256)) → wY_avoids_4 post a n x2 (nI c) th wy pn pk := by
  intro n
  induction n with
  | zero =>
    intro c x2 pk _ h
    omega
  | succ n ih =>
    intro c x2 pk hc hn hx
    by_cases hce : c = 256
    · subst hce
      refine br_t (tw_256 (by omega) (by omega)) ?_
      rcases hx with ⟨rfl, hx⟩ | ⟨rfl, hx⟩
      · exact ⟨narrow_b0, h0 hx pk⟩
      · exact ⟨narrow_b1, h1 hx pk⟩
    · have hc' : c < 256 := by omega
      have go : ¬ (tw_Pl th wy pn (tw_b c) ∧ ¬ tw_Ht th wy (tw_b c) a 8) → ¬ tw_Fr th wy pn a c → ¬ tw_Fr th wy pn a (c + 1) := by
        intro g hx z
        obtain ⟨d, hd, p, q⟩ := z
        by_cases e : d = c
        · rw [e] at p q
          exact g ⟨p, q⟩
        · exact hx ⟨d, by omega, p, q⟩
      refine br_f (tw_n256 hc') ?_
      refine tw_yplan hc' (fun p pk' hpk => ?_) (fun p pk' => ?_)
      · refine br_f tw_10 ?_
        rcases hx with ⟨rfl, hx⟩ | ⟨rfl, hx⟩
        · refine br_t tw_00 ?_
          refine tw_yhit (s := tw_b c) (fun _ _ => tw_b2) hpk (fun q => ?_) (fun q => ?_)
          · refine br_f tw_10 (nm_r (nI_1 c) ?_)
            exact ih (c + 1) 0 pk' (by omega) (by omega) (Or.inl ⟨rfl, go (fun z => z.2 q) hx⟩)
          · refine br_t tw_00 (nm_r (nI_1 c) ?_)
            exact ih (c + 1) 1 pk' (by omega) (by omega) (Or.inr ⟨rfl, c, hc', p, q⟩)
        · refine br_f tw_10 (nm_r (nI_1 c) ?_)
          exact ih (c + 1) 1 pk' (by omega) (by omega) (Or.inr ⟨rfl, hx⟩)
      · refine br_t tw_00 (nm_r (nI_1 c) ?_)
        rcases hx with ⟨e, hx⟩ | ⟨e, hx⟩
        · exact ih (c + 1) x2 pk' (by omega) (by omega) (Or.inl ⟨e, go (fun z => p z.1) hx⟩)
        · exact ih (c + 1) x2 pk' (by omega) (by omega) (Or.inr ⟨e, hx⟩)
theorem tw_yav {pk : Nat → Int32} {a : Int32} {post : Int32 → SY → Prop}
    (h1 : tw_Fr th wy pn a 256 → ∀ pk, post 1 (th, wy, pn, pk))
    (h0 : ¬ tw_Fr th wy pn a 256 → ∀ pk, post 0 (th, wy, pn, pk)) : wpY_avoids post (th, wy, pn, pk) a :=
  Exists.intro 257 (tw_yav4 h1 h0 257 0 0 pk (by omega) (by omega) (Or.inl ⟨rfl, fun z => by
    obtain ⟨i, hi, _⟩ := z
    exact absurd hi (Nat.not_lt_zero i)⟩))
end
end
section
/-! what the component asks and what the reference asks: the same -/
theorem tw_hx {x y : Int32} (h : ∀ i, tw_hb x i ↔ tw_hb y i) : x = y := by
  apply b_ext
  intro i _
  have q := h i
  unfold tw_hb at q
  cases hx : bt x i
  · cases hy : bt y i
    · rfl
    · rw [hx, hy] at q
      exact absurd (q.mpr rfl) (by decide)
  · exact (q.mp hx).symm
theorem tw_bt (c j : Nat) : tw_b c j = (c.testBit (7 - j)).toNat := by
  have h : c / 2 ^ (7 - j) % 2 < 2 := Nat.mod_lt _ (by decide)
  unfold tw_b
  rw [Nat.testBit_eq_decide_div_mod_eq]
  by_cases q : c / 2 ^ (7 - j) % 2 = 1
  · rw [decide_eq_true q, q]
    rfl
  · rw [decide_eq_false q]
    show _ = 0
    omega
theorem tw_bx_ne {c j i : Nat} (hj : j < 8) (hi : i < 8) (h : i ≠ j) : tw_b (c ^^^ 2 ^ (7 - j)) i = tw_b c i := by
  rw [tw_bt, tw_bt, Nat.testBit_xor, Nat.testBit_two_pow_of_ne (by omega), Bool.xor_false]
theorem tw_bx_eq {c j : Nat} : tw_b (c ^^^ 2 ^ (7 - j)) j = 1 - tw_b c j := by
  rw [tw_bt, tw_bt, Nat.testBit_xor, Nat.testBit_two_pow_self]
  cases c.testBit (7 - j) <;> rfl
theorem tw_bx_lt {c j : Nat} (hc : c < 256) : c ^^^ 2 ^ (7 - j) < 256 :=
  Nat.xor_lt_two_pow (n := 8) hc (Nat.lt_of_le_of_lt (Nat.pow_le_pow_right (by decide) (show 7 - j ≤ 7 by omega)) (by decide))
theorem tw_bx_I {c j : Nat} (hj : j < 8) : nI c ^^^ ((1 : Int32) <<< (((7 : Int32) - nI j) &&& 31)) = nI (c ^^^ 2 ^ (7 - j)) := by
  have e : (7 : Int32) - nI j = nI (7 - j) := pk_sub (a := 7) (by omega)
  have h : 2 ^ (7 - j) ≤ 2 ^ 7 := Nat.pow_le_pow_right (by decide) (show 7 - j ≤ 7 by omega)
  have e2 : (1 : Int32) <<< (nI (7 - j) &&& 31) = nI (1 * 2 ^ (7 - j)) := pk_shlN (n := 1) _ (7 - j) (s_l (7 - j) (by omega)) (by omega)
  rw [e, e2, Nat.one_mul, nx_xor]
section
variable {th wy pn ai : Nat → Int32}
theorem tw_IsF_ex (h : tw_Sat th wy pn) : ∃ c0, tw_IsF th wy pn c0 := by
  obtain ⟨c, hc, hp⟩ := h
  induction c using Nat.strongRecOn with
  | _ c ih =>
    by_cases q : ∃ d, d < c ∧ tw_Pl th wy pn (tw_b d)
    · obtain ⟨d, hd, p⟩ := q
      exact ih d hd (by omega) p
    · exact ⟨c, hc, hp, fun d hd p => q ⟨d, hd, p⟩⟩
theorem tw_IsF_un {c d : Nat} (h1 : tw_IsF th wy pn c) (h2 : tw_IsF th wy pn d) : c = d := by
  rcases Nat.lt_trichotomy c d with l | l | l
  · exact absurd h1.2.1 (h2.2.2 c l)
  · exact l
  · exact absurd h2.2.1 (h1.2.2 d l)
theorem tw_lim (G : tw_Good th wy pn (tw_I ai)) (hS : tw_Sat th wy pn) {j k i m : Nat} (hj : j < 8) (hi : i < 8) (tj : th j ≠ 0) (ti : th i ≠ 0) (hk : k < 2) (hm : m < 2) {set : Int32}
    (hset : ∀ d, tw_hb set d ↔ (d = 2 * j + k ∨ d = 2 * i + 1 - m)) : tw_Ps ai set ↔ ¬ tw_Im th wy pn j k i m 256 := by
  have e1 : (2 * j + k) / 2 = j := by omega
  have e2 : (2 * j + k) % 2 = k := by omega
  have e3 : (2 * i + 1 - m) / 2 = i := by omega
  have e4 : (2 * i + 1 - m) % 2 = 1 - m := by omega
  refine (tw_A G hS).trans ⟨fun z im => ?_, fun z => ?_⟩
  · obtain ⟨c, hc, p, q⟩ := z
    have q1 := q (2 * j + k) (by omega) (by rw [e1]; exact tj) ((hset _).mpr (Or.inl rfl))
    have q2 := q (2 * i + 1 - m) (by omega) (by rw [e3]; exact ti) ((hset _).mpr (Or.inr rfl))
    rw [e1, e2] at q1
    rw [e3, e4] at q2
    have := im c hc p q1
    omega
  · apply Classical.byContradiction
    intro hn
    apply z
    intro d hd p bj
    apply Classical.byContradiction
    intro bi
    apply hn
    refine ⟨d, hd, p, fun c hc t sc => ?_⟩
    have bi2 : tw_b d i < 2 := tw_b2
    rcases (hset c).mp sc with q | q
    · rw [q, e1, e2]
      exact bj
    · rw [q, e3, e4]
      omega
theorem tw_lav (G : tw_Good th wy pn (tw_I ai)) (hS : tw_Sat th wy pn) {a set : Int32}
    (hset : ∀ i, tw_hb set i ↔ (i < 16 ∧ th (i / 2) ≠ 0 ∧ tw_cl (wy (tw_op i)) a)) : tw_Ps ai set ↔ tw_Fr th wy pn a 256 := by
  refine (tw_A G hS).trans ⟨fun z => ?_, fun z => ?_⟩
  · obtain ⟨c, hc, p, q⟩ := z
    refine ⟨c, hc, p, fun h => ?_⟩
    obtain ⟨j, hj, tj, k⟩ := h
    have b2 : tw_b c j < 2 := tw_b2
    have e1 : (2 * j + tw_b c j) / 2 = j := by omega
    have e2 : (2 * j + tw_b c j) % 2 = tw_b c j := by omega
    have l : tw_op (2 * j + tw_b c j) < 16 := tw_op_lt (by omega)
    have t' : th (tw_op (2 * j + tw_b c j) / 2) ≠ 0 := by
      rw [tw_op_div, e1]
      exact tj
    have r := q _ l t' ((hset _).mpr ⟨l, t', by rw [tw_op_op]; exact k⟩)
    rw [tw_op_div, tw_op_mod, e1, e2] at r
    omega
  · obtain ⟨c, hc, p, q⟩ := z
    refine ⟨c, hc, p, fun d hd t sd => ?_⟩
    apply Classical.byContradiction
    intro hn
    apply q
    have b2 : tw_b c (d / 2) < 2 := tw_b2
    have e : 2 * (d / 2) + tw_b c (d / 2) = tw_op d := by
      unfold tw_op
      split <;> omega
    exact ⟨d / 2, by omega, t, by rw [e]; exact ((hset d).mp sd).2.2⟩
theorem tw_lfl (G : tw_Good th wy pn (tw_I ai)) {ff : Int32} {c0 j : Nat} (hF : tw_IsF th wy pn c0) (hB : tw_FB th ff c0) (hj : j < 8) (tj : th j ≠ 0) :
    tw_Sd ai (ff ^^^ ((3 : Int32) <<< (nI (2 * j) &&& 31))) 16 ↔ tw_Pl th wy pn (tw_b (c0 ^^^ 2 ^ (7 - j))) := by
  refine tw_stand G (fun _ _ => tw_b2) (fun i hi t => ?_) (fun c => ?_)
  · have ne : i ≠ j := by
      intro e
      rw [e] at t
      exact tj t
    rw [tw_bx_ne hj hi ne]
    exact hF.2.1.1 i hi t
  · have b2 : tw_b c0 j < 2 := tw_b2
    rw [tw_xor, hB c, tw_three (by omega)]
    by_cases e : c / 2 = j
    · rw [e, tw_bx_eq]
      constructor
      · intro z
        have hc : c < 16 := by omega
        refine ⟨hc, tj, ?_⟩
        apply Classical.byContradiction
        intro hn
        exact z ⟨fun _ => by omega, fun _ => ⟨hc, tj, by omega⟩⟩
      · intro z y
        have := (y.mpr (by omega)).2.2
        omega
    · constructor
      · intro z
        have hc : c < 16 ∧ th (c / 2) ≠ 0 ∧ tw_b c0 (c / 2) = c % 2 := by
          apply Classical.byContradiction
          intro hn
          exact z ⟨fun y => absurd y hn, fun y => by omega⟩
        refine ⟨hc.1, hc.2.1, ?_⟩
        rw [tw_bx_ne hj (by omega) e]
        exact hc.2.2
      · intro z y
        obtain ⟨z1, z2, z3⟩ := z
        rw [tw_bx_ne hj (by omega) e] at z3
        have := y.mp ⟨z1, z2, z3⟩
        omega
theorem tw_lpl {ff : Int32} {c0 j : Nat} (hB : tw_FB th ff c0) (hj : j < 8) (tj : th j ≠ 0) :
    (ff >>> (nI (2 * j + 1) &&& 31)) &&& 1 = nI (tw_b c0 j) := by
  have b2 : tw_b c0 j < 2 := tw_b2
  have k := hB (2 * j + 1)
  rw [show (2 * j + 1) / 2 = j by omega] at k
  rw [tw_get _ (by omega)]
  unfold tw_hb at k
  by_cases q : bt ff (2 * j + 1) = true
  · rw [if_pos q]
    have := (k.mp q).2.2
    exact congrArg nI (by omega)
  · rw [if_neg q]
    have n1 : ¬ tw_b c0 j = 1 := fun z => q (k.mpr ⟨by omega, tj, by omega⟩)
    exact congrArg nI (by omega)
/-- fewer jobs, fewer pins: still a plan -/
theorem tw_Sat_cg {th' wy' pn' : Nat → Int32} (h : tw_Sat th wy pn)
    (g : ∀ i, i < 8 → th' i ≠ 0 → th i ≠ 0 ∧ (pn' i = pn i ∨ pn' i < 0) ∧ wy' (2 * i) = wy (2 * i) ∧ wy' (2 * i + 1) = wy (2 * i + 1)) : tw_Sat th' wy' pn' := by
  obtain ⟨c, hc, p⟩ := h
  have hw : ∀ i, i < 8 → th' i ≠ 0 → wy' (2 * i + tw_b c i) = wy (2 * i + tw_b c i) := by
    intro i hi t
    have b2 : tw_b c i < 2 := tw_b2
    obtain ⟨_, _, w1, w2⟩ := g i hi t
    by_cases z : tw_b c i = 0
    · rw [z]
      exact w1
    · rw [show tw_b c i = 1 by omega]
      exact w2
  have hb : ∀ i, th' i ≠ 0 → (if th' i = 0 then 0 else tw_b c i) = tw_b c i := fun i t => if_neg t
  refine tw_sat_of (s := fun i => if th' i = 0 then 0 else tw_b c i) (fun j hj => ?_) ⟨fun j hj t => if_pos t, fun j hj t n => ?_, fun j i hj hi tj ti => ?_⟩
  · show (if th' j = 0 then 0 else tw_b c j) < 2
    split
    · decide
    · exact tw_b2
  · dsimp only
    rw [hb j t]
    obtain ⟨t1, q, _⟩ := g j hj t
    rcases q with q | q
    · rw [q] at n ⊢
      exact p.2.1 j hj t1 n
    · exact absurd q n
  · dsimp only
    rw [hb j tj, hb i ti, hw j hj tj, hw i (by omega) ti]
    exact p.2.2 j i hj hi (g j hj tj).1 (g i (by omega) ti).1
end
end
section
/-! the relation, and what keeps it -/
theorem tw_uu {f : Nat → Int32} {k : Nat} {x y : Int32} : upd (upd f k x) k y = upd f k y := by
  funext i
  by_cases e : i = k
  · rw [e, pk_us, pk_us]
  · rw [pk_un e, pk_un e, pk_un e]
theorem tw_ub {f : Nat → Int32} {k : Nat} {x : Int32} : upd (upd f k x) k (f k) = f := by
  funext i
  by_cases e : i = k
  · rw [e, pk_us]
  · rw [pk_un e, pk_un e]
theorem tw_u4 {f : Nat → Int32} {p q : Nat} {x y : Int32} : upd (upd (upd (upd f p x) q y) p x) q y = upd (upd f p x) q y := by
  funext i
  by_cases e : i = q
  · rw [e, pk_us, pk_us]
  · rw [pk_un e, pk_un e]
    by_cases d : i = p
    · rw [d, pk_us, pk_us]
    · rw [pk_un d, pk_un e]
theorem tw_m1 : (-1 : Int32) < 0 := by decide
section
variable {fp fn fw fk ff : Int32} {aw ai th wy pn : Nat → Int32}
theorem tw_Mt_pl {j : Nat} (hj : j < 8) {a b : Int32} (ha : tw_IW a) (hb : tw_IW b) (hM : tw_Mt fp fn fw aw th wy pn) :
    tw_Mt (fp ||| ((1 : Int32) <<< (nI j &&& 31))) (fn &&& (((1 : Int32) <<< (nI j &&& 31)) ^^^ (-1))) fw (upd (upd aw (2 * j) a) (2 * j + 1) b)
      (upd th j 1) (upd (upd wy (2 * j) a) (2 * j + 1) b) (upd pn j (-1)) := by
  obtain ⟨m1, m2, m3, m4⟩ := hM
  refine ⟨fun i => ?_, fun c hc t => ?_, fun i hi t => ?_, fun i hi t h => ?_⟩
  · rw [tw_orb (by omega), m1 i]
    by_cases e : i = j
    · rw [e, pk_us]
      exact ⟨fun _ => ⟨hj, tw_10⟩, fun _ => Or.inr rfl⟩
    · rw [pk_un e]
      exact ⟨fun z => z.resolve_right e, Or.inl⟩
  · by_cases e1 : c = 2 * j + 1
    · rw [e1, pk_us, pk_us]
      exact ⟨rfl, tw_IWv hb⟩
    · by_cases e2 : c = 2 * j
      · rw [pk_un e1, pk_un e1, e2, pk_us, pk_us]
        exact ⟨rfl, tw_IWv ha⟩
      · rw [pk_un (show c / 2 ≠ j by omega)] at t
        rw [pk_un e1, pk_un e1, pk_un e2, pk_un e2]
        exact m2 c hc t
  · rw [tw_clr (by omega)]
    by_cases e : i = j
    · rw [e, pk_us]
      exact ⟨fun z => absurd rfl z.2, fun z => absurd tw_m1 z⟩
    · rw [pk_un e] at t ⊢
      rw [m3 i hi t]
      exact ⟨fun z => z.1, fun z => ⟨z, e⟩⟩
  · rw [tw_clr (by omega)] at h
    rw [pk_un h.2] at t ⊢
    exact m4 i hi t h.1
theorem tw_Mt_rm {fn' : Int32} {j : Nat} (hj : j < 8) (hM : tw_Mt fp fn fw aw th wy pn) (hf : ∀ i, i ≠ j → (tw_hb fn' i ↔ tw_hb fn i)) :
    tw_Mt (fp &&& (((1 : Int32) <<< (nI j &&& 31)) ^^^ (-1))) fn' fw aw (upd th j 0) wy pn := by
  obtain ⟨m1, m2, m3, m4⟩ := hM
  have ne : ∀ i, upd th j 0 i ≠ 0 → i ≠ j := by
    intro i t e
    rw [e, pk_us] at t
    exact t rfl
  refine ⟨fun i => ?_, fun c hc t => ?_, fun i hi t => ?_, fun i hi t h => ?_⟩
  · rw [tw_clr (by omega), m1 i]
    constructor
    · intro z
      rw [pk_un z.2]
      exact z.1
    · intro z
      have e := ne i z.2
      rw [pk_un e] at z
      exact ⟨z, e⟩
  · have e := ne _ t
    rw [pk_un e] at t
    exact m2 c hc t
  · have e := ne _ t
    rw [pk_un e] at t
    rw [hf i e]
    exact m3 i hi t
  · have e := ne _ t
    rw [pk_un e] at t
    exact m4 i hi t ((hf i e).mp h)
theorem tw_Mt_ch {c : Nat} {a : Int32} (ha : tw_IW a) (hM : tw_Mt fp fn fw aw th wy pn) : tw_Mt fp fn fw (upd aw c a) th (upd wy c a) pn := by
  obtain ⟨m1, m2, m3, m4⟩ := hM
  refine ⟨m1, fun d hd t => ?_, m3, m4⟩
  by_cases e : d = c
  · rw [e, pk_us, pk_us]
    exact ⟨rfl, tw_IWv ha⟩
  · rw [pk_un e, pk_un e]
    exact m2 d hd t
theorem tw_Mt_pin {fw' : Int32} {j k : Nat} (hj : j < 8) (hk : k < 2) (hf : ∀ i, i ≠ j → (tw_hb fw' i ↔ tw_hb fw i)) (hfj : tw_hb fw' j ↔ k = 1) (hM : tw_Mt fp fn fw aw th wy pn) :
    tw_Mt fp (fn ||| ((1 : Int32) <<< (nI j &&& 31))) fw' aw th wy (upd pn j (nI k)) := by
  obtain ⟨m1, m2, m3, m4⟩ := hM
  refine ⟨m1, m2, fun i hi t => ?_, fun i hi t h => ?_⟩
  · rw [tw_orb (by omega)]
    by_cases e : i = j
    · rw [e, pk_us]
      exact ⟨fun _ => nI_pos (by omega), fun _ => Or.inr rfl⟩
    · rw [pk_un e, m3 i hi t]
      exact ⟨fun z => z.resolve_right e, Or.inl⟩
  · rw [tw_orb (by omega)] at h
    by_cases e : i = j
    · rw [e, pk_us]
      by_cases q : bt fw' j = true
      · rw [if_pos q, hfj.mp q]
      · rw [if_neg q]
        have n1 : ¬ k = 1 := fun z => q (hfj.mpr z)
        exact congrArg nI (by omega)
    · rw [pk_un e, m4 i hi t (h.resolve_right e)]
      by_cases q : bt fw i = true
      · have q' : bt fw' i = true := (hf i e).mpr q
        rw [if_pos q, if_pos q']
      · have q' : ¬ bt fw' i = true := fun z => q ((hf i e).mp z)
        rw [if_neg q, if_neg q']
theorem tw_Mt_un {j : Nat} (hj : j < 8) (hM : tw_Mt fp fn fw aw th wy pn) : tw_Mt fp (fn &&& (((1 : Int32) <<< (nI j &&& 31)) ^^^ (-1))) fw aw th wy (upd pn j (-1)) := by
  obtain ⟨m1, m2, m3, m4⟩ := hM
  refine ⟨m1, m2, fun i hi t => ?_, fun i hi t h => ?_⟩
  · rw [tw_clr (by omega)]
    by_cases e : i = j
    · rw [e, pk_us]
      exact ⟨fun z => absurd rfl z.2, fun z => absurd tw_m1 z⟩
    · rw [pk_un e, m3 i hi t]
      exact ⟨fun z => z.1, fun z => ⟨z, e⟩⟩
  · rw [tw_clr (by omega)] at h
    rw [pk_un h.2]
    exact m4 i hi t h.1
end
def tw_R (fp fn fw fk ff : Int32) (aw ai th wy pn : Nat → Int32) : Prop :=
  tw_Mt fp fn fw aw th wy pn ∧ (fk ≠ 0 → tw_Lr th wy pn ff ai) ∧ tw_Sat th wy pn
/-- the relation at the head of a turn: the component's fields say what the reference's arrays say; what is known is right; there is a plan -/
def i_Rel (_ : Nat) (u : SX) (v : SY) : Prop := tw_R u.1 u.2.1 u.2.2.1 u.2.2.2.1 u.2.2.2.2.1 u.2.2.2.2.2.1 u.2.2.2.2.2.2 v.1 v.2.1 v.2.2.1
theorem i_up {k : Nat} {u : SX} {v : SY} (h : i_Rel k u v) : i_Rel (k + 5) u v := h
theorem i_vc0 : wpX_init (fun u => wpY_init (fun v => i_Rel 0 u v)) := by
  show tw_R 0 0 0 0 0 (fun _ => 0) (fun _ => 0) (fun _ => 0) (fun _ => 0) (fun _ => 0)
  refine ⟨⟨fun j => ⟨fun z => absurd z tw_h0, fun z => absurd rfl z.2⟩, fun c _ t => absurd rfl t, fun j _ t => absurd rfl t, fun j _ t => absurd rfl t⟩, fun z => absurd rfl z, 0, by decide, fun j _ _ => ?_, fun j _ t => absurd rfl t, fun j i _ _ t => absurd rfl t⟩
  unfold tw_b
  rw [Nat.zero_div]
section
variable {fp fn fw fk ff : Int32} {aw ai th wy pn pk : Nat → Int32} {k : Nat}
theorem tw_rel (hM : tw_Mt fp fn fw aw th wy pn) (hK : fk ≠ 0 → tw_Lr th wy pn ff ai) (hS : tw_Sat th wy pn) : i_Rel k (fp, fn, fw, fk, ff, aw, ai) (th, wy, pn, pk) := And.intro hM (And.intro hK hS)
theorem tw_k0 {P : Prop} : (0 : Int32) ≠ 0 → P := fun z => absurd rfl z
end
theorem tw_num {p : Int32} (h : p = 0 ∨ p = 1) : ∃ m : Nat, m < 2 ∧ p = nI m := by
  rcases h with h | h
  · exact ⟨0, by decide, h⟩
  · exact ⟨1, by decide, h⟩
theorem tw_numN {m : Nat} (h : m < 2) : nI m = 0 ∨ nI m = 1 := by
  by_cases e : m = 0
  · exact Or.inl (congrArg nI e)
  · exact Or.inr (congrArg nI (show m = 1 by omega))
end
section
/-! offer, probe -/
theorem tw_vb1 : vp_nar .boolean 1 = 1 := rfl
theorem tw_vb0 : vp_nar .boolean 0 = 0 := rfl
theorem tw_free (th : Nat → Int32) : ∀ k, k ≤ 8 → (∀ j, j < k → th j ≠ 0) ∨ ∃ j, j < k ∧ th j = 0 ∧ ∀ i, i < j → th i ≠ 0 := by
  intro k
  induction k with
  | zero => exact fun _ => Or.inl (fun j z => absurd z (Nat.not_lt_zero j))
  | succ k ih =>
    intro hk
    rcases ih (by omega) with h | ⟨j, hj, t, h⟩
    · by_cases t : th k = 0
      · exact Or.inr ⟨k, by omega, t, h⟩
      · refine Or.inl (fun j hj => ?_)
        by_cases e : j = k
        · rw [e]
          exact t
        · exact h j (by omega)
    · exact Or.inr ⟨j, by omega, t, h⟩
section
variable {fp fn fw fk ff : Int32} {aw ai th wy pn pk : Nat → Int32}
theorem tw_xplace {j : Nat} (hj : j < 8) {a b : Int32} (ha : tw_IW a) (hb : tw_IW b) {post : SX → Prop}
    (K : post (fp ||| ((1 : Int32) <<< (nI j &&& 31)), fn &&& (((1 : Int32) <<< (nI j &&& 31)) ^^^ (-1)), fw, 0, ff, upd (upd aw (2 * j) a) (2 * j + 1) b, ai)) :
    wpX_place post (fp, fn, fw, fk, ff, aw, ai) (nI j) a b := by
  unfold wpX_place
  dsimp only
  rw [tw_dbl j, nI_1 (2 * j), nI_clamp (show 2 * j < 2 ^ 31 by omega), nI_clamp (show 2 * j + 1 < 2 ^ 31 by omega), tw_IWs ha, tw_IWs hb]
  exact nm_e (nm_e ⟨vp_in_nI (by omega) (by decide), nm_e ⟨vp_in_nI (by omega) (by decide), nm_e K⟩⟩)
/-- the state of the reference with the job j put in -/
def tw_Sn (th wy pn : Nat → Int32) (j : Nat) (a b : Int32) : Prop := tw_Sat (upd th j 1) (upd (upd wy (2 * j) a) (2 * j + 1) b) (upd pn j (-1))
theorem tw_xpr {j : Nat} (hM : tw_Mt fp fn fw aw th wy pn) (hj : j < 8) (ht : th j = 0) (hl : ∀ i, i < j → th i ≠ 0) {a b : Int32} (ha : tw_IW a) (hb : tw_IW b) {post : Int32 → SX → Prop}
    (K1 : tw_Sn th wy pn j a b → ∀ f x, post (nI j) ((fp ||| ((1 : Int32) <<< (nI j &&& 31))) &&& (((1 : Int32) <<< (nI j &&& 31)) ^^^ (-1)), fn &&& (((1 : Int32) <<< (nI j &&& 31)) ^^^ (-1)), fw, 0, f, upd (upd aw (2 * j) a) (2 * j + 1) b, x))
    (K0 : ¬ tw_Sn th wy pn j a b → ∀ f x, post (-3) ((fp ||| ((1 : Int32) <<< (nI j &&& 31))) &&& (((1 : Int32) <<< (nI j &&& 31)) ^^^ (-1)), fn &&& (((1 : Int32) <<< (nI j &&& 31)) ^^^ (-1)), fw, 0, f, upd (upd aw (2 * j) a) (2 * j + 1) b, x)) :
    ∀ n i, i ≤ j → j - i < n → wX_probe_18 post a b fp fn fw fk ff aw ai n (nI i) := by
  intro n
  induction n with
  | zero =>
    intro i _ h
    omega
  | succ n ih =>
    intro i hi hn
    have hi8 : i < 8 := by omega
    refine br_f (tw_n8 hi8) ?_
    by_cases e : i = j
    · rw [e]
      refine tw_xhas0 hM (tw_isJ_n hj ht) (br_t tw_00 ?_)
      refine tw_xplace hj ha hb ?_
      refine tw_xsolv (tw_Mt_pl hj ha hb hM) tw_k0 (fun hS f k x _ _ => ?_) (fun hS f k x => ?_)
      · exact nm_e (br_f tw_10 (K1 hS f x))
      · exact nm_e (br_t tw_00 (K0 hS f x))
    · refine tw_xhas1 hM ⟨i, hi8, rfl, hl i (by omega)⟩ (br_f tw_10 (nm_r (nI_1 i) ?_))
      exact ih (i + 1) (by omega) (by omega)
theorem tw_xprF (hM : tw_Mt fp fn fw aw th wy pn) (hl : ∀ i, i < 8 → th i ≠ 0) {a b : Int32} {post : Int32 → SX → Prop}
    (K : post (-2) (fp, fn, fw, fk, ff, aw, ai)) : ∀ n i, i ≤ 8 → 8 - i < n → wX_probe_18 post a b fp fn fw fk ff aw ai n (nI i) := by
  intro n
  induction n with
  | zero =>
    intro i _ h
    omega
  | succ n ih =>
    intro i hi hn
    by_cases e : i = 8
    · subst e
      exact br_t (tw_8 (by omega) (by omega)) K
    · have hi8 : i < 8 := by omega
      refine br_f (tw_n8 hi8) ?_
      refine tw_xhas1 hM ⟨i, hi8, rfl, hl i hi8⟩ (br_f tw_10 (nm_r (nI_1 i) ?_))
      exact ih (i + 1) (by omega) (by omega)
theorem tw_yof {j : Nat} (hj : j < 8) (ht : th j = 0) (hl : ∀ i, i < j → th i ≠ 0) {a b : Int32} {post : Int32 → SY → Prop}
    (K1 : tw_Sn th wy pn j a b → ∀ pk, post (nI j) (upd th j 1, upd (upd wy (2 * j) a) (2 * j + 1) b, upd pn j (-1), pk))
    (K0 : ¬ tw_Sn th wy pn j a b → ∀ pk, post (-3) (upd th j 0, upd (upd wy (2 * j) a) (2 * j + 1) b, upd pn j (-1), pk)) :
    ∀ n i, i ≤ j → j - i < n → wY_offer_20 post a b th wy pn pk n (nI i) := by
  intro n
  induction n with
  | zero =>
    intro i _ h
    omega
  | succ n ih =>
    intro i hi hn
    have hi8 : i < 8 := by omega
    refine br_f (tw_n8 hi8) ⟨vp_in_nI hi8 (by decide), ?_⟩
    by_cases e : i = j
    · rw [e, tw_dbl j, nI_1 (2 * j), nI_clamp (show j < 2 ^ 31 by omega), nI_clamp (show 2 * j < 2 ^ 31 by omega), nI_clamp (show 2 * j + 1 < 2 ^ 31 by omega), tw_vb1]
      refine br_t ht ⟨vp_in_nI hj (by decide), nm_e ⟨vp_in_nI (by omega) (by decide), nm_e ⟨vp_in_nI (by omega) (by decide), nm_e ⟨vp_in_nI hj (by decide), nm_e ?_⟩⟩⟩⟩
      refine tw_yfirst (fun c0 hF pk' => ?_) (fun hn pk' => ?_)
      · refine br_f (nI_pos (by have := hF.1; omega)) ?_
        refine And.intro (vp_in_nI hj (by decide)) ?_
        rw [nI_clamp (show j < 2 ^ 31 by omega), tw_vb1, tw_uu]
        refine nm_e ⟨vp_in_nI hj (by decide), br_f ?_ (K1 (tw_IsF_sat hF) pk')⟩
        rw [pk_us]
        exact tw_10
      · refine br_t tw_m1 ?_
        refine And.intro (vp_in_nI hj (by decide)) ?_
        rw [nI_clamp (show j < 2 ^ 31 by omega), tw_vb0, tw_uu]
        refine nm_e ⟨vp_in_nI hj (by decide), br_t ?_ (K0 hn pk')⟩
        rw [pk_us]
    · rw [nI_clamp (show i < 2 ^ 31 by omega)]
      refine br_f (hl i (by omega)) (nm_r (nI_1 i) ?_)
      exact ih (i + 1) (by omega) (by omega)
theorem tw_yofF (hl : ∀ i, i < 8 → th i ≠ 0) {a b : Int32} {post : Int32 → SY → Prop}
    (K : post (-2) (th, wy, pn, pk)) : ∀ n i, i ≤ 8 → 8 - i < n → wY_offer_20 post a b th wy pn pk n (nI i) := by
  intro n
  induction n with
  | zero =>
    intro i _ h
    omega
  | succ n ih =>
    intro i hi hn
    by_cases e : i = 8
    · subst e
      exact br_t (tw_8 (by omega) (by omega)) K
    · have hi8 : i < 8 := by omega
      refine br_f (tw_n8 hi8) ⟨vp_in_nI hi8 (by decide), ?_⟩
      rw [nI_clamp (show i < 2 ^ 31 by omega)]
      refine br_f (hl i hi8) (nm_r (nI_1 i) ?_)
      exact ih (i + 1) (by omega) (by omega)
/-- probe of the component, by its cases -/
theorem tw_xprobe (hM : tw_Mt fp fn fw aw th wy pn) {a b : Int32} {post : Int32 → SX → Prop}
    (KB : ¬ (tw_IW a ∧ tw_IW b) → post (-1) (fp, fn, fw, fk, ff, aw, ai))
    (KF : tw_IW a → tw_IW b → (∀ i, i < 8 → th i ≠ 0) → post (-2) (fp, fn, fw, fk, ff, aw, ai))
    (K1 : ∀ j, tw_IW a → tw_IW b → j < 8 → th j = 0 → (∀ i, i < j → th i ≠ 0) → tw_Sn th wy pn j a b → ∀ f x, post (nI j) ((fp ||| ((1 : Int32) <<< (nI j &&& 31))) &&& (((1 : Int32) <<< (nI j &&& 31)) ^^^ (-1)), fn &&& (((1 : Int32) <<< (nI j &&& 31)) ^^^ (-1)), fw, 0, f, upd (upd aw (2 * j) a) (2 * j + 1) b, x))
    (K0 : ∀ j, tw_IW a → tw_IW b → j < 8 → th j = 0 → (∀ i, i < j → th i ≠ 0) → ¬ tw_Sn th wy pn j a b → ∀ f x, post (-3) ((fp ||| ((1 : Int32) <<< (nI j &&& 31))) &&& (((1 : Int32) <<< (nI j &&& 31)) ^^^ (-1)), fn &&& (((1 : Int32) <<< (nI j &&& 31)) ^^^ (-1)), fw, 0, f, upd (upd aw (2 * j) a) (2 * j + 1) b, x)) :
    wpX_probe post (fp, fn, fw, fk, ff, aw, ai) a b := by
  unfold wpX_probe
  by_cases ha : tw_IW a
  · refine tw_xway1 ha (br_f tw_10 ?_)
    by_cases hb : tw_IW b
    · refine tw_xway1 hb (br_f tw_10 ?_)
      rcases tw_free th 8 (by omega) with h | ⟨j, hj, t, h⟩
      · exact Exists.intro 9 (tw_xprF hM h (KF ha hb h) 9 0 (by omega) (by omega))
      · exact Exists.intro 9 (tw_xpr hM hj t h ha hb (K1 j ha hb hj t h) (K0 j ha hb hj t h) 9 0 (by omega) (by omega))
    · exact tw_xway0 hb (br_t tw_00 (KB (fun z => hb z.2)))
  · exact tw_xway0 ha (br_t tw_00 (KB (fun z => ha z.1)))
theorem tw_yoB {a b : Int32} {post : Int32 → SY → Prop} (h : ¬ (tw_IW a ∧ tw_IW b)) (K : post (-1) (th, wy, pn, pk)) : wpY_offer post (th, wy, pn, pk) a b := by
  unfold wpY_offer
  by_cases ha : tw_IW a
  · refine tw_yway1 ha (br_f tw_10 ?_)
    exact tw_yway0 (fun hb => h ⟨ha, hb⟩) (br_t tw_00 K)
  · exact tw_yway0 ha (br_t tw_00 K)
theorem tw_yoF {a b : Int32} {post : Int32 → SY → Prop} (ha : tw_IW a) (hb : tw_IW b) (hl : ∀ i, i < 8 → th i ≠ 0) (K : post (-2) (th, wy, pn, pk)) : wpY_offer post (th, wy, pn, pk) a b := by
  unfold wpY_offer
  refine tw_yway1 ha (br_f tw_10 ?_)
  refine tw_yway1 hb (br_f tw_10 ?_)
  exact Exists.intro 9 (tw_yofF hl K 9 0 (by omega) (by omega))
theorem tw_yo {j : Nat} (hj : j < 8) (ht : th j = 0) (hl : ∀ i, i < j → th i ≠ 0) {a b : Int32} {post : Int32 → SY → Prop} (ha : tw_IW a) (hb : tw_IW b)
    (K1 : tw_Sn th wy pn j a b → ∀ pk, post (nI j) (upd th j 1, upd (upd wy (2 * j) a) (2 * j + 1) b, upd pn j (-1), pk))
    (K0 : ¬ tw_Sn th wy pn j a b → ∀ pk, post (-3) (upd th j 0, upd (upd wy (2 * j) a) (2 * j + 1) b, upd pn j (-1), pk)) : wpY_offer post (th, wy, pn, pk) a b := by
  unfold wpY_offer
  refine tw_yway1 ha (br_f tw_10 ?_)
  refine tw_yway1 hb (br_f tw_10 ?_)
  exact Exists.intro 9 (tw_yof hj ht hl K1 K0 9 0 (by omega) (by omega))
/-- the job that was put in taken out again -/
theorem tw_back {j : Nat} (hj : j < 8) {a b : Int32} (ha : tw_IW a) (hb : tw_IW b) (hM : tw_Mt fp fn fw aw th wy pn) :
    tw_Mt ((fp ||| ((1 : Int32) <<< (nI j &&& 31))) &&& (((1 : Int32) <<< (nI j &&& 31)) ^^^ (-1))) (fn &&& (((1 : Int32) <<< (nI j &&& 31)) ^^^ (-1))) fw (upd (upd aw (2 * j) a) (2 * j + 1) b)
      (upd th j 0) (upd (upd wy (2 * j) a) (2 * j + 1) b) (upd pn j (-1)) := by
  have h := tw_Mt_rm hj (tw_Mt_pl hj ha hb hM) (fun i _ => Iff.rfl)
  rw [tw_uu] at h
  exact h
theorem tw_backS {j : Nat} {a b : Int32} (hS : tw_Sat th wy pn) : tw_Sat (upd th j 0) (upd (upd wy (2 * j) a) (2 * j + 1) b) (upd pn j (-1)) := by
  refine tw_Sat_cg hS (fun i hi t => ?_)
  have ne : i ≠ j := by
    intro e
    rw [e, pk_us] at t
    exact t rfl
  rw [pk_un ne] at t
  rw [pk_un ne, pk_un (show 2 * i ≠ 2 * j + 1 by omega), pk_un (show 2 * i ≠ 2 * j by omega), pk_un (show 2 * i + 1 ≠ 2 * j + 1 by omega), pk_un (show 2 * i + 1 ≠ 2 * j by omega)]
  exact ⟨t, Or.inl rfl, rfl, rfl⟩
end
theorem i_vc_probe {k : Nat} {u : SX} {v : SY} (I : i_Rel k u v) (hk : k + 5 ≤ 2560) (v1 : Int32) (v2 : Int32) : wpX_probe (fun r u' => wpY_probe (fun r' v' => r' = r ∧ i_Rel (k + 5) u' v') v v1 v2) u v1 v2 := by
  obtain ⟨fp, fn, fw, fk, ff, aw, ai⟩ := u
  obtain ⟨th, wy, pn, pk⟩ := v
  have I' : tw_R fp fn fw fk ff aw ai th wy pn := I
  obtain ⟨hM, hK, hS⟩ := I'
  refine tw_xprobe hM (fun h => ?_) (fun ha hb h => ?_) (fun j ha hb hj ht hl s f x => ?_) (fun j ha hb hj ht hl s f x => ?_)
  · unfold wpY_probe
    exact tw_yoB h (br_t tw_m1 ⟨rfl, tw_rel hM hK hS⟩)
  · unfold wpY_probe
    exact tw_yoF ha hb h (br_t (show (-2 : Int32) < 0 by decide) ⟨rfl, tw_rel hM hK hS⟩)
  · unfold wpY_probe
    refine tw_yo hj ht hl ha hb (fun _ pk' => ?_) (fun z => absurd s z)
    refine br_f (nI_pos (by omega)) ⟨vp_in_nI hj (by decide), ?_⟩
    rw [nI_clamp (show j < 2 ^ 31 by omega), tw_vb0, tw_uu]
    exact nm_e ⟨rfl, tw_rel (tw_back hj ha hb hM) tw_k0 (tw_backS hS)⟩
  · unfold wpY_probe
    refine tw_yo hj ht hl ha hb (fun z => absurd z s) (fun _ pk' => ?_)
    exact br_t (show (-3 : Int32) < 0 by decide) ⟨rfl, tw_rel (tw_back hj ha hb hM) tw_k0 (tw_backS hS)⟩
theorem i_vc_offer {k : Nat} {u : SX} {v : SY} (I : i_Rel k u v) (hk : k + 5 ≤ 2560) (v1 : Int32) (v2 : Int32) : wpX_offer (fun r u' => wpY_offer (fun r' v' => r' = r ∧ i_Rel (k + 5) u' v') v v1 v2) u v1 v2 := by
  obtain ⟨fp, fn, fw, fk, ff, aw, ai⟩ := u
  obtain ⟨th, wy, pn, pk⟩ := v
  have I' : tw_R fp fn fw fk ff aw ai th wy pn := I
  obtain ⟨hM, hK, hS⟩ := I'
  unfold wpX_offer
  refine tw_xprobe hM (fun h => ?_) (fun ha hb h => ?_) (fun j ha hb hj ht hl s f x => ?_) (fun j ha hb hj ht hl s f x => ?_)
  · refine br_t tw_m1 ?_
    exact tw_yoB h ⟨rfl, tw_rel hM hK hS⟩
  · refine br_t (show (-2 : Int32) < 0 by decide) ?_
    exact tw_yoF ha hb h ⟨rfl, tw_rel hM hK hS⟩
  · refine br_f (nI_pos (by omega)) ?_
    refine tw_xplace hj ha hb ?_
    refine tw_yo hj ht hl ha hb (fun _ pk' => ?_) (fun z => absurd s z)
    have m := tw_Mt_pl hj ha hb (tw_back hj ha hb hM)
    rw [tw_uu (f := th), tw_uu (f := pn), tw_u4 (f := wy)] at m
    exact ⟨rfl, tw_rel m tw_k0 s⟩
  · refine br_t (show (-3 : Int32) < 0 by decide) ?_
    refine tw_yo hj ht hl ha hb (fun z => absurd z s) (fun _ pk' => ?_)
    exact ⟨rfl, tw_rel (tw_back hj ha hb hM) tw_k0 (tw_backS hS)⟩
end
section
/-! withdraw, change, pin, unpin, jobs, way -/
theorem i_vc_withdraw {k : Nat} {u : SX} {v : SY} (I : i_Rel k u v) (hk : k + 5 ≤ 2560) (v1 : Int32) : wpX_withdraw (fun r u' => wpY_withdraw (fun r' v' => r' = r ∧ i_Rel (k + 5) u' v') v v1) u v1 := by
  obtain ⟨fp, fn, fw, fk, ff, aw, ai⟩ := u
  obtain ⟨th, wy, pn, pk⟩ := v
  have I' : tw_R fp fn fw fk ff aw ai th wy pn := I
  obtain ⟨hM, hK, hS⟩ := I'
  unfold wpX_withdraw wpY_withdraw
  dsimp only
  by_cases hJ : tw_isJ th v1
  · refine tw_xhas1 hM hJ (br_f tw_10 (nm_e (nm_e ?_)))
    refine tw_yis1 hJ (br_f tw_10 ?_)
    obtain ⟨j, hj, rfl, ht⟩ := hJ
    refine ⟨vp_in_nI hj (by decide), ?_⟩
    rw [nI_clamp (show j < 2 ^ 31 by omega), tw_vb0]
    refine nm_e ⟨rfl, tw_rel (tw_Mt_rm hj hM (fun i hi => ?_)) tw_k0 (tw_Sat_cg hS (fun i hi t => ?_))⟩
    · rw [tw_clr (by omega)]
      exact ⟨fun z => z.1, fun z => ⟨z, hi⟩⟩
    · have ne : i ≠ j := by
        intro e
        rw [e, pk_us] at t
        exact t rfl
      rw [pk_un ne] at t
      exact ⟨t, Or.inl rfl, rfl, rfl⟩
  · refine tw_xhas0 hM hJ (br_t tw_00 ?_)
    exact tw_yis0 hJ (br_t tw_00 ⟨rfl, tw_rel hM hK hS⟩)
theorem i_vc_unpin {k : Nat} {u : SX} {v : SY} (I : i_Rel k u v) (hk : k + 5 ≤ 2560) (v1 : Int32) : wpX_unpin (fun r u' => wpY_unpin (fun r' v' => r' = r ∧ i_Rel (k + 5) u' v') v v1) u v1 := by
  obtain ⟨fp, fn, fw, fk, ff, aw, ai⟩ := u
  obtain ⟨th, wy, pn, pk⟩ := v
  have I' : tw_R fp fn fw fk ff aw ai th wy pn := I
  obtain ⟨hM, hK, hS⟩ := I'
  unfold wpX_unpin wpY_unpin
  dsimp only
  by_cases hJ : tw_isJ th v1
  · refine tw_xhas1 hM hJ (br_f tw_10 ?_)
    obtain ⟨j, hj, rfl, ht⟩ := hJ
    have m3 := hM.2.2.1 j hj ht
    by_cases p : tw_hb fn j
    · refine br_f (fun z => (tw_tst (by omega)).mp z p) (nm_e ?_)
      refine tw_yis1 ⟨j, hj, rfl, ht⟩ (br_f tw_10 ⟨vp_in_nI hj (by decide), ?_⟩)
      rw [nI_clamp (show j < 2 ^ 31 by omega)]
      refine br_t (Int32.not_lt.mp (m3.mp p)) ⟨vp_in_nI hj (by decide), nm_e ⟨rfl, tw_rel (tw_Mt_un hj hM) tw_k0 (tw_Sat_cg hS (fun i hi t => ?_))⟩⟩
      by_cases e : i = j
      · refine ⟨t, Or.inr ?_, rfl, rfl⟩
        rw [e, pk_us]
        exact tw_m1
      · refine ⟨t, Or.inl ?_, rfl, rfl⟩
        rw [pk_un e]
    · refine br_t ((tw_tst (by omega)).mpr p) ?_
      refine tw_yis1 ⟨j, hj, rfl, ht⟩ (br_f tw_10 ⟨vp_in_nI hj (by decide), ?_⟩)
      rw [nI_clamp (show j < 2 ^ 31 by omega)]
      refine br_f (fun z => p (m3.mpr (Int32.not_lt.mpr z))) ⟨rfl, tw_rel hM hK hS⟩
  · refine tw_xhas0 hM hJ (br_t tw_00 ?_)
    exact tw_yis0 hJ (br_t tw_00 ⟨rfl, tw_rel hM hK hS⟩)
theorem tw_yjobs {th wy pn pk : Nat → Int32} {post : Int32 → Prop} (K : ∀ r, (∀ i, tw_hb r i ↔ (i < 8 ∧ th i ≠ 0)) → post r) :
    ∀ n j x1, j ≤ 8 → 8 - j < n → (∀ i, tw_hb x1 i ↔ (i < j ∧ th i ≠ 0)) → wY_jobs_4 post th wy pn pk n x1 (nI j) := by
  intro n
  induction n with
  | zero =>
    intro j x1 _ h
    omega
  | succ n ih =>
    intro j x1 hj hn hx
    by_cases hje : j = 8
    · subst hje
      exact br_t (tw_8 (by omega) (by omega)) (K x1 hx)
    · have hj' : j < 8 := by omega
      refine br_f (tw_n8 hj') ⟨vp_in_nI hj' (by decide), ?_⟩
      rw [nI_clamp (show j < 2 ^ 31 by omega)]
      by_cases t : th j = 0
      · refine br_t t (nm_e (nm_r (nI_1 j) ?_))
        refine ih (j + 1) _ (by omega) (by omega) (fun i => ?_)
        rw [tw_or, hx i]
        constructor
        · intro z
          rcases z with z | z
          · exact ⟨by omega, z.2⟩
          · exact absurd z tw_h0
        · intro z
          by_cases e : i = j
          · rw [e] at z
            exact absurd t z.2
          · exact Or.inl ⟨by omega, z.2⟩
      · refine br_f t (nm_e (nm_r (nI_1 j) ?_))
        refine ih (j + 1) _ (by omega) (by omega) (fun i => ?_)
        rw [tw_orb (by omega), hx i]
        constructor
        · intro z
          rcases z with z | z
          · exact ⟨by omega, z.2⟩
          · rw [z]
            exact ⟨by omega, t⟩
        · intro z
          by_cases e : i = j
          · exact Or.inr e
          · exact Or.inl ⟨by omega, z.2⟩
theorem i_vc_jobs {k : Nat} {u : SX} {v : SY} (I : i_Rel k u v) (hk : k + 5 ≤ 2560) : wpX_jobs (fun r => wpY_jobs (fun r' => r' = r ∧ i_Rel (k + 5) u v) v) u := by
  obtain ⟨fp, fn, fw, fk, ff, aw, ai⟩ := u
  obtain ⟨th, wy, pn, pk⟩ := v
  have I' : tw_R fp fn fw fk ff aw ai th wy pn := I
  obtain ⟨hM, hK, hS⟩ := I'
  unfold wpX_jobs wpY_jobs
  dsimp only
  refine Exists.intro 9 (tw_yjobs (fun r hr => ?_) 9 0 0 (by omega) (by omega) (fun i => ⟨fun z => absurd z tw_h0, fun z => absurd z.1 (Nat.not_lt_zero i)⟩))
  exact ⟨tw_hx (fun i => (hr i).trans (hM.1 i).symm), tw_rel hM hK hS⟩
theorem tw_idx {j m : Nat} : (2 : Int32) * nI j + nI m = nI (2 * j + m) := by rw [tw_dbl, nI_add]
theorem i_vc_way {k : Nat} {u : SX} {v : SY} (I : i_Rel k u v) (hk : k + 5 ≤ 2560) (v1 : Int32) (v2 : Int32) : wpX_way (fun r => wpY_way (fun r' => r' = r ∧ i_Rel (k + 5) u v) v v1 v2) u v1 v2 := by
  obtain ⟨fp, fn, fw, fk, ff, aw, ai⟩ := u
  obtain ⟨th, wy, pn, pk⟩ := v
  have I' : tw_R fp fn fw fk ff aw ai th wy pn := I
  obtain ⟨hM, hK, hS⟩ := I'
  unfold wpX_way wpY_way
  dsimp only
  by_cases hJ : tw_isJ th v1
  · refine tw_xhas1 hM hJ (br_f tw_10 ?_)
    by_cases hN : v2 = 0 ∨ v2 = 1
    · refine tw_xnum1 hN (br_f tw_10 ?_)
      refine And.intro ?_ (tw_yis1 hJ (br_f tw_10 ?_))
      · obtain ⟨j, hj, rfl, ht⟩ := hJ
        obtain ⟨m, hm, rfl⟩ := tw_num hN
        rw [tw_idx]
        exact vp_in_nI (by omega) (by decide)
      · have go : wY_way_17 (fun r' => r' = aw (2 * v1 + v2).toNatClampNeg ∧ i_Rel (k + 5) (fp, fn, fw, fk, ff, aw, ai) (th, wy, pn, pk)) v1 v2 th wy pn pk := by
          obtain ⟨j, hj, rfl, ht⟩ := hJ
          obtain ⟨m, hm, rfl⟩ := tw_num hN
          unfold wY_way_17
          rw [tw_idx, nI_clamp (show 2 * j + m < 2 ^ 31 by omega)]
          have t' : th ((2 * j + m) / 2) ≠ 0 := by
            rw [show (2 * j + m) / 2 = j by omega]
            exact ht
          exact ⟨vp_in_nI (by omega) (by decide), (hM.2.1 (2 * j + m) (by omega) t').1.symm, tw_rel hM hK hS⟩
        by_cases h0 : v2 = 0
        · exact br_t h0 go
        · exact br_f h0 (br_t (hN.resolve_left h0) go)
    · refine tw_xnum0 hN (br_t tw_00 ?_)
      exact tw_yis1 hJ (br_f tw_10 (br_f (fun z => hN (Or.inl z)) (br_f (fun z => hN (Or.inr z)) ⟨rfl, tw_rel hM hK hS⟩)))
  · refine tw_xhas0 hM hJ (br_t tw_00 ?_)
    exact tw_yis0 hJ (br_t tw_00 ⟨rfl, tw_rel hM hK hS⟩)
section
variable {th wy pn pk : Nat → Int32}
theorem tw_ychg {v1 v2 v3 : Int32} (hJ : tw_isJ th v1) (hN : v2 = 0 ∨ v2 = 1) {post : Int32 → SY → Prop} (go : wY_change_17 post v1 v2 v3 th wy pn pk) : wpY_change post (th, wy, pn, pk) v1 v2 v3 := by
  unfold wpY_change
  refine tw_yis1 hJ (br_f tw_10 ?_)
  by_cases h0 : v2 = 0
  · exact br_t h0 go
  · exact br_f h0 (br_t (hN.resolve_left h0) go)
theorem tw_ypin {v1 v2 : Int32} (hJ : tw_isJ th v1) (hN : v2 = 0 ∨ v2 = 1) {post : Int32 → SY → Prop} (go : wY_pin_19 post v1 v2 th wy pn pk) : wpY_pin post (th, wy, pn, pk) v1 v2 := by
  unfold wpY_pin
  refine tw_yis1 hJ (br_f tw_10 ?_)
  by_cases h0 : v2 = 0
  · exact br_t h0 go
  · exact br_f h0 (br_t (hN.resolve_left h0) go)
theorem tw_ychgB {v1 v2 v3 : Int32} (h : ¬ (tw_isJ th v1 ∧ (v2 = 0 ∨ v2 = 1))) {post : Int32 → SY → Prop} (go : post (-1) (th, wy, pn, pk)) : wpY_change post (th, wy, pn, pk) v1 v2 v3 := by
  unfold wpY_change
  by_cases hJ : tw_isJ th v1
  · exact tw_yis1 hJ (br_f tw_10 (br_f (fun z => h ⟨hJ, Or.inl z⟩) (br_f (fun z => h ⟨hJ, Or.inr z⟩) go)))
  · exact tw_yis0 hJ (br_t tw_00 go)
theorem tw_ypinB {v1 v2 : Int32} (h : ¬ (tw_isJ th v1 ∧ (v2 = 0 ∨ v2 = 1))) {post : Int32 → SY → Prop} (go : post (-1) (th, wy, pn, pk)) : wpY_pin post (th, wy, pn, pk) v1 v2 := by
  unfold wpY_pin
  by_cases hJ : tw_isJ th v1
  · exact tw_yis1 hJ (br_f tw_10 (br_f (fun z => h ⟨hJ, Or.inl z⟩) (br_f (fun z => h ⟨hJ, Or.inr z⟩) go)))
  · exact tw_yis0 hJ (br_t tw_00 go)
end
theorem i_vc_change {k : Nat} {u : SX} {v : SY} (I : i_Rel k u v) (hk : k + 5 ≤ 2560) (v1 : Int32) (v2 : Int32) (v3 : Int32) : wpX_change (fun r u' => wpY_change (fun r' v' => r' = r ∧ i_Rel (k + 5) u' v') v v1 v2 v3) u v1 v2 v3 := by
  obtain ⟨fp, fn, fw, fk, ff, aw, ai⟩ := u
  obtain ⟨th, wy, pn, pk⟩ := v
  have I' : tw_R fp fn fw fk ff aw ai th wy pn := I
  obtain ⟨hM, hK, hS⟩ := I'
  unfold wpX_change
  dsimp only
  by_cases hJ : tw_isJ th v1
  · refine tw_xhas1 hM hJ (br_f tw_10 ?_)
    by_cases hN : v2 = 0 ∨ v2 = 1
    · refine tw_xnum1 hN (br_f tw_10 ?_)
      by_cases hw : tw_IW v3
      · refine tw_xway1 hw (br_f tw_10 ?_)
        have hJ' := hJ
        obtain ⟨j, hj, rfl, ht⟩ := hJ
        obtain ⟨m, hm, rfl⟩ := tw_num hN
        have t' : th ((2 * j + m) / 2) ≠ 0 := by
          rw [show (2 * j + m) / 2 = j by omega]
          exact ht
        have hi : vp_in (nI (2 * j + m)) 16 := vp_in_nI (by omega) (by decide)
        have m2 := hM.2.1 (2 * j + m) (by omega) t'
        rw [tw_idx, nI_clamp (show 2 * j + m < 2 ^ 31 by omega), tw_IWs hw]
        refine ⟨hi, nm_e ⟨hi, nm_e ?_⟩⟩
        refine tw_xsolv (tw_Mt_ch (c := 2 * j + m) hw hM) tw_k0 (fun s f k x hk hL => ?_) (fun s f k x => ?_)
        · refine br_f tw_10 ?_
          refine tw_ychg hJ' hN ?_
          unfold wY_change_17
          refine tw_yway1 hw (br_f tw_10 ?_)
          rw [tw_idx, nI_clamp (show 2 * j + m < 2 ^ 31 by omega)]
          refine ⟨hi, nm_e ⟨hi, nm_e ?_⟩⟩
          refine tw_yfirst (fun c0 hF pk' => ?_) (fun z => absurd s z)
          exact br_f (nI_pos (by have := hF.1; omega)) ⟨rfl, tw_rel (tw_Mt_ch hw hM) (fun _ => hL) s⟩
        · refine br_t tw_00 ⟨hi, ?_⟩
          rw [show vp_nar .short (aw (2 * j + m)) = aw (2 * j + m) by rw [m2.1, m2.2], tw_ub]
          refine nm_e ?_
          refine tw_ychg hJ' hN ?_
          unfold wY_change_17
          refine tw_yway1 hw (br_f tw_10 ?_)
          rw [tw_idx, nI_clamp (show 2 * j + m < 2 ^ 31 by omega)]
          refine ⟨hi, nm_e ⟨hi, nm_e ?_⟩⟩
          refine tw_yfirst (fun c0 hF pk' => absurd (tw_IsF_sat hF) s) (fun _ pk' => ?_)
          refine br_t tw_m1 ⟨hi, ?_⟩
          rw [tw_ub]
          exact nm_e ⟨rfl, tw_rel hM tw_k0 hS⟩
      · refine tw_xway0 hw (br_t tw_00 ?_)
        refine tw_ychg hJ hN ?_
        exact tw_yway0 hw (br_t tw_00 ⟨rfl, tw_rel hM hK hS⟩)
    · refine tw_xnum0 hN (br_t tw_00 ?_)
      exact tw_ychgB (fun z => hN z.2) ⟨rfl, tw_rel hM hK hS⟩
  · refine tw_xhas0 hM hJ (br_t tw_00 ?_)
    exact tw_ychgB (fun z => hJ z.1) ⟨rfl, tw_rel hM hK hS⟩
theorem i_vc_pin {k : Nat} {u : SX} {v : SY} (I : i_Rel k u v) (hk : k + 5 ≤ 2560) (v1 : Int32) (v2 : Int32) : wpX_pin (fun r u' => wpY_pin (fun r' v' => r' = r ∧ i_Rel (k + 5) u' v') v v1 v2) u v1 v2 := by
  obtain ⟨fp, fn, fw, fk, ff, aw, ai⟩ := u
  obtain ⟨th, wy, pn, pk⟩ := v
  have I' : tw_R fp fn fw fk ff aw ai th wy pn := I
  obtain ⟨hM, hK, hS⟩ := I'
  unfold wpX_pin
  dsimp only
  by_cases hJ : tw_isJ th v1
  · refine tw_xhas1 hM hJ (br_f tw_10 ?_)
    by_cases hN : v2 = 0 ∨ v2 = 1
    · refine tw_xnum1 hN (br_f tw_10 ?_)
      have hJ' := hJ
      obtain ⟨j, hj, rfl, ht⟩ := hJ
      obtain ⟨m, hm, rfl⟩ := tw_num hN
      refine nm_e ?_
      have hi : vp_in (nI j) 8 := vp_in_nI hj (by decide)
      -- both ways of pinnedWay
      have go : ∀ w : Int32, (∀ i, i ≠ j → (tw_hb w i ↔ tw_hb fw i)) → (tw_hb w j ↔ m = 1) →
          wX_pin_67 (fun r u' => wpY_pin (fun r' v' => r' = r ∧ i_Rel (k + 5) u' v') (th, wy, pn, pk) (nI j) (nI m)) (nI m) fn fw w fp (fn ||| ((1 : Int32) <<< (nI j &&& 31))) fw fk ff aw ai := by
        intro w w1 w2
        unfold wX_pin_67
        refine tw_xsolv (tw_Mt_pin hj hm w1 w2 hM) tw_k0 (fun s f k x hk hL => ?_) (fun s f k x => ?_)
        · refine br_f tw_10 ?_
          refine tw_ypin hJ' hN ?_
          refine And.intro hi ?_
          rw [nI_clamp (show j < 2 ^ 31 by omega)]
          refine nm_e ⟨hi, nm_e ?_⟩
          refine tw_yfirst (fun c0 hF pk' => ?_) (fun z => absurd s z)
          exact br_f (nI_pos (by have := hF.1; omega)) ⟨rfl, tw_rel (tw_Mt_pin hj hm w1 w2 hM) (fun _ => hL) s⟩
        · refine br_t tw_00 ?_
          refine tw_ypin hJ' hN ?_
          refine And.intro hi ?_
          rw [nI_clamp (show j < 2 ^ 31 by omega)]
          refine nm_e ⟨hi, nm_e ?_⟩
          refine tw_yfirst (fun c0 hF pk' => absurd (tw_IsF_sat hF) s) (fun _ pk' => ?_)
          refine br_t tw_m1 ⟨hi, ?_⟩
          rw [tw_ub]
          exact nm_e ⟨rfl, tw_rel hM tw_k0 hS⟩
      by_cases h1 : m = 1
      · refine br_t (congrArg nI h1) (go _ (fun i hi => ?_) ?_)
        · rw [tw_orb (by omega)]
          exact ⟨fun z => z.resolve_right hi, Or.inl⟩
        · rw [tw_orb (by omega)]
          exact ⟨fun _ => h1, fun _ => Or.inr rfl⟩
      · refine br_f (fun z => h1 ((nI_eq (b := 1) (by omega) (by decide)).mp z)) (go _ (fun i hi => ?_) ?_)
        · rw [tw_clr (by omega)]
          exact ⟨fun z => z.1, fun z => ⟨z, hi⟩⟩
        · rw [tw_clr (by omega)]
          exact ⟨fun z => absurd rfl z.2, fun z => absurd z h1⟩
    · refine tw_xnum0 hN (br_t tw_00 ?_)
      exact tw_ypinB (fun z => hN z.2) ⟨rfl, tw_rel hM hK hS⟩
  · refine tw_xhas0 hM hJ (br_t tw_00 ?_)
    exact tw_ypinB (fun z => hJ z.1) ⟨rfl, tw_rel hM hK hS⟩
end
section
/-! forced, implies, planned, alwaysTaken, couldKeepFree, forcedJobs, flips -/
noncomputable def tw_fa (th wy pn : Nat → Int32) (j : Nat) : Int32 :=
  @ite Int32 (tw_Im th wy pn j 0 j 1 256) (Classical.propDecidable _) 1 (@ite Int32 (tw_Im th wy pn j 1 j 0 256) (Classical.propDecidable _) 0 (-1))
section
variable {th wy pn : Nat → Int32} {j : Nat}
theorem tw_fa1 (h : tw_Im th wy pn j 0 j 1 256) : tw_fa th wy pn j = 1 := if_pos h
theorem tw_fa0 (h : ¬ tw_Im th wy pn j 0 j 1 256) (h' : tw_Im th wy pn j 1 j 0 256) : tw_fa th wy pn j = 0 := (if_neg h).trans (if_pos h')
theorem tw_faN (h : ¬ tw_Im th wy pn j 0 j 1 256) (h' : ¬ tw_Im th wy pn j 1 j 0 256) : tw_fa th wy pn j = -1 := (if_neg h).trans (if_neg h')
theorem tw_fa_neg : tw_fa th wy pn j < 0 ↔ tw_fa th wy pn j = -1 := by
  by_cases h : tw_Im th wy pn j 0 j 1 256
  · rw [tw_fa1 h]
    decide
  · by_cases h' : tw_Im th wy pn j 1 j 0 256
    · rw [tw_fa0 h h']
      decide
    · rw [tw_faN h h']
      decide
theorem tw_nb (hS : tw_Sat th wy pn) (h : tw_Im th wy pn j 1 j 0 256) : ¬ tw_Im th wy pn j 0 j 1 256 := by
  intro h'
  obtain ⟨c, hc, p⟩ := hS
  have b2 : tw_b c j < 2 := tw_b2
  by_cases z : tw_b c j = 0
  · have := h' c hc p z
    omega
  · have := h c hc p (by omega)
    omega
end
section
variable {fp fn fw fk ff : Int32} {aw ai th wy pn pk : Nat → Int32}
theorem tw_xforced (hM : tw_Mt fp fn fw aw th wy pn) (hK : fk ≠ 0 → tw_Lr th wy pn ff ai) (hS : tw_Sat th wy pn) {j : Nat} (hj : j < 8) (tj : th j ≠ 0) {post : Int32 → SX → Prop}
    (K : ∀ f k a, k ≠ 0 → tw_Lr th wy pn f a → post (tw_fa th wy pn j) (fp, fn, fw, k, f, aw, a)) : wpX_forced post (fp, fn, fw, fk, ff, aw, ai) (nI j) := by
  unfold wpX_forced
  dsimp only
  refine tw_xhas1 hM ⟨j, hj, rfl, tj⟩ (br_f tw_10 ?_)
  rw [tw_dbl j]
  refine tw_xlearn hM hK (fun f k a hk hL => ?_)
  have l1 : tw_Ps a ((1 : Int32) <<< (nI (2 * j) &&& 31)) ↔ ¬ tw_Im th wy pn j 0 j 1 256 := tw_lim hL.1 hS hj hj tj tj (by decide) (by decide) (fun d => by
    rw [tw_one (by omega)]
    omega)
  have l2 : tw_Ps a ((2 : Int32) <<< (nI (2 * j) &&& 31)) ↔ ¬ tw_Im th wy pn j 1 j 0 256 := tw_lim hL.1 hS hj hj tj tj (by decide) (by decide) (fun d => by
    rw [tw_two (by omega)]
    omega)
  have K' := K f k a hk hL
  refine tw_xpos (fun p => br_f tw_10 (tw_xpos (fun q => br_f tw_10 ?_) (fun q => br_t tw_00 ?_))) (fun p => br_t tw_00 ?_)
  · rw [tw_faN (l1.mp p) (l2.mp q)] at K'
    exact K'
  · rw [tw_fa0 (l1.mp p) (Classical.byContradiction (fun z => q (l2.mpr z)))] at K'
    exact K'
  · rw [tw_fa1 (Classical.byContradiction (fun z => p (l1.mpr z)))] at K'
    exact K'
theorem tw_xforced0 (hM : tw_Mt fp fn fw aw th wy pn) {p : Int32} (h : ¬ tw_isJ th p) {post : Int32 → SX → Prop}
    (K : post (-1) (fp, fn, fw, fk, ff, aw, ai)) : wpX_forced post (fp, fn, fw, fk, ff, aw, ai) p := by
  unfold wpX_forced
  exact tw_xhas0 hM h (br_t tw_00 K)
theorem tw_yforced (hS : tw_Sat th wy pn) {j : Nat} (hj : j < 8) (tj : th j ≠ 0) {post : Int32 → SY → Prop}
    (K : ∀ pk, post (tw_fa th wy pn j) (th, wy, pn, pk)) : wpY_forced post (th, wy, pn, pk) (nI j) := by
  unfold wpY_forced
  refine tw_yis1 ⟨j, hj, rfl, tj⟩ (br_f tw_10 ?_)
  refine tw_yimp (k := 1) (m := 0) hj hj tj tj (by decide) (by decide) (fun h pk1 => ?_) (fun h pk1 => ?_)
  · refine tw_yimp (k := 0) (m := 1) hj hj tj tj (by decide) (by decide) (fun h' pk2 => absurd h' (tw_nb hS h)) (fun h' pk2 => ?_)
    have K' := K pk2
    rw [tw_fa0 h' h] at K'
    exact br_f tw_10 K'
  · refine tw_yimp (k := 0) (m := 1) hj hj tj tj (by decide) (by decide) (fun h' pk2 => ?_) (fun h' pk2 => ?_)
    · have K' := K pk2
      rw [tw_fa1 h'] at K'
      exact br_t tw_00 (br_f tw_10 K')
    · have K' := K pk2
      rw [tw_faN h' h] at K'
      exact br_t tw_00 (br_t tw_00 K')
theorem tw_yforced0 {p : Int32} (h : ¬ tw_isJ th p) {post : Int32 → SY → Prop} (K : post (-1) (th, wy, pn, pk)) : wpY_forced post (th, wy, pn, pk) p := by
  unfold wpY_forced
  exact tw_yis0 h (br_t tw_00 K)
def tw_Qf (th wy pn : Nat → Int32) (j : Nat) : Prop := th j ≠ 0 ∧ tw_fa th wy pn j ≠ -1
theorem tw_xfj (hM : tw_Mt fp fn fw aw th wy pn) (hS : tw_Sat th wy pn) {post : Int32 → SX → Prop}
    (K : ∀ f k a, (k ≠ 0 → tw_Lr th wy pn f a) → post (tw_cnt (tw_Qf th wy pn) 8) (fp, fn, fw, k, f, aw, a)) :
    ∀ n j f k a, j ≤ 8 → 8 - j < n → (k ≠ 0 → tw_Lr th wy pn f a) → wX_forcedJobs_4 post n (tw_cnt (tw_Qf th wy pn) j) (nI j) fp fn fw k f aw a := by
  intro n
  induction n with
  | zero =>
    intro j f k a _ h
    omega
  | succ n ih =>
    intro j f k a hj hn hK
    by_cases hje : j = 8
    · subst hje
      exact br_t (tw_8 (by omega) (by omega)) (K f k a hK)
    · have hj' : j < 8 := by omega
      refine br_f (tw_n8 hj') ?_
      by_cases t : th j = 0
      · refine tw_xforced0 hM (tw_isJ_n hj' t) ?_
        refine br_t rfl ?_
        rw [← tw_cnt0 (Q := tw_Qf th wy pn) (j := j) (fun z => z.1 t)]
        refine nm_r (nI_1 j) ?_
        exact ih (j + 1) f k a (by omega) (by omega) hK
      · refine tw_xforced hM hK hS hj' t (fun f k a hk hL => ?_)
        by_cases q : tw_fa th wy pn j = -1
        · refine br_t q ?_
          rw [← tw_cnt0 (Q := tw_Qf th wy pn) (j := j) (fun z => z.2 q)]
          refine nm_r (nI_1 j) ?_
          exact ih (j + 1) f k a (by omega) (by omega) (fun _ => hL)
        · refine br_f q ?_
          refine nm_r (tw_cnt1 ⟨t, q⟩) (nm_r (nI_1 j) ?_)
          exact ih (j + 1) f k a (by omega) (by omega) (fun _ => hL)
theorem tw_yfj (hS : tw_Sat th wy pn) {post : Int32 → SY → Prop}
    (K : ∀ pk, post (tw_cnt (tw_Qf th wy pn) 8) (th, wy, pn, pk)) :
    ∀ n j pk, j ≤ 8 → 8 - j < n → wY_forcedJobs_4 post n (tw_cnt (tw_Qf th wy pn) j) (nI j) th wy pn pk := by
  intro n
  induction n with
  | zero =>
    intro j pk _ h
    omega
  | succ n ih =>
    intro j pk hj hn
    by_cases hje : j = 8
    · subst hje
      exact br_t (tw_8 (by omega) (by omega)) (K pk)
    · have hj' : j < 8 := by omega
      refine br_f (tw_n8 hj') ?_
      by_cases t : th j = 0
      · refine tw_yforced0 (tw_isJ_n hj' t) ?_
        refine br_t tw_m1 ?_
        rw [Int32.add_zero, ← tw_cnt0 (Q := tw_Qf th wy pn) (j := j) (fun z => z.1 t)]
        refine nm_e (nm_r (nI_1 j) ?_)
        exact ih (j + 1) pk (by omega) (by omega)
      · refine tw_yforced hS hj' t (fun pk' => ?_)
        by_cases q : tw_fa th wy pn j = -1
        · refine br_t (tw_fa_neg.mpr q) ?_
          rw [Int32.add_zero, ← tw_cnt0 (Q := tw_Qf th wy pn) (j := j) (fun z => z.2 q)]
          refine nm_e (nm_r (nI_1 j) ?_)
          exact ih (j + 1) pk' (by omega) (by omega)
        · refine br_f (fun z => q (tw_fa_neg.mp z)) ?_
          refine nm_r (tw_cnt1 ⟨t, q⟩) (nm_r (nI_1 j) ?_)
          exact ih (j + 1) pk' (by omega) (by omega)
def tw_Qp (th wy pn : Nat → Int32) (c0 j : Nat) : Prop := th j ≠ 0 ∧ tw_Pl th wy pn (tw_b (c0 ^^^ 2 ^ (7 - j)))
theorem tw_yfl {c0 : Nat} (hc : c0 < 256) {post : Int32 → SY → Prop} (K : ∀ pk, post (tw_cnt (tw_Qp th wy pn c0) 8) (th, wy, pn, pk)) :
    ∀ n j pk, j ≤ 8 → 8 - j < n → wY_flips_9 post (nI c0) n (tw_cnt (tw_Qp th wy pn c0) j) (nI j) th wy pn pk := by
  intro n
  induction n with
  | zero =>
    intro j pk _ h
    omega
  | succ n ih =>
    intro j pk hj hn
    by_cases hje : j = 8
    · subst hje
      exact br_t (tw_8 (by omega) (by omega)) (K pk)
    · have hj' : j < 8 := by omega
      refine br_f (tw_n8 hj') ?_
      rw [tw_bx_I hj']
      refine tw_yis hj' (fun t => ?_) (fun t => ?_)
      · refine br_f tw_10 ?_
        refine tw_yplan (tw_bx_lt hc) (fun p pk' _ => ?_) (fun p pk' => ?_)
        · refine br_f tw_10 ?_
          refine nm_r (tw_cnt1 ⟨t, p⟩) (nm_r (nI_1 j) ?_)
          exact ih (j + 1) pk' (by omega) (by omega)
        · refine br_t tw_00 ?_
          rw [Int32.add_zero, ← tw_cnt0 (Q := tw_Qp th wy pn c0) (j := j) (fun z => p z.2)]
          refine nm_e (nm_r (nI_1 j) ?_)
          exact ih (j + 1) pk' (by omega) (by omega)
      · refine br_t tw_00 ?_
        rw [Int32.add_zero, ← tw_cnt0 (Q := tw_Qp th wy pn c0) (j := j) (fun z => z.1 t)]
        refine nm_e (nm_r (nI_1 j) ?_)
        exact ih (j + 1) pk (by omega) (by omega)
theorem tw_yimpB {v1 v2 v3 v4 : Int32} (h : ¬ (tw_isJ th v1 ∧ tw_isJ th v3 ∧ (v2 = 0 ∨ v2 = 1) ∧ (v4 = 0 ∨ v4 = 1))) {post : Int32 → SY → Prop} (go : post 0 (th, wy, pn, pk)) : wpY_implies post (th, wy, pn, pk) v1 v2 v3 v4 := by
  unfold wpY_implies
  by_cases h1 : tw_isJ th v1
  · refine tw_yis1 h1 (br_f tw_10 ?_)
    by_cases h3 : tw_isJ th v3
    · refine tw_yis1 h3 (br_f tw_10 ?_)
      have g25 : (v2 = 0 ∨ v2 = 1) → wY_implies_25 post v1 v2 v3 v4 th wy pn pk := by
        intro h2
        exact br_f (fun z => h ⟨h1, h3, h2, Or.inl z⟩) (br_f (fun z => h ⟨h1, h3, h2, Or.inr z⟩) go)
      by_cases h0 : v2 = 0
      · exact br_t h0 (g25 (Or.inl h0))
      · by_cases h2 : v2 = 1
        · exact br_f h0 (br_t h2 (g25 (Or.inr h2)))
        · exact br_f h0 (br_f h2 go)
    · exact tw_yis0 h3 (br_t tw_00 go)
  · exact tw_yis0 h1 (br_t tw_00 go)
end
theorem i_vc_forced {k : Nat} {u : SX} {v : SY} (I : i_Rel k u v) (hk : k + 5 ≤ 2560) (v1 : Int32) : wpX_forced (fun r u' => wpY_forced (fun r' v' => r' = r ∧ i_Rel (k + 5) u' v') v v1) u v1 := by
  obtain ⟨fp, fn, fw, fk, ff, aw, ai⟩ := u
  obtain ⟨th, wy, pn, pk⟩ := v
  have I' : tw_R fp fn fw fk ff aw ai th wy pn := I
  obtain ⟨hM, hK, hS⟩ := I'
  by_cases hJ : tw_isJ th v1
  · obtain ⟨j, hj, rfl, ht⟩ := hJ
    refine tw_xforced hM hK hS hj ht (fun f k a hk hL => ?_)
    exact tw_yforced hS hj ht (fun pk' => ⟨rfl, tw_rel hM (fun _ => hL) hS⟩)
  · refine tw_xforced0 hM hJ ?_
    exact tw_yforced0 hJ ⟨rfl, tw_rel hM hK hS⟩
theorem i_vc_forcedJobs {k : Nat} {u : SX} {v : SY} (I : i_Rel k u v) (hk : k + 5 ≤ 2560) : wpX_forcedJobs (fun r u' => wpY_forcedJobs (fun r' v' => r' = r ∧ i_Rel (k + 5) u' v') v) u := by
  obtain ⟨fp, fn, fw, fk, ff, aw, ai⟩ := u
  obtain ⟨th, wy, pn, pk⟩ := v
  have I' : tw_R fp fn fw fk ff aw ai th wy pn := I
  obtain ⟨hM, hK, hS⟩ := I'
  refine Exists.intro 9 (tw_xfj hM hS (fun f k a hL => ?_) 9 0 ff fk ai (by omega) (by omega) hK)
  exact Exists.intro 9 (tw_yfj hS (fun pk' => ⟨rfl, tw_rel hM hL hS⟩) 9 0 pk (by omega) (by omega))
theorem i_vc_flips {k : Nat} {u : SX} {v : SY} (I : i_Rel k u v) (hk : k + 5 ≤ 2560) : wpX_flips (fun r u' => wpY_flips (fun r' v' => r' = r ∧ i_Rel (k + 5) u' v') v) u := by
  obtain ⟨fp, fn, fw, fk, ff, aw, ai⟩ := u
  obtain ⟨th, wy, pn, pk⟩ := v
  have I' : tw_R fp fn fw fk ff aw ai th wy pn := I
  obtain ⟨hM, hK, hS⟩ := I'
  obtain ⟨c0, hF⟩ := tw_IsF_ex hS
  unfold wpX_flips
  refine tw_xlearn hM hK (fun f k a hk hL => ?_)
  refine Exists.intro 9 (tw_xfl8 (Q := tw_Qp th wy pn c0) hM (fun j hj => ?_) ?_ 9 0 (by omega) (by omega))
  · constructor
    · intro z
      exact ⟨z.1, (tw_lfl hL.1 hF (hL.2 c0 hF) hj z.1).mpr z.2⟩
    · intro z
      exact ⟨z.1, (tw_lfl hL.1 hF (hL.2 c0 hF) hj z.1).mp z.2⟩
  · unfold wpY_flips
    refine tw_yfirst (fun c hc pk' => ?_) (fun z => absurd hS z)
    rw [← tw_IsF_un hF hc]
    exact Exists.intro 9 (tw_yfl hF.1 (fun pk2 => ⟨rfl, tw_rel hM (fun _ => hL) hS⟩) 9 0 pk' (by omega) (by omega))
theorem i_vc_planned {k : Nat} {u : SX} {v : SY} (I : i_Rel k u v) (hk : k + 5 ≤ 2560) (v1 : Int32) : wpX_planned (fun r u' => wpY_planned (fun r' v' => r' = r ∧ i_Rel (k + 5) u' v') v v1) u v1 := by
  obtain ⟨fp, fn, fw, fk, ff, aw, ai⟩ := u
  obtain ⟨th, wy, pn, pk⟩ := v
  have I' : tw_R fp fn fw fk ff aw ai th wy pn := I
  obtain ⟨hM, hK, hS⟩ := I'
  unfold wpX_planned
  dsimp only
  by_cases hJ : tw_isJ th v1
  · refine tw_xhas1 hM hJ (br_f tw_10 ?_)
    have hJ' := hJ
    obtain ⟨j, hj, rfl, ht⟩ := hJ
    rw [tw_dbl1 j]
    refine tw_xlearn hM hK (fun f k a hk hL => ?_)
    unfold wpY_planned
    refine tw_yfirst (fun c0 hF pk' => ?_) (fun z => absurd hS z)
    have h0 := hF.1
    refine tw_yis1 hJ' (br_f tw_10 (br_f (nI_pos (by omega)) ⟨?_, tw_rel hM (fun _ => hL) hS⟩))
    rw [tw_ybit (by omega) hj, tw_lpl (hL.2 c0 hF) hj ht]
  · refine tw_xhas0 hM hJ (br_t tw_00 ?_)
    unfold wpY_planned
    refine tw_yfirst (fun c0 hF pk' => ?_) (fun z => absurd hS z)
    exact tw_yis0 hJ (br_t tw_00 ⟨rfl, tw_rel hM hK hS⟩)
theorem i_vc_implies {k : Nat} {u : SX} {v : SY} (I : i_Rel k u v) (hk : k + 5 ≤ 2560) (v1 : Int32) (v2 : Int32) (v3 : Int32) (v4 : Int32) : wpX_implies (fun r u' => wpY_implies (fun r' v' => r' = r ∧ i_Rel (k + 5) u' v') v v1 v2 v3 v4) u v1 v2 v3 v4 := by
  obtain ⟨fp, fn, fw, fk, ff, aw, ai⟩ := u
  obtain ⟨th, wy, pn, pk⟩ := v
  have I' : tw_R fp fn fw fk ff aw ai th wy pn := I
  obtain ⟨hM, hK, hS⟩ := I'
  unfold wpX_implies
  dsimp only
  by_cases h1 : tw_isJ th v1
  · refine tw_xhas1 hM h1 (br_f tw_10 ?_)
    by_cases h3 : tw_isJ th v3
    · refine tw_xhas1 hM h3 (br_f tw_10 ?_)
      by_cases h2 : v2 = 0 ∨ v2 = 1
      · refine tw_xnum1 h2 (br_f tw_10 ?_)
        by_cases h4 : v4 = 0 ∨ v4 = 1
        · refine tw_xnum1 h4 (br_f tw_10 ?_)
          obtain ⟨j, hj, rfl, tj⟩ := h1
          obtain ⟨i, hi, rfl, ti⟩ := h3
          obtain ⟨x, hx, rfl⟩ := tw_num h2
          obtain ⟨m, hm, rfl⟩ := tw_num h4
          rw [tw_idx (j := j) (m := x), tw_dbl1 i, pk_sub (a := 2 * i + 1) (b := m) (by omega)]
          refine tw_xlearn hM hK (fun f k a hk hL => ?_)
          have l : tw_Ps a (((1 : Int32) <<< (nI (2 * j + x) &&& 31)) ||| ((1 : Int32) <<< (nI (2 * i + 1 - m) &&& 31))) ↔ ¬ tw_Im th wy pn j x i m 256 :=
            tw_lim hL.1 hS hj hi tj ti hx hm (fun d => by rw [tw_or, tw_one (by omega), tw_one (by omega)])
          refine tw_xpos (fun p => br_f tw_10 ?_) (fun p => br_t tw_00 ?_)
          · exact tw_yimp hj hi tj ti hx hm (fun z => absurd z (l.mp p)) (fun _ pk' => ⟨rfl, tw_rel hM (fun _ => hL) hS⟩)
          · exact tw_yimp hj hi tj ti hx hm (fun _ pk' => ⟨rfl, tw_rel hM (fun _ => hL) hS⟩) (fun z => absurd (l.mpr z) p)
        · refine tw_xnum0 h4 (br_t tw_00 ?_)
          exact tw_yimpB (fun z => h4 z.2.2.2) ⟨rfl, tw_rel hM hK hS⟩
      · refine tw_xnum0 h2 (br_t tw_00 ?_)
        exact tw_yimpB (fun z => h2 z.2.2.1) ⟨rfl, tw_rel hM hK hS⟩
    · refine tw_xhas0 hM h3 (br_t tw_00 ?_)
      exact tw_yimpB (fun z => h3 z.2.1) ⟨rfl, tw_rel hM hK hS⟩
  · refine tw_xhas0 hM h1 (br_t tw_00 ?_)
    exact tw_yimpB (fun z => h1 z.1) ⟨rfl, tw_rel hM hK hS⟩
theorem tw_19 {x : Int32} : x < 20 ↔ ¬ 19 < x := by
  have a : (20 : Int32).toInt = 20 := by decide
  have b : (19 : Int32).toInt = 19 := by decide
  rw [Int32.lt_iff_toInt_lt, Int32.lt_iff_toInt_lt, a, b]
  omega
theorem i_vc_alwaysTaken {k : Nat} {u : SX} {v : SY} (I : i_Rel k u v) (hk : k + 5 ≤ 2560) (v1 : Int32) (v2 : Int32) : wpX_alwaysTaken (fun r u' => wpY_alwaysTaken (fun r' v' => r' = r ∧ i_Rel (k + 5) u' v') v v1 v2) u v1 v2 := by
  obtain ⟨fp, fn, fw, fk, ff, aw, ai⟩ := u
  obtain ⟨th, wy, pn, pk⟩ := v
  have I' : tw_R fp fn fw fk ff aw ai th wy pn := I
  obtain ⟨hM, hK, hS⟩ := I'
  unfold wpX_alwaysTaken
  dsimp only
  by_cases h1 : v1 < 0
  · refine br_t h1 ?_
    exact br_t h1 ⟨rfl, tw_rel hM hK hS⟩
  · refine br_f h1 ?_
    by_cases h2 : 2 < v1
    · refine br_t h2 ?_
      exact br_f h1 (br_t h2 ⟨rfl, tw_rel hM hK hS⟩)
    · refine br_f h2 ?_
      by_cases h3 : v2 < 0
      · refine br_t h3 ?_
        exact br_f h1 (br_f h2 (br_t h3 ⟨rfl, tw_rel hM hK hS⟩))
      · refine br_f h3 ?_
        by_cases h4 : v2 < 20
        · refine br_t h4 ?_
          have h5 := tw_19.mp h4
          refine tw_xlearn hM hK (fun f k a hk hL => ?_)
          refine tw_xav hM (fun r hr => ?_)
          have l := tw_lav hL.1 hS hr
          refine tw_xpos (fun p => br_f tw_10 ?_) (fun p => br_t tw_00 ?_)
          · refine br_f h1 (br_f h2 (br_f h3 (br_f h5 ?_)))
            exact tw_yav (fun _ pk' => br_f tw_10 ⟨rfl, tw_rel hM (fun _ => hL) hS⟩) (fun z => absurd (l.mp p) z)
          · refine br_f h1 (br_f h2 (br_f h3 (br_f h5 ?_)))
            exact tw_yav (fun z => absurd (l.mpr z) p) (fun _ pk' => br_t tw_00 ⟨rfl, tw_rel hM (fun _ => hL) hS⟩)
        · refine br_f h4 ?_
          have h5 : 19 < v2 := Classical.byContradiction (fun z => h4 (tw_19.mpr z))
          exact br_f h1 (br_f h2 (br_f h3 (br_t h5 ⟨rfl, tw_rel hM hK hS⟩)))
theorem i_vc_couldKeepFree {k : Nat} {u : SX} {v : SY} (I : i_Rel k u v) (hk : k + 5 ≤ 2560) (v1 : Int32) : wpX_couldKeepFree (fun r u' => wpY_couldKeepFree (fun r' v' => r' = r ∧ i_Rel (k + 5) u' v') v v1) u v1 := by
  obtain ⟨fp, fn, fw, fk, ff, aw, ai⟩ := u
  obtain ⟨th, wy, pn, pk⟩ := v
  have I' : tw_R fp fn fw fk ff aw ai th wy pn := I
  obtain ⟨hM, hK, hS⟩ := I'
  unfold wpX_couldKeepFree
  dsimp only
  by_cases h1 : tw_IW v1
  · refine tw_xway1 h1 (br_f tw_10 ?_)
    refine tw_xlearn hM hK (fun f k a hk hL => ?_)
    refine tw_xav hM (fun r hr => ?_)
    have l := tw_lav hL.1 hS hr
    refine tw_xpos (fun p => ⟨narrow_b1, ?_⟩) (fun p => ⟨narrow_b0, ?_⟩)
    · unfold wpY_couldKeepFree
      refine tw_yway1 h1 (br_f tw_10 ?_)
      exact tw_yav (fun _ pk' => br_f tw_10 ⟨rfl, tw_rel hM (fun _ => hL) hS⟩) (fun z => absurd (l.mp p) z)
    · unfold wpY_couldKeepFree
      refine tw_yway1 h1 (br_f tw_10 ?_)
      exact tw_yav (fun z => absurd (l.mpr z) p) (fun _ pk' => br_t tw_00 ⟨rfl, tw_rel hM (fun _ => hL) hS⟩)
  · refine tw_xway0 h1 (br_t tw_00 ?_)
    unfold wpY_couldKeepFree
    exact tw_yway0 h1 (br_t tw_00 ⟨rfl, tw_rel hM hK hS⟩)
end
