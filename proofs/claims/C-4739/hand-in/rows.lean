section
/-! rows of kit/rows (a starting text): pk_ rows; bits by bt; nx_ rows -/
theorem pk_us {f : Nat → Int32} {k : Nat} {x : Int32} : upd f k x k = x := if_pos rfl
theorem pk_un {f : Nat → Int32} {k j : Nat} {x : Int32} (h : j ≠ k) : upd f k x j = f j := if_neg h
theorem pk_uLs {f : Nat → Int64} {k : Nat} {x : Int64} : vp_updL f k x k = x := if_pos rfl
theorem pk_uLn {f : Nat → Int64} {k j : Nat} {x : Int64} (h : j ≠ k) : vp_updL f k x j = f j := if_neg h
theorem pk_sub {a b : Nat} (h : b ≤ a) : nI a - nI b = nI (a - b) := by
  obtain ⟨c, rfl⟩ : ∃ c, a = c + b := ⟨a - b, by omega⟩
  rw [← nI_add, Int32.add_sub_cancel, Nat.add_sub_cancel]
theorem pk_m1 (n : Nat) : nI (n + 1) + (-1) = nI n := by
  rw [← nI_1, Int32.add_assoc, show (1 : Int32) + (-1) = 0 from rfl, Int32.add_zero]
theorem pk_mul (a b : Nat) : nI a * nI b = nI (a * b) := (Int32.ofNat_mul a b).symm
theorem pk_div {a d : Nat} (ha : a < 2 ^ 31) (h0 : 0 < d) (hd : d < 2 ^ 31) : nI a / nI d = nI (a / d) := by
  apply Int32.toInt_inj.mp
  rw [lg_idiv_nonneg (by rw [nI_toInt ha]; omega) (by rw [nI_toInt hd]; omega), nI_toInt ha, nI_toInt hd, nI_toInt (Nat.lt_of_le_of_lt (Nat.div_le_self a d) ha)]
  first | rfl | exact (Int.natCast_ediv _ _).symm
theorem pk_rem {a d : Nat} (ha : a < 2 ^ 31) (h0 : 0 < d) (hd : d < 2 ^ 31) : nI a - nI a / nI d * nI d = nI (a % d) := by
  rw [pk_div ha h0 hd, pk_mul, pk_sub (Nat.div_mul_le_self a d)]
  exact congrArg nI (by have := Nat.div_add_mod' a d; omega)
theorem pk_sub_toInt {a b : Nat} (ha : a < 2 ^ 30) (hb : b < 2 ^ 30) : (nI a - nI b).toInt = (a : Int) - b := by
  rw [Int32.toInt_sub, nI_toInt (by omega), nI_toInt (by omega)]
  exact Int.bmod_eq_of_le (by omega) (by omega)
theorem pk_sneg {a b : Nat} (hb : b < 2 ^ 30) (h : a < b) : nI a - nI b < 0 := by
  rw [Int32.lt_iff_toInt_lt, pk_sub_toInt (by omega) hb, show (0 : Int32).toInt = 0 from by decide]
  omega
theorem pk_ix (x : Int32) {n : Nat} (hn : n < 2 ^ 31) : x < 0 ∨ nI n ≤ x ∨ ∃ j : Nat, j < n ∧ x = nI j := by
  by_cases h : x < 0
  · exact Or.inl h
  · obtain ⟨j, hj, rfl⟩ := nI_of h
    by_cases h2 : j < n
    · exact Or.inr (Or.inr ⟨j, h2, rfl⟩)
    · exact Or.inr (Or.inl (nI_le (by omega) hj))
theorem pk_le {x y : Int32} {A B : Prop} (a b : Nat) (f : a ≤ b → A) (g : b < a → B) (hx : x = nI a := by rfl) (hy : y = nI b := by rfl) (ha : a < 2 ^ 31 := by omega) (hb : b < 2 ^ 31 := by omega) : (x ≤ y → A) ∧ (¬ x ≤ y → B) := by
  subst hx hy
  rw [nI_leI ha hb]
  exact ⟨f, fun z => g (by omega)⟩
theorem pk_lt {x y : Int32} {A B : Prop} (a b : Nat) (f : a < b → A) (g : b ≤ a → B) (hx : x = nI a := by rfl) (hy : y = nI b := by rfl) (ha : a < 2 ^ 31 := by omega) (hb : b < 2 ^ 31 := by omega) : (x < y → A) ∧ (¬ x < y → B) := by
  subst hx hy
  rw [nI_ltI ha hb]
  exact ⟨f, fun z => g (by omega)⟩
theorem pk_eq {x y : Int32} {A B : Prop} (a b : Nat) (f : a = b → A) (g : a ≠ b → B) (hx : x = nI a := by rfl) (hy : y = nI b := by rfl) (ha : a < 2 ^ 31 := by omega) (hb : b < 2 ^ 31 := by omega) : (x = y → A) ∧ (¬ x = y → B) := by
  subst hx hy
  rw [nI_eq ha hb]
  exact ⟨f, g⟩
theorem pk_in {x : Int32} (n N : Nat) (h : n < N) (hx : x = nI n := by rfl) (hN : N < 2 ^ 31 := by omega) : vp_in x N := by
  subst hx
  exact vp_in_nI h hN
theorem pk_cl {x : Int32} (n : Nat) (hx : x = nI n := by rfl) (h : n < 2 ^ 31 := by omega) : x.toNatClampNeg = n := by
  subst hx
  exact nI_clamp h
theorem pk_tn {n : Nat} (h : n < 2 ^ 32) : (nI n).toBitVec.toNat = n := Nat.mod_eq_of_lt h
theorem pk_and (x : Int32) {m : Int32} (k : Nat) (hm : m.toBitVec.toNat = 2 ^ k - 1) : x &&& m = nI (x.toBitVec.toNat % 2 ^ k) := by
  apply Int32.toBitVec_inj.mp
  apply BitVec.eq_of_toNat_eq
  rw [Int32.toBitVec_and, BitVec.toNat_and, hm, Nat.and_two_pow_sub_one_eq_mod]
  show _ = (BitVec.ofNat 32 _).toNat
  rw [BitVec.toNat_ofNat]
  exact (Nat.mod_eq_of_lt (Nat.lt_of_le_of_lt (Nat.mod_le _ _) x.toBitVec.isLt)).symm
theorem pk_andN {n : Nat} (h : n < 2 ^ 32) {m : Int32} (k : Nat) (hm : m.toBitVec.toNat = 2 ^ k - 1) : nI n &&& m = nI (n % 2 ^ k) := by
  rw [pk_and _ k hm, pk_tn h]
theorem pk_andE (x : Int32) {m : Int32} (k : Nat) (hm : m.toBitVec.toNat = 2 ^ k - 1) : ∃ j : Nat, j < 2 ^ k ∧ x &&& m = nI j := ⟨_, Nat.mod_lt _ (Nat.two_pow_pos k), pk_and x k hm⟩
theorem pk_andIn (x : Int32) {m : Int32} (k : Nat) (hm : m.toBitVec.toNat = 2 ^ k - 1) (hk : k ≤ 30) : vp_in (x &&& m) (2 ^ k) := by
  obtain ⟨j, hj, e⟩ := pk_andE x k hm
  rw [e]
  exact vp_in_nI hj (Nat.lt_of_le_of_lt (Nat.pow_le_pow_right (by decide) hk) (by decide))
theorem pk_shl (a s : Int32) (k : Nat) (hs : (s.toBitVec.smod 32).toNat = k) : (a <<< s).toBitVec.toNat = a.toBitVec.toNat * 2 ^ k % 2 ^ 32 := by
  show (a.toBitVec <<< (s.toBitVec.smod 32).toNat).toNat = _
  rw [hs, BitVec.toNat_shiftLeft, Nat.shiftLeft_eq]
theorem pk_shlN {n : Nat} (s : Int32) (k : Nat) (hs : (s.toBitVec.smod 32).toNat = k) (h : n * 2 ^ k < 2 ^ 32) : nI n <<< s = nI (n * 2 ^ k) := by
  apply Int32.toBitVec_inj.mp
  apply BitVec.eq_of_toNat_eq
  have hn : n < 2 ^ 32 := Nat.lt_of_le_of_lt (Nat.le_mul_of_pos_right n (Nat.two_pow_pos k)) h
  rw [pk_shl _ _ k hs, pk_tn hn, pk_tn h, Nat.mod_eq_of_lt h]
theorem pk_shr (a s : Int32) (k : Nat) (hs : (s.toBitVec.smod 32).toNat = k) : (a >>> s).toInt = a.toInt >>> k := by
  show (a.toBitVec.sshiftRight (s.toBitVec.smod 32).toNat).toInt = _
  rw [hs, BitVec.toInt_sshiftRight]
  rfl
theorem pk_shrN {n : Nat} (h : n < 2 ^ 31) (s : Int32) (k : Nat) (hs : (s.toBitVec.smod 32).toNat = k) : nI n >>> s = nI (n / 2 ^ k) := by
  apply Int32.toInt_inj.mp
  have h2 : n / 2 ^ k ≤ n := Nat.div_le_self _ _
  rw [pk_shr _ _ k hs, nI_toInt h, nI_toInt (by omega), Int.shiftRight_eq_div_pow]
  rfl
theorem pk_ushr (x s : Int32) (k : Nat) (hs : ((s.toUInt32 &&& Int32.toUInt32 31).toBitVec % 32).toNat = k) : (x.toUInt32 >>> (s.toUInt32 &&& Int32.toUInt32 31)).toInt32.toBitVec.toNat = x.toBitVec.toNat / 2 ^ k := by
  have e : (x.toUInt32 >>> (s.toUInt32 &&& Int32.toUInt32 31)).toInt32.toBitVec = x.toBitVec >>> k := by
    rw [← hs]
    exact UInt32.toBitVec_shiftRight _ _
  rw [e, BitVec.toNat_ushiftRight, Nat.shiftRight_eq_div_pow]
theorem pk_ushrN {n : Nat} (hn : n < 2 ^ 32) (s : Int32) (k : Nat) (hs : ((s.toUInt32 &&& Int32.toUInt32 31).toBitVec % 32).toNat = k) : ((nI n).toUInt32 >>> (s.toUInt32 &&& Int32.toUInt32 31)).toInt32 = nI (n / 2 ^ k) := by
  apply Int32.toBitVec_inj.mp
  apply BitVec.eq_of_toNat_eq
  rw [pk_ushr _ s k hs, pk_tn hn, pk_tn (Nat.lt_of_le_of_lt (Nat.div_le_self _ _) hn)]
theorem pk_nb (z : Int32) : narrow .byte (.int z.toInt8.toInt32) = .int z.toInt8.toInt32 := congrArg Value.int (by simp)
theorem pk_ns (z : Int32) : narrow .short (.int z.toInt16.toInt32) = .int z.toInt16.toInt32 := congrArg Value.int (by simp)
theorem pk_fb (r : Int32) : fits .byte (.int r.toInt8.toInt32) = true := by
  have ⟨a, b⟩ := lg_i2b_range r
  have h1 : (-128 : Int32).toInt = -128 := by decide
  have h2 : (127 : Int32).toInt = 127 := by decide
  simp only [fits, Bool.and_eq_true, decide_eq_true_eq, Int32.le_iff_toInt_le, h1, h2]
  omega
theorem pk_fs (r : Int32) : fits .short (.int r.toInt16.toInt32) = true := by
  have ⟨a, b⟩ := lg_i2s_range r
  have h1 : (-32768 : Int32).toInt = -32768 := by decide
  have h2 : (32767 : Int32).toInt = 32767 := by decide
  simp only [fits, Bool.and_eq_true, decide_eq_true_eq, Int32.le_iff_toInt_le, h1, h2]
  omega
theorem pk_charN {q : Nat} (hq : q < 65536) : narrow .char (.int (nI q)) = .int (nI q) ∧ fits .char (.int (nI q)) = true := by
  constructor
  · have e : (nI q).toUInt32.toUInt16.toUInt32.toInt32 = nI q := by
      apply Int32.toBitVec_inj.mp
      apply BitVec.eq_of_toNat_eq
      show (nI q).toUInt32.toUInt16.toUInt32.toNat = q % 2 ^ 32
      rw [UInt16.toNat_toUInt32, UInt32.toNat_toUInt16, show (nI q).toUInt32.toNat = q % 2 ^ 32 from rfl]
      omega
    exact congrArg Value.int e
  · have a : (0 : Int32) ≤ nI q := nI_pos' (by omega)
    have b : nI q ≤ 65535 := nI_le (b := 65535) (by omega) (by decide)
    show (decide ((0 : Int32) ≤ nI q) && decide (nI q ≤ 65535)) = true
    rw [decide_eq_true a, decide_eq_true b]
    rfl
theorem pk_char (x : Int32) : (x.toUInt32 % 65536).toInt32 = nI (x.toBitVec.toNat % 65536) := by
  apply Int32.toBitVec_inj.mp
  apply BitVec.eq_of_toNat_eq
  rw [pk_tn (by omega)]
  show (x.toUInt32 % 65536).toNat = _
  rw [UInt32.toNat_mod]
  rfl
theorem pk_nc (x : Int32) : narrow .char (.int (x.toUInt32 % 65536).toInt32) = .int (x.toUInt32 % 65536).toInt32 := by
  rw [pk_char]
  exact (pk_charN (Nat.mod_lt _ (by decide))).1
theorem pk_fc (x : Int32) : fits .char (.int (x.toUInt32 % 65536).toInt32) = true := by
  rw [pk_char]
  exact (pk_charN (Nat.mod_lt _ (by decide))).2
theorem pk_vb (z : Int32) : vp_nar .byte z.toInt8.toInt32 = z.toInt8.toInt32 := by rw [vp_nar_byte]; simp
theorem pk_vs (z : Int32) : vp_nar .short z.toInt16.toInt32 = z.toInt16.toInt32 := by rw [vp_nar_short]; simp
theorem pk_vc (z : Int32) : vp_nar .char (z.toUInt32 % 65536).toInt32 = (z.toUInt32 % 65536).toInt32 := Value.int.inj (pk_nc z)
/-! ===== Int32 by its bits: bt x i ===== -/
def bt (x : Int32) (i : Nat) : Bool := x.toBitVec.getLsbD i
theorem b_ext {x y : Int32} (h : ∀ i, i < 32 → bt x i = bt y i) : x = y := Int32.toBitVec_inj.mp (BitVec.eq_of_getLsbD_eq (fun i hi => h i hi))
theorem b_or (x y : Int32) (i : Nat) : bt (x ||| y) i = (bt x i || bt y i) := by unfold bt; rw [Int32.toBitVec_or, BitVec.getLsbD_or]
theorem b_and (x y : Int32) (i : Nat) : bt (x &&& y) i = (bt x i && bt y i) := by unfold bt; rw [Int32.toBitVec_and, BitVec.getLsbD_and]
theorem b_xor (x y : Int32) (i : Nat) : bt (x ^^^ y) i = (bt x i ^^ bt y i) := by unfold bt; rw [Int32.toBitVec_xor, BitVec.getLsbD_xor]
theorem b_big {x : Int32} {i : Nat} (h : 32 ≤ i) : bt x i = false := BitVec.getLsbD_of_ge _ _ h
theorem b_255 (i : Nat) : bt 255 i = decide (i < 8) := by
  rcases Nat.lt_or_ge i 32 with h | h
  · exact (by decide +kernel : ∀ i, i < 32 → bt 255 i = decide (i < 8)) i h
  · rw [b_big h, decide_eq_false (by omega)]
theorem b_65535 (i : Nat) : bt 65535 i = decide (i < 16) := by
  rcases Nat.lt_or_ge i 32 with h | h
  · exact (by decide +kernel : ∀ i, i < 32 → bt 65535 i = decide (i < 16)) i h
  · rw [b_big h, decide_eq_false (by omega)]
theorem b_m1 : ∀ i, i < 32 → bt (-1) i = true := by decide +kernel
theorem b_0 (i : Nat) : bt 0 i = false := BitVec.getLsbD_zero
theorem s_l : ∀ n, n < 32 → ((nI n &&& 31).toBitVec.smod 32).toNat = n := by decide +kernel
theorem s_u : ∀ n, n < 32 → (((nI n).toUInt32 &&& Int32.toUInt32 31).toBitVec % 32).toNat = n := by decide +kernel
theorem b_shl (n : Nat) (hn : n < 32) (x : Int32) {i : Nat} (hi : i < 32) : bt (x <<< (nI n &&& 31)) i = (decide (n ≤ i) && bt x (i - n)) := by
  unfold bt
  rw [Int32.toBitVec_shiftLeft]
  show (x.toBitVec <<< ((nI n &&& 31).toBitVec.smod 32).toNat).getLsbD i = _
  rw [s_l n hn, BitVec.getLsbD_shiftLeft]
  rcases Nat.lt_or_ge i n with h | h
  · simp [h, Nat.not_le.mpr h]
  · simp [hi, h, Nat.not_lt.mpr h]
theorem b_ushr (n : Nat) (hn : n < 32) (x : Int32) (i : Nat) : bt ((x.toUInt32 >>> ((nI n).toUInt32 &&& Int32.toUInt32 31)).toInt32) i = bt x (n + i) := by
  show (x.toUInt32 >>> ((nI n).toUInt32 &&& Int32.toUInt32 31)).toBitVec.getLsbD i = x.toUInt32.toBitVec.getLsbD (n + i)
  rw [UInt32.toBitVec_shiftRight]
  show (x.toUInt32.toBitVec >>> (((nI n).toUInt32 &&& Int32.toUInt32 31).toBitVec % 32).toNat).getLsbD i = _
  rw [s_u n hn, BitVec.getLsbD_ushiftRight]
theorem b_sshr (n : Nat) (hn : n < 32) (x : Int32) {i : Nat} (hi : i < 32) : bt (x >>> (nI n &&& 31)) i = if n + i < 32 then bt x (n + i) else bt x 31 := by
  unfold bt
  rw [Int32.toBitVec_shiftRight]
  show (x.toBitVec.sshiftRight ((nI n &&& 31).toBitVec.smod 32).toNat).getLsbD i = _
  rw [s_l n hn, BitVec.getLsbD_sshiftRight, BitVec.msb_eq_getLsbD_last]
  simp [hi]
theorem b_shl8 (x : Int32) {i : Nat} (hi : i < 32) : bt (x <<< ((8 : Int32) &&& 31)) i = (decide (8 ≤ i) && bt x (i - 8)) := b_shl 8 (by omega) x hi
theorem b_shl16 (x : Int32) {i : Nat} (hi : i < 32) : bt (x <<< ((16 : Int32) &&& 31)) i = (decide (16 ≤ i) && bt x (i - 16)) := b_shl 16 (by omega) x hi
theorem b_shl24 (x : Int32) {i : Nat} (hi : i < 32) : bt (x <<< ((24 : Int32) &&& 31)) i = (decide (24 ≤ i) && bt x (i - 24)) := b_shl 24 (by omega) x hi
theorem b_sshr8 (x : Int32) {i : Nat} (hi : i < 32) : bt (x >>> ((8 : Int32) &&& 31)) i = if 8 + i < 32 then bt x (8 + i) else bt x 31 := b_sshr 8 (by omega) x hi
/-! ===== nI under and, xor, >>>, one bit, 65535 ===== -/
theorem nx_and (a b : Nat) : nI a &&& nI b = nI (a &&& b) := by
  apply Int32.toBitVec_inj.1
  show BitVec.ofNat 32 a &&& BitVec.ofNat 32 b = BitVec.ofNat 32 (a &&& b)
  apply BitVec.eq_of_getLsbD_eq
  intro i hi
  simp [hi]
theorem nx_xor (a b : Nat) : nI a ^^^ nI b = nI (a ^^^ b) := by
  apply Int32.toBitVec_inj.1
  show BitVec.ofNat 32 a ^^^ BitVec.ofNat 32 b = BitVec.ofNat 32 (a ^^^ b)
  apply BitVec.eq_of_getLsbD_eq
  intro i hi
  simp [hi]
theorem nx_cnt : ∀ j : Fin 32, (UInt32.ofNat j.val &&& Int32.toUInt32 31).toNat % 32 = j.val := by decide +kernel
theorem nx_ush {k j : Nat} (hk : k < 65536) (hj : j < 32) : ((nI k).toUInt32 >>> ((nI j).toUInt32 &&& Int32.toUInt32 31)).toInt32 = nI (k >>> j) := by
  have hs : k >>> j ≤ k := by
    rw [Nat.shiftRight_eq_div_pow]
    exact Nat.div_le_self _ _
  have e2 : UInt32.ofNat k >>> (UInt32.ofNat j &&& Int32.toUInt32 31) = UInt32.ofNat (k >>> j) := by
    apply UInt32.toNat_inj.1
    have h1 : (UInt32.ofNat k).toNat = k := Nat.mod_eq_of_lt (by omega)
    have h2 : (UInt32.ofNat (k >>> j)).toNat = k >>> j := Nat.mod_eq_of_lt (by omega)
    rw [UInt32.toNat_shiftRight, nx_cnt ⟨j, hj⟩, h1, h2]
  show (UInt32.ofNat k >>> (UInt32.ofNat j &&& Int32.toUInt32 31)).toInt32 = _
  rw [e2]
  rfl
theorem nx_bit {k j : Nat} (hk : k < 65536) (hj : j < 16) : (((nI k).toUInt32 >>> ((nI j).toUInt32 &&& Int32.toUInt32 31)).toInt32 &&& 1) = 0 ↔ k.testBit j = false := by
  rw [nx_ush hk (by omega)]
  show nI (k >>> j) &&& nI 1 = 0 ↔ _
  rw [nx_and, Nat.and_one_is_mod, ← nI_0, nI_eq (by omega) (by omega), Nat.testBit_eq_decide_div_mod_eq, Nat.shiftRight_eq_div_pow, decide_eq_false_iff_not]
  generalize k / 2 ^ j = z
  omega
theorem nx_mod (k : Nat) : nI k &&& 65535 = nI (k % 65536) := by
  show nI k &&& nI 65535 = _
  rw [nx_and, show (65535 : Nat) = 2 ^ 16 - 1 from rfl, Nat.and_two_pow_sub_one_eq_mod]
theorem nx_m16 {k : Nat} (h : k < 65536) : nI k &&& 65535 = nI k := by rw [nx_mod, Nat.mod_eq_of_lt h]
theorem nx_mask (x : Int32) : ∃ k, k < 65536 ∧ x &&& 65535 = nI k := by
  have e : x = nI x.toBitVec.toNat := by
    apply Int32.toBitVec_inj.1
    show x.toBitVec = BitVec.ofNat 32 x.toBitVec.toNat
    simp
  refine ⟨x.toBitVec.toNat % 65536, Nat.mod_lt _ (by omega), ?_⟩
  rw [← nx_mod, ← e]
theorem lp1 {A1 : Type} (W : Nat → A1 → Prop) (I : A1 → Prop) (μ : A1 → Nat) (hs : ∀ (n : Nat) (a1 : A1), I a1 → (∀ (b1 : A1), I b1 → μ b1 < μ a1 → W n b1) → W (n + 1) a1) (a1 : A1) (h : I a1) : ∃ n, W n a1 :=
  loop_m (σ := A1) (fun n s => W n s) (fun s => I s) (fun s => μ s) (fun n s hI hk => hs n s hI (fun b1 h9 hm => hk b1 h9 hm)) a1 h
theorem lp2 {A1 A2 : Type} (W : Nat → A1 → A2 → Prop) (I : A1 → A2 → Prop) (μ : A1 → A2 → Nat) (hs : ∀ (n : Nat) (a1 : A1) (a2 : A2), I a1 a2 → (∀ (b1 : A1) (b2 : A2), I b1 b2 → μ b1 b2 < μ a1 a2 → W n b1 b2) → W (n + 1) a1 a2) (a1 : A1) (a2 : A2) (h : I a1 a2) : ∃ n, W n a1 a2 :=
  loop_m (σ := A1 × A2) (fun n s => W n s.1 s.2) (fun s => I s.1 s.2) (fun s => μ s.1 s.2) (fun n s hI hk => hs n s.1 s.2 hI (fun b1 b2 h9 hm => hk (b1, b2) h9 hm)) (a1, a2) h
theorem lp3 {A1 A2 A3 : Type} (W : Nat → A1 → A2 → A3 → Prop) (I : A1 → A2 → A3 → Prop) (μ : A1 → A2 → A3 → Nat) (hs : ∀ (n : Nat) (a1 : A1) (a2 : A2) (a3 : A3), I a1 a2 a3 → (∀ (b1 : A1) (b2 : A2) (b3 : A3), I b1 b2 b3 → μ b1 b2 b3 < μ a1 a2 a3 → W n b1 b2 b3) → W (n + 1) a1 a2 a3) (a1 : A1) (a2 : A2) (a3 : A3) (h : I a1 a2 a3) : ∃ n, W n a1 a2 a3 :=
  loop_m (σ := A1 × A2 × A3) (fun n s => W n s.1 s.2.1 s.2.2) (fun s => I s.1 s.2.1 s.2.2) (fun s => μ s.1 s.2.1 s.2.2) (fun n s hI hk => hs n s.1 s.2.1 s.2.2 hI (fun b1 b2 b3 h9 hm => hk (b1, b2, b3) h9 hm)) (a1, a2, a3) h
theorem lp4 {A1 A2 A3 A4 : Type} (W : Nat → A1 → A2 → A3 → A4 → Prop) (I : A1 → A2 → A3 → A4 → Prop) (μ : A1 → A2 → A3 → A4 → Nat) (hs : ∀ (n : Nat) (a1 : A1) (a2 : A2) (a3 : A3) (a4 : A4), I a1 a2 a3 a4 → (∀ (b1 : A1) (b2 : A2) (b3 : A3) (b4 : A4), I b1 b2 b3 b4 → μ b1 b2 b3 b4 < μ a1 a2 a3 a4 → W n b1 b2 b3 b4) → W (n + 1) a1 a2 a3 a4) (a1 : A1) (a2 : A2) (a3 : A3) (a4 : A4) (h : I a1 a2 a3 a4) : ∃ n, W n a1 a2 a3 a4 :=
  loop_m (σ := A1 × A2 × A3 × A4) (fun n s => W n s.1 s.2.1 s.2.2.1 s.2.2.2) (fun s => I s.1 s.2.1 s.2.2.1 s.2.2.2) (fun s => μ s.1 s.2.1 s.2.2.1 s.2.2.2) (fun n s hI hk => hs n s.1 s.2.1 s.2.2.1 s.2.2.2 hI (fun b1 b2 b3 b4 h9 hm => hk (b1, b2, b3, b4) h9 hm)) (a1, a2, a3, a4) h
theorem lp5 {A1 A2 A3 A4 A5 : Type} (W : Nat → A1 → A2 → A3 → A4 → A5 → Prop) (I : A1 → A2 → A3 → A4 → A5 → Prop) (μ : A1 → A2 → A3 → A4 → A5 → Nat) (hs : ∀ (n : Nat) (a1 : A1) (a2 : A2) (a3 : A3) (a4 : A4) (a5 : A5), I a1 a2 a3 a4 a5 → (∀ (b1 : A1) (b2 : A2) (b3 : A3) (b4 : A4) (b5 : A5), I b1 b2 b3 b4 b5 → μ b1 b2 b3 b4 b5 < μ a1 a2 a3 a4 a5 → W n b1 b2 b3 b4 b5) → W (n + 1) a1 a2 a3 a4 a5) (a1 : A1) (a2 : A2) (a3 : A3) (a4 : A4) (a5 : A5) (h : I a1 a2 a3 a4 a5) : ∃ n, W n a1 a2 a3 a4 a5 :=
  loop_m (σ := A1 × A2 × A3 × A4 × A5) (fun n s => W n s.1 s.2.1 s.2.2.1 s.2.2.2.1 s.2.2.2.2) (fun s => I s.1 s.2.1 s.2.2.1 s.2.2.2.1 s.2.2.2.2) (fun s => μ s.1 s.2.1 s.2.2.1 s.2.2.2.1 s.2.2.2.2) (fun n s hI hk => hs n s.1 s.2.1 s.2.2.1 s.2.2.2.1 s.2.2.2.2 hI (fun b1 b2 b3 b4 b5 h9 hm => hk (b1, b2, b3, b4, b5) h9 hm)) (a1, a2, a3, a4, a5) h
theorem pk_loop {σ : Type} (W : Nat → Nat → σ → Prop) (I : Nat → σ → Prop) (e i0 : Nat) (s : σ) (hi : i0 ≤ e) (h0 : I i0 s) (hx : ∀ n s, I e s → W (n + 1) e s)
    (hs : ∀ n i s, i < e → I i s → (∀ s', I (i + 1) s' → W n (i + 1) s') → W (n + 1) i s) : ∃ n, W n i0 s :=
  ⟨e + 1, loop_i W I e hx hs (e + 1) i0 s hi (by omega) h0⟩
theorem pk_loopD {σ : Type} (W : Nat → Nat → σ → Prop) (I : Nat → σ → Prop) (hx : ∀ n s, I 0 s → W (n + 1) 0 s)
    (hs : ∀ n i s, I (i + 1) s → (∀ s', I i s' → W n i s') → W (n + 1) (i + 1) s) : ∀ (e : Nat) (s : σ), I e s → W (e + 1) e s := by
  intro e
  induction e with
  | zero => exact fun s h => hx 0 s h
  | succ e ih => exact fun s h => hs (e + 1) e s h (fun s' h' => ih s' h')
theorem pk_least (P : Nat → Prop) (h : ∃ k, P k) : ∃ k, P k ∧ ∀ j, j < k → ¬ P j := by
  obtain ⟨k, hk⟩ := h
  induction k using Nat.strongRecOn with
  | ind k ih =>
    by_cases e : ∃ j, j < k ∧ P j
    · obtain ⟨j, hj, pj⟩ := e
      exact ih j hj pj
    · exact ⟨k, hk, fun j hj pj => e ⟨j, hj, pj⟩⟩
end
section
/-! counts of places: zc p i is how many j below i have p j -/
def zc (p : Nat → Bool) : Nat → Nat
  | 0 => 0
  | k + 1 => zc p k + (if p k = true then 1 else 0)
theorem zc_t {p : Nat → Bool} {k : Nat} (h : p k = true) : zc p (k + 1) = zc p k + 1 := by simp only [zc, h, if_true]
theorem zc_f {p : Nat → Bool} {k : Nat} (h : p k = false) : zc p (k + 1) = zc p k := by
  simp only [zc, h]; simp
theorem zc_nt {p : Nat → Bool} {k : Nat} (h : ¬ p k = true) : zc p (k + 1) = zc p k := zc_f (by simpa using h)
theorem zc_le (p : Nat → Bool) : ∀ i, zc p i ≤ i
  | 0 => Nat.le_refl _
  | i + 1 => by
    have := zc_le p i
    cases h : p i
    · rw [zc_f h]; omega
    · rw [zc_t h]; omega
theorem zc_mono (p : Nat → Bool) {i j : Nat} (h : i ≤ j) : zc p i ≤ zc p j := by
  induction j with
  | zero => have : i = 0 := by omega
            subst this; exact Nat.le_refl _
  | succ j ih =>
    rcases Nat.lt_or_ge j i with z | z
    · have : i = j + 1 := by omega
      subst this; exact Nat.le_refl _
    · have := ih z
      cases h : p j
      · rw [zc_f h]; omega
      · rw [zc_t h]; omega
theorem zc_diff (p : Nat → Bool) {i j : Nat} (h : i ≤ j) : zc p j + i ≤ zc p i + j := by
  induction j with
  | zero => have : i = 0 := by omega
            subst this; exact Nat.le_refl _
  | succ j ih =>
    rcases Nat.lt_or_ge j i with z | z
    · have : i = j + 1 := by omega
      subst this; exact Nat.le_refl _
    · have := ih z
      cases h : p j
      · rw [zc_f h]; omega
      · rw [zc_t h]; omega
theorem zc_congr {p q : Nat → Bool} : ∀ {i : Nat}, (∀ k, k < i → p k = q k) → zc p i = zc q i
  | 0, _ => rfl
  | i + 1, h => by
    have a := zc_congr (p := p) (q := q) (i := i) (fun k hk => h k (by omega))
    have b := h i (by omega)
    simp only [zc, a, b]
theorem zc_add (p : Nat → Bool) (a : Nat) : ∀ b, zc p (a + b) = zc p a + zc (fun k => p (a + k)) b
  | 0 => rfl
  | b + 1 => by
    have := zc_add p a b
    show zc p (a + b + 1) = _
    cases h : p (a + b)
    · rw [zc_f h, zc_f (p := fun k => p (a + k)) h, this]
    · rw [zc_t h, zc_t (p := fun k => p (a + k)) h, this]; omega
theorem zc_split (p d : Nat → Bool) : ∀ i, zc p i = zc (fun j => p j && d j) i + zc (fun j => p j && !d j) i
  | 0 => rfl
  | i + 1 => by
    have := zc_split p d i
    cases hp : p i
    · rw [zc_f hp, zc_f (p := fun j => p j && d j) (by simp [hp]), zc_f (p := fun j => p j && !d j) (by simp [hp])]; exact this
    · cases hd : d i
      · rw [zc_t hp, zc_f (p := fun j => p j && d j) (by simp [hd]), zc_t (p := fun j => p j && !d j) (by simp [hp, hd]), this]; omega
      · rw [zc_t hp, zc_t (p := fun j => p j && d j) (by simp [hp, hd]), zc_f (p := fun j => p j && !d j) (by simp [hd]), this]; omega
theorem zc_all {p : Nat → Bool} {i : Nat} (h : ∀ k, k < i → p k = true) : zc p i = i := by
  induction i with
  | zero => rfl
  | succ i ih => rw [zc_t (h i (by omega)), ih (fun k hk => h k (by omega))]
theorem zc_none {p : Nat → Bool} {i : Nat} (h : ∀ k, k < i → p k = false) : zc p i = 0 := by
  induction i with
  | zero => rfl
  | succ i ih => rw [zc_f (h i (by omega)), ih (fun k hk => h k (by omega))]
theorem zc_flat {p : Nat → Bool} {a b : Nat} (hab : a ≤ b) (h : ∀ k, a ≤ k → k < b → p k = false) : zc p b = zc p a := by
  obtain ⟨d, rfl⟩ : ∃ d, b = a + d := ⟨b - a, by omega⟩
  rw [zc_add, zc_none (fun k hk => h (a + k) (by omega) (by omega))]; rfl
theorem zc_full {p : Nat → Bool} {a b : Nat} (hab : a ≤ b) (h : ∀ k, a ≤ k → k < b → p k = true) : zc p b = zc p a + (b - a) := by
  obtain ⟨d, rfl⟩ : ∃ d, b = a + d := ⟨b - a, by omega⟩
  rw [zc_add, zc_all (fun k hk => h (a + k) (by omega) (by omega))]; omega
theorem zc_ex {p : Nat → Bool} {k : Nat} : ∀ {n : Nat}, k < zc p n → ∃ j, j < n ∧ p j = true ∧ zc p j = k
  | 0, h => absurd h (Nat.not_lt_zero _)
  | n + 1, h => by
    rcases Nat.lt_or_ge k (zc p n) with z | z
    · obtain ⟨j, a, b, c⟩ := zc_ex z
      exact ⟨j, by omega, b, c⟩
    · cases hp : p n
      · rw [zc_f hp] at h; omega
      · rw [zc_t hp] at h; exact ⟨n, by omega, hp, by omega⟩
theorem zc_lt {p : Nat → Bool} {j n : Nat} (hj : j < n) (hp : p j = true) : zc p j < zc p n := by
  have a := zc_mono p (i := j + 1) (j := n) (by omega)
  rw [zc_t hp] at a; omega
theorem zc_leI {p : Nat → Bool} {i j : Nat} (hp : p i = true) (h : zc p j ≤ zc p i) : j ≤ i := by
  rcases Nat.lt_or_ge i j with z | z
  · have := zc_lt (p := p) z hp; omega
  · exact z
theorem zc_inj {p : Nat → Bool} {i j : Nat} (hi : p i = true) (hj : p j = true) (h : zc p i = zc p j) : i = j := Nat.le_antisymm (zc_leI hj (by omega)) (zc_leI hi (by omega))
theorem zc_imp {p q : Nat → Bool} : ∀ {i : Nat}, (∀ k, k < i → p k = true → q k = true) → zc p i ≤ zc q i
  | 0, _ => Nat.le_refl _
  | i + 1, h => by
    have a := zc_imp (p := p) (q := q) (i := i) (fun k hk => h k (by omega))
    cases hp : p i
    · rw [zc_f hp]; exact Nat.le_trans a (zc_mono q (by omega))
    · rw [zc_t hp, zc_t (h i (by omega) hp)]; omega
/-- two kinds, never both: their counts add up -/
theorem zc_or {p q r : Nat → Bool} : ∀ {i : Nat}, (∀ k, k < i → (r k = (p k || q k)) ∧ ¬ (p k = true ∧ q k = true)) → zc r i = zc p i + zc q i
  | 0, _ => rfl
  | i + 1, h => by
    have a := zc_or (p := p) (q := q) (r := r) (i := i) (fun k hk => h k (by omega))
    obtain ⟨b, c⟩ := h i (by omega)
    simp only [zc, a, b]
    cases hp : p i <;> cases hq : q i <;> simp_all <;> omega
/-- the bits of a group that stands together from s on, in order -/
theorem zc_grp {B g d : Nat → Bool} {s n : Nat} (h : ∀ j, j < n → g j = true → B (s + zc g j) = d j) : ∀ p, p ≤ n → zc B (s + zc g p) = zc B s + zc (fun j => g j && d j) p
  | 0, _ => rfl
  | p + 1, hp => by
    have ih := zc_grp h p (by omega)
    cases hg : g p
    · rw [zc_f hg, zc_f (p := fun j => g j && d j) (by simp [hg]), ih]
    · have e := h p (by omega) hg
      rw [zc_t hg]
      show zc B (s + zc g p + 1) = _
      cases hd : d p
      · rw [hd] at e
        rw [zc_f e, zc_f (p := fun j => g j && d j) (by simp [hd]), ih]
      · rw [hd] at e
        rw [zc_t e, zc_t (p := fun j => g j && d j) (by simp [hd, hg]), ih]; omega
/-- what an index of a flat table says of row and column -/
theorem zx_ix {w a b c d : Nat} (hb : b < w) (hd : d < w) (h : a * w + b = c * w + d) : a = c ∧ b = d := by
  have h1 : (a * w + b) / w = (c * w + d) / w := by rw [h]
  have h2 : (a * w + b) % w = (c * w + d) % w := by rw [h]
  rw [Nat.mul_comm a w, Nat.mul_comm c w] at h1 h2
  rw [Nat.mul_add_div (by omega), Nat.mul_add_div (by omega), Nat.div_eq_of_lt hb, Nat.div_eq_of_lt hd] at h1
  rw [Nat.mul_add_mod, Nat.mul_add_mod, Nat.mod_eq_of_lt hb, Nat.mod_eq_of_lt hd] at h2
  exact ⟨by omega, h2⟩
/-- narrow stores of small numbers -/
theorem zn_b {k : Nat} (h : k < 128) : (nI k).toInt8.toInt32 = nI k := lg_i2b_small (by rw [nI_toInt (by omega)]; omega) (by rw [nI_toInt (by omega)]; omega)
theorem zn_s {k : Nat} (h : k < 32768) : (nI k).toInt16.toInt32 = nI k := lg_i2s_small (by rw [nI_toInt (by omega)]; omega) (by rw [nI_toInt (by omega)]; omega)
theorem zn_vb {k : Nat} (h : k < 128) : vp_nar .byte (nI k) = nI k := by rw [vp_nar_byte, zn_b h]
theorem zn_vs {k : Nat} (h : k < 32768) : vp_nar .short (nI k) = nI k := by rw [vp_nar_short, zn_s h]
theorem zn_vbb {k : Nat} (h : k < 128) : vp_nar .byte (nI k).toInt8.toInt32 = nI k := by rw [zn_b h, zn_vb h]
theorem zn_vss {k : Nat} (h : k < 32768) : vp_nar .short (nI k).toInt16.toInt32 = nI k := by rw [zn_s h, zn_vs h]
theorem zn_m1 : vp_nar .short (-1) = -1 := by rw [vp_nar_short]; decide
theorem zn_m1s : vp_nar .short (-1 : Int32).toInt16.toInt32 = -1 := by rw [vp_nar_short]; decide
end
section
/-! rows of bits: onesIn, setBit, bitAt, sumRow, onesBefore -/
def zp_c (m : Nat) : Nat := zc (fun k => m.testBit k) 8
theorem zp_step : ∀ m, m < 256 → m ≠ 0 → (m &&& (m - 1)) < m ∧ zp_c (m &&& (m - 1)) + 1 = zp_c m := by decide +kernel
theorem zp_0 : zp_c 0 = 0 := by decide
theorem zp_loop {post : Int32 → Prop} : ∀ (N m a : Nat), m < 256 → m < N → post (nI (a + zp_c m)) → wX_onesIn_4 post N (nI a) (nI m)
  | 0, m, a, _, h, _ => absurd h (Nat.not_lt_zero _)
  | N + 1, m, a, hm, hN, hp => by
    refine pk_eq m 0 (fun h => ?_) (fun h => ?_)
    · subst h
      rw [zp_0] at hp
      exact hp
    · obtain ⟨h1, h2⟩ := zp_step m hm h
      have e : nI m &&& (nI m - 1) = nI (m &&& (m - 1)) := by
        rw [show nI m - 1 = nI (m - 1) from pk_sub (a := m) (b := 1) (by omega), nx_and]
      refine nm_r (nI_1 a) (nm_r e (zp_loop N _ _ (by omega) (by omega) ?_))
      rw [show a + 1 + zp_c (m &&& (m - 1)) = a + zp_c m by omega]
      exact hp
theorem zp_ones {post : Int32 → Prop} {m : Nat} (hm : m < 256) (hp : post (nI (zp_c m))) : wpX_onesIn post (nI m) :=
  ⟨m + 1, zp_loop (m + 1) m 0 hm (by omega) (by rw [Nat.zero_add]; exact hp)⟩
theorem zp_cut {m r : Nat} {q : Nat → Bool} (hr : r ≤ 8) (h : ∀ k, k < 8 → m.testBit k = (decide (k < r) && q k)) : zp_c m = zc q r := by
  unfold zp_c
  obtain ⟨d, hd⟩ : ∃ d, 8 = r + d := ⟨8 - r, by omega⟩
  have e : zc (fun k => m.testBit k) r = zc q r := zc_congr fun k hk => by rw [h k (by omega), decide_eq_true hk, Bool.true_and]
  rw [← e]
  exact zc_flat hr fun k h1 h2 => by rw [h k h2, decide_eq_false (by omega), Bool.false_and]
theorem zb_255 (x : Int32) {b : Nat} (hb : b < 4) : ∃ m, m < 256 ∧ ((x.toUInt32 >>> ((8 * nI b).toUInt32 &&& Int32.toUInt32 31)).toInt32 &&& 255) = nI m ∧ ∀ k, k < 8 → m.testBit k = bt x (8 * b + k) := by
  have e : (8 : Int32) * nI b = nI (8 * b) := pk_mul 8 b
  rw [e]
  refine ⟨_, Nat.mod_lt _ (by decide), pk_and _ 8 (by decide), fun k hk => ?_⟩
  rw [show (256 : Nat) = 2 ^ 8 from rfl, Nat.testBit_mod_two_pow, decide_eq_true hk, Bool.true_and]
  exact b_ushr (8 * b) (by omega) x k
theorem zb_24 : ∀ i, i < 224 → i &&& 24 = i % 32 / 8 * 8 := by decide +kernel
theorem zb_pw : ∀ r, r < 8 → (((1 : Int32) <<< (nI r &&& 31)) - 1).toBitVec.toNat = 2 ^ r - 1 := by decide +kernel
theorem zb_rest (x : Int32) {i : Nat} (hi : i < 224) : ∃ m, m < 128 ∧ ((x.toUInt32 >>> ((nI i &&& 24).toUInt32 &&& Int32.toUInt32 31)).toInt32 &&& (((1 : Int32) <<< (nI (i % 8) &&& 31)) - 1)) = nI m ∧ ∀ k, m.testBit k = (decide (k < i % 8) && bt x (i % 32 / 8 * 8 + k)) := by
  have e : nI i &&& 24 = nI (i % 32 / 8 * 8) := by
    rw [← zb_24 i hi]; exact nx_and i 24
  rw [e]
  have hr : i % 8 < 8 := Nat.mod_lt _ (by omega)
  refine ⟨_, ?_, pk_and _ (i % 8) (zb_pw _ hr), fun k => ?_⟩
  · have h1 : 2 ^ (i % 8) ≤ 2 ^ 7 := Nat.pow_le_pow_right (by omega) (by omega)
    exact Nat.lt_of_lt_of_le (Nat.mod_lt _ (Nat.two_pow_pos _)) h1
  · rw [Nat.testBit_mod_two_pow]
    exact congrArg (decide (k < i % 8) && ·) (b_ushr (i % 32 / 8 * 8) (by omega) x k)
theorem zb_1 (x : Int32) {s : Nat} (hs : s < 32) : ((x.toUInt32 >>> ((nI s).toUInt32 &&& Int32.toUInt32 31)).toInt32 &&& 1) = 0 ↔ bt x s = false := by
  have h := b_ushr s hs x 0
  rw [Nat.add_zero] at h
  rw [← h, pk_and _ 1 (by decide), ← nI_0, nI_eq (by omega) (by omega)]
  unfold bt BitVec.getLsbD
  rw [Nat.testBit_zero, decide_eq_false_iff_not]
  omega
def zr_RB (a : Nat → Int32) (R : Nat → Nat → Bool) : Prop := ∀ r j, r < 21 → j < 224 → bt (a (r * 7 + j / 32)) (j % 32) = R r j
def zr_set (R : Nat → Nat → Bool) (r i : Nat) : Nat → Nat → Bool := fun r' j => (decide (r' = r) && decide (j = i)) || R r' j
theorem zr_set_s (R : Nat → Nat → Bool) (r i : Nat) : zr_set R r i r i = true := by simp [zr_set]
theorem zr_set_n (R : Nat → Nat → Bool) {r i r' j : Nat} (h : ¬ (r' = r ∧ j = i)) : zr_set R r i r' j = R r' j := by
  unfold zr_set
  rcases Nat.decEq r' r with z | z
  · simp [z]
  · have : j ≠ i := fun e => h ⟨z, e⟩
    simp [this]
theorem zr_set_r (R : Nat → Nat → Bool) {r i r' : Nat} (h : r' ≠ r) : zr_set R r i r' = R r' := funext fun j => zr_set_n R (fun z => h z.1)
theorem zr_or : ∀ s, s < 32 → ∀ t, t < 32 → bt ((1 : Int32) <<< (nI s &&& 31)) t = decide (t = s) := by decide +kernel
theorem zr_upd {a : Nat → Int32} {R : Nat → Nat → Bool} (h : zr_RB a R) {r i : Nat} (hr : r < 21) (hi : i < 224) : zr_RB (upd a (r * 7 + i / 32) (a (r * 7 + i / 32) ||| ((1 : Int32) <<< (nI (i % 32) &&& 31)))) (zr_set R r i) := by
  intro r' j hr' hj
  rcases Nat.decEq (r' * 7 + j / 32) (r * 7 + i / 32) with z | z
  · rw [pk_un z, h r' j hr' hj, zr_set_n]
    rintro ⟨rfl, rfl⟩
    exact z rfl
  · obtain ⟨e1, e2⟩ := zx_ix (w := 7) (by omega) (by omega) z
    subst e1
    rw [z, pk_us, b_or, zr_or (i % 32) (by omega) (j % 32) (by omega), ← e2, h r' j hr' hj]
    unfold zr_set
    rcases Nat.decEq j i with y | y
    · rw [decide_eq_false (by omega), decide_eq_false y]
      simp
    · subst y
      simp
section
variable {f_n f_isPacked f_runCount f_nodes f_codeSum : Int32} {a_letters a_countOf a_sorted a_parted a_rowBits a_wordSum a_byteSum a_zerosOf a_lowWidth a_firstPlace a_lowPart a_highBits a_blockClass a_blockNumber a_blockSum a_choices a_runStart a_runLetter a_runBefore a_runSame a_lastRun a_nodeLeft a_nodeRight a_weight a_joined a_codeLength a_codeBits : Nat → Int32}
theorem zr_setBit {post : SX → Prop} {R : Nat → Nat → Bool} (h : zr_RB a_rowBits R) {r i : Nat} (hr : r < 21) (hi : i < 224) {x y : Int32} (hx : x = nI r) (hy : y = nI i) (k : ∀ rb, zr_RB rb (zr_set R r i) → post (f_n, f_isPacked, f_runCount, f_nodes, f_codeSum, a_letters, a_countOf, a_sorted, a_parted, rb, a_wordSum, a_byteSum, a_zerosOf, a_lowWidth, a_firstPlace, a_lowPart, a_highBits, a_blockClass, a_blockNumber, a_blockSum, a_choices, a_runStart, a_runLetter, a_runBefore, a_runSame, a_lastRun, a_nodeLeft, a_nodeRight, a_weight, a_joined, a_codeLength, a_codeBits)) : wpX_setBit post (f_n, f_isPacked, f_runCount, f_nodes, f_codeSum, a_letters, a_countOf, a_sorted, a_parted, a_rowBits, a_wordSum, a_byteSum, a_zerosOf, a_lowWidth, a_firstPlace, a_lowPart, a_highBits, a_blockClass, a_blockNumber, a_blockSum, a_choices, a_runStart, a_runLetter, a_runBefore, a_runSame, a_lastRun, a_nodeLeft, a_nodeRight, a_weight, a_joined, a_codeLength, a_codeBits) x y := by
  subst hx hy
  have e : (nI r * 7) + (nI i >>> ((5 : Int32) &&& 31)) = nI (r * 7 + i / 32) := by
    rw [pk_shrN (by omega) ((5 : Int32) &&& 31) 5 (by decide), show (7 : Int32) = nI 7 from rfl, pk_mul, nI_add]
  have e2 : nI i &&& 31 = nI (i % 32) := pk_andN (by omega) 5 (by decide)
  have hin : vp_in ((nI r * 7) + (nI i >>> ((5 : Int32) &&& 31))) 147 := by rw [e]; exact vp_in_nI (by omega) (by omega)
  refine And.intro hin (And.intro hin (nm_r (e' := upd a_rowBits (r * 7 + i / 32) (a_rowBits (r * 7 + i / 32) ||| ((1 : Int32) <<< (nI (i % 32) &&& 31)))) ?_ (k _ (zr_upd h hr hi))))
  rw [e, e2, nI_clamp (by omega)]
theorem zr_bitAt {post : Int32 → Prop} {R : Nat → Nat → Bool} (h : zr_RB a_rowBits R) {r i : Nat} (hr : r < 21) (hi : i < 224) {x y : Int32} (hx : x = nI r) (hy : y = nI i) (h1 : R r i = true → post 1) (h0 : R r i = false → post 0) : wpX_bitAt post (f_n, f_isPacked, f_runCount, f_nodes, f_codeSum, a_letters, a_countOf, a_sorted, a_parted, a_rowBits, a_wordSum, a_byteSum, a_zerosOf, a_lowWidth, a_firstPlace, a_lowPart, a_highBits, a_blockClass, a_blockNumber, a_blockSum, a_choices, a_runStart, a_runLetter, a_runBefore, a_runSame, a_lastRun, a_nodeLeft, a_nodeRight, a_weight, a_joined, a_codeLength, a_codeBits) x y := by
  subst hx hy
  have e : (nI r * 7) + (nI i >>> ((5 : Int32) &&& 31)) = nI (r * 7 + i / 32) := by
    rw [pk_shrN (by omega) ((5 : Int32) &&& 31) 5 (by decide), show (7 : Int32) = nI 7 from rfl, pk_mul, nI_add]
  have e2 : nI i &&& 31 = nI (i % 32) := pk_andN (by omega) 5 (by decide)
  have hin : vp_in ((nI r * 7) + (nI i >>> ((5 : Int32) &&& 31))) 147 := by rw [e]; exact vp_in_nI (by omega) (by omega)
  have hb := h r i hr hi
  have hc := zb_1 (a_rowBits (r * 7 + i / 32)) (s := i % 32) (by omega)
  refine And.intro hin ?_
  rw [e, e2, nI_clamp (by omega), hc, hb]
  cases hR : R r i
  · exact br_t rfl (h0 hR)
  · exact br_f (by simp) (h1 hR)
def zs_W (R : Nat → Nat → Bool) (k : Nat) : Int32 := nI (zc (R (k / 8)) (32 * (k % 8)))
def zs_B (R : Nat → Nat → Bool) (k : Nat) : Int32 := nI (zc (R (k / 28)) (8 * (k % 28)) - zc (R (k / 28)) (32 * (k % 28 / 4)))
theorem zu_ext {f C : Nat → Int32} {N : Nat} {x : Int32} (h : ∀ k, k < N → f k = C k) (hx : x = C N) : ∀ k, k < N + 1 → upd f N x k = C k := by
  intro k hk
  rcases Nat.decEq k N with z | z
  · rw [pk_un z]; exact h k (by omega)
  · subst z; rw [pk_us]; exact hx
theorem zs_B_at (R : Nat → Nat → Bool) {r w b : Nat} (hw : w < 7) (hb : b < 4) : zs_B R (r * 28 + 4 * w + b) = nI (zc (R r) (32 * w + 8 * b) - zc (R r) (32 * w)) := by
  unfold zs_B
  rw [show (r * 28 + 4 * w + b) / 28 = r by omega, show (r * 28 + 4 * w + b) % 28 = 4 * w + b by omega, show (4 * w + b) / 4 = w by omega, show 8 * (4 * w + b) = 32 * w + 8 * b by omega]
theorem zs_W_at (R : Nat → Nat → Bool) {r w : Nat} (hw : w < 8) : zs_W R (r * 8 + w) = nI (zc (R r) (32 * w)) := by
  unfold zs_W
  rw [show (r * 8 + w) / 8 = r by omega, show (r * 8 + w) % 8 = w by omega]
theorem zs_in {post : SX → Prop} {J : _} {R : Nat → Nat → Bool} (hR : zr_RB a_rowBits R) {r w : Nat} (hr : r < 21) (hw : w < 7) : ∀ (d b : Nat), b + d = 4 → ∀ (bs : Nat → Int32) (x4 : Int32), x4 = nI (zc (R r) (32 * w + 8 * b) - zc (R r) (32 * w)) → (∀ k, k < r * 28 + 4 * w + b → bs k = zs_B R k) → (∀ bs', (∀ k, k < r * 28 + 4 * w + 4 → bs' k = zs_B R k) → J (nI (zc (R r) (32 * w + 32))) (nI (w + 1)) a_letters a_countOf a_sorted a_parted a_rowBits a_wordSum bs' a_zerosOf a_lowWidth a_firstPlace a_lowPart a_highBits a_blockClass a_blockNumber a_blockSum a_choices a_runStart a_runLetter a_runBefore a_runSame a_lastRun a_nodeLeft a_nodeRight a_weight a_joined a_codeLength a_codeBits) → wX_sumRow_29 post J (nI r) (nI (zc (R r) (32 * w))) (nI w) f_n f_isPacked f_runCount f_nodes f_codeSum (d + 1) x4 (nI b) a_letters a_countOf a_sorted a_parted a_rowBits a_wordSum bs a_zerosOf a_lowWidth a_firstPlace a_lowPart a_highBits a_blockClass a_blockNumber a_blockSum a_choices a_runStart a_runLetter a_runBefore a_runSame a_lastRun a_nodeLeft a_nodeRight a_weight a_joined a_codeLength a_codeBits
  | 0, b, hd, bs, x4, hx, hb, hJ => by
    have e : b = 4 := by omega
    subst e hx
    refine pk_le 4 4 (fun _ => nm_r (e' := nI (zc (R r) (32 * w + 32))) ?_ (nm_r (nI_1 w) (hJ _ hb))) (fun h => absurd h (by omega))
    rw [nI_add, show 32 * w + 8 * 4 = 32 * w + 32 from rfl]
    have := zc_mono (R r) (i := 32 * w) (j := 32 * w + 32) (by omega)
    exact congrArg nI (by omega)
  | d + 1, b, hd, bs, x4, hx, hb, hJ => by
    subst hx
    have e1 : ((nI r * 28) + (4 * nI w)) + nI b = nI (r * 28 + 4 * w + b) := by
      rw [show (28 : Int32) = nI 28 from rfl, show (4 : Int32) = nI 4 from rfl, pk_mul, pk_mul, nI_add, nI_add]
    have e2 : (nI r * 7) + nI w = nI (r * 7 + w) := by
      rw [show (7 : Int32) = nI 7 from rfl, pk_mul, nI_add]
    have g1 := zc_mono (R r) (i := 32 * w) (j := 32 * w + 8 * b) (by omega)
    have g2 := zc_diff (R r) (i := 32 * w) (j := 32 * w + 8 * b) (by omega)
    obtain ⟨m, hm, em, tb⟩ := zb_255 (a_rowBits (r * 7 + w)) (b := b) (by omega)
    have hc : zp_c m = zc (fun k => R r (32 * w + 8 * b + k)) 8 := zc_congr fun k hk => by
      show m.testBit k = _
      rw [tb k hk, ← hR r (32 * w + 8 * b + k) hr (by omega)]
      rw [show (32 * w + 8 * b + k) / 32 = w by omega, show (32 * w + 8 * b + k) % 32 = 8 * b + k by omega]
    have ha := zc_add (R r) (32 * w + 8 * b) 8
    refine pk_le 4 b (fun h => absurd h (by omega)) (fun h => And.intro (pk_in (r * 28 + 4 * w + b) 588 (by omega) e1) (nm_r (e' := upd bs (r * 28 + 4 * w + b) (nI (zc (R r) (32 * w + 8 * b) - zc (R r) (32 * w)))) ?_ (And.intro (pk_in (r * 7 + w) 147 (by omega) e2) ?_)))
    · rw [e1, nI_clamp (by omega), zn_vbb (by omega)]
    · rw [e2, nI_clamp (by omega), em]
      refine zp_ones hm (nm_r (nI_add _ _) (nm_r (nI_1 b) (zs_in hR hr hw d (b + 1) (by omega) _ _ (congrArg nI ?_) ?_ hJ)))
      · rw [show 32 * w + 8 * (b + 1) = 32 * w + 8 * b + 8 by omega]; omega
      · exact zu_ext hb (zs_B_at R hw (by omega)).symm
theorem zs_out {post : SX → Prop} {R : Nat → Nat → Bool} (hR : zr_RB a_rowBits R) {r : Nat} (hr : r < 21) : ∀ (d w : Nat), w + d = 7 → ∀ (ws bs : Nat → Int32), (∀ k, k < r * 8 + w → ws k = zs_W R k) → (∀ k, k < r * 28 + 4 * w → bs k = zs_B R k) → (∀ ws' bs', (∀ k, k < r * 8 + 8 → ws' k = zs_W R k) → (∀ k, k < r * 28 + 28 → bs' k = zs_B R k) → post (f_n, f_isPacked, f_runCount, f_nodes, f_codeSum, a_letters, a_countOf, a_sorted, a_parted, a_rowBits, ws', bs', a_zerosOf, a_lowWidth, a_firstPlace, a_lowPart, a_highBits, a_blockClass, a_blockNumber, a_blockSum, a_choices, a_runStart, a_runLetter, a_runBefore, a_runSame, a_lastRun, a_nodeLeft, a_nodeRight, a_weight, a_joined, a_codeLength, a_codeBits)) → wX_sumRow_4 post (nI r) f_n f_isPacked f_runCount f_nodes f_codeSum (d + 1) (nI (zc (R r) (32 * w))) (nI w) a_letters a_countOf a_sorted a_parted a_rowBits ws bs a_zerosOf a_lowWidth a_firstPlace a_lowPart a_highBits a_blockClass a_blockNumber a_blockSum a_choices a_runStart a_runLetter a_runBefore a_runSame a_lastRun a_nodeLeft a_nodeRight a_weight a_joined a_codeLength a_codeBits
  | 0, w, hd, ws, bs, hw, hb, hp => by
    have e : w = 7 := by omega
    subst e
    have e1 : (nI r * 8) + 7 = nI (r * 8 + 7) := by
      rw [show (7 : Int32) = nI 7 from rfl, show (8 : Int32) = nI 8 from rfl, pk_mul, nI_add]
    have g2 := zc_le (R r) (32 * 7)
    refine pk_le 7 7 (fun _ => And.intro (pk_in (r * 8 + 7) 168 (by omega) e1) (nm_r (e' := upd ws (r * 8 + 7) (nI (zc (R r) (32 * 7)))) ?_ (hp _ _ (zu_ext hw (zs_W_at R (by omega)).symm) hb))) (fun h => absurd h (by omega))
    rw [e1, nI_clamp (by omega), zn_vss (by omega)]
  | d + 1, w, hd, ws, bs, hw, hb, hp => by
    have e1 : (nI r * 8) + nI w = nI (r * 8 + w) := by
      rw [show (8 : Int32) = nI 8 from rfl, pk_mul, nI_add]
    have g2 := zc_le (R r) (32 * w)
    refine pk_le 7 w (fun h => absurd h (by omega)) (fun _ => And.intro (pk_in (r * 8 + w) 168 (by omega) e1) (nm_r (e' := upd ws (r * 8 + w) (nI (zc (R r) (32 * w)))) ?_ ⟨4 + 1, zs_in hR hr (w := w) (by omega) 4 0 rfl bs 0 ?_ hb (fun bs' hb' => zs_out hR hr d (w + 1) (by omega) _ bs' (zu_ext hw (zs_W_at R (by omega)).symm) hb' hp)⟩))
    · rw [e1, nI_clamp (by omega), zn_vss (by omega)]
    · rw [Nat.mul_zero, Nat.add_zero, Nat.sub_self]; rfl
theorem zs_row {post : SX → Prop} {R : Nat → Nat → Bool} (hR : zr_RB a_rowBits R) {r : Nat} (hr : r < 21) (hw : ∀ k, k < r * 8 → a_wordSum k = zs_W R k) (hb : ∀ k, k < r * 28 → a_byteSum k = zs_B R k) (hp : ∀ ws' bs', (∀ k, k < (r + 1) * 8 → ws' k = zs_W R k) → (∀ k, k < (r + 1) * 28 → bs' k = zs_B R k) → post (f_n, f_isPacked, f_runCount, f_nodes, f_codeSum, a_letters, a_countOf, a_sorted, a_parted, a_rowBits, ws', bs', a_zerosOf, a_lowWidth, a_firstPlace, a_lowPart, a_highBits, a_blockClass, a_blockNumber, a_blockSum, a_choices, a_runStart, a_runLetter, a_runBefore, a_runSame, a_lastRun, a_nodeLeft, a_nodeRight, a_weight, a_joined, a_codeLength, a_codeBits)) : wpX_sumRow post (f_n, f_isPacked, f_runCount, f_nodes, f_codeSum, a_letters, a_countOf, a_sorted, a_parted, a_rowBits, a_wordSum, a_byteSum, a_zerosOf, a_lowWidth, a_firstPlace, a_lowPart, a_highBits, a_blockClass, a_blockNumber, a_blockSum, a_choices, a_runStart, a_runLetter, a_runBefore, a_runSame, a_lastRun, a_nodeLeft, a_nodeRight, a_weight, a_joined, a_codeLength, a_codeBits) (nI r) :=
  ⟨7 + 1, zs_out hR hr 7 0 rfl _ _ hw hb (fun ws' bs' h1 h2 => hp ws' bs' (fun k hk => h1 k (by omega)) (fun k hk => h2 k (by omega)))⟩
/-- rows with their sums -/
def zr_RS (a ws bs : Nat → Int32) (R : Nat → Nat → Bool) : Prop := zr_RB a R ∧ (∀ k, k < 168 → ws k = zs_W R k) ∧ (∀ k, k < 588 → bs k = zs_B R k)
theorem zr_37 {post : Int32 → Prop} {R : Nat → Nat → Bool} (H : zr_RS a_rowBits a_wordSum a_byteSum R) {r i m : Nat} (hr : r < 21) (hi : i < 224) (hm : m < 256) (hp : post (nI (zc (R r) (8 * (i / 8)) + zp_c m))) : wX_onesBefore_37 post (nI r) (nI i) (nI m) f_n f_isPacked f_runCount f_nodes f_codeSum a_letters a_countOf a_sorted a_parted a_rowBits a_wordSum a_byteSum a_zerosOf a_lowWidth a_firstPlace a_lowPart a_highBits a_blockClass a_blockNumber a_blockSum a_choices a_runStart a_runLetter a_runBefore a_runSame a_lastRun a_nodeLeft a_nodeRight a_weight a_joined a_codeLength a_codeBits := by
  obtain ⟨-, h1, h2⟩ := H
  have e1 : (nI r * 8) + (nI i >>> ((5 : Int32) &&& 31)) = nI (r * 8 + i / 32) := by
    rw [pk_shrN (by omega) ((5 : Int32) &&& 31) 5 (by decide), show (8 : Int32) = nI 8 from rfl, pk_mul, nI_add]
  have e2 : (nI r * 28) + (nI i >>> ((3 : Int32) &&& 31)) = nI (r * 28 + 4 * (i / 32) + i / 8 % 4) := by
    rw [pk_shrN (by omega) ((3 : Int32) &&& 31) 3 (by decide), show (28 : Int32) = nI 28 from rfl, pk_mul, nI_add]
    exact congrArg nI (by omega)
  have g := zc_mono (R r) (i := 32 * (i / 32)) (j := 8 * (i / 8)) (by omega)
  refine And.intro (pk_in (r * 8 + i / 32) 168 (by omega) e1) (And.intro (pk_in (r * 28 + 4 * (i / 32) + i / 8 % 4) 588 (by omega) e2) (zp_ones hm ?_))
  rw [e1, e2, nI_clamp (by omega), nI_clamp (by omega), h1 _ (by omega), h2 _ (by omega), zs_W_at R (by omega), zs_B_at R (by omega) (by omega), nI_add, nI_add]
  rw [show 32 * (i / 32) + 8 * (i / 8 % 4) = 8 * (i / 8) by omega, show zc (R r) (32 * (i / 32)) + (zc (R r) (8 * (i / 8)) - zc (R r) (32 * (i / 32))) + zp_c m = zc (R r) (8 * (i / 8)) + zp_c m by omega]
  exact hp
theorem zr_ones {post : Int32 → Prop} {R : Nat → Nat → Bool} (H : zr_RS a_rowBits a_wordSum a_byteSum R) {r i : Nat} (hr : r < 21) (hi : i < 224) {x y : Int32} (hx : x = nI r) (hy : y = nI i) (hp : post (nI (zc (R r) i))) : wpX_onesBefore post (f_n, f_isPacked, f_runCount, f_nodes, f_codeSum, a_letters, a_countOf, a_sorted, a_parted, a_rowBits, a_wordSum, a_byteSum, a_zerosOf, a_lowWidth, a_firstPlace, a_lowPart, a_highBits, a_blockClass, a_blockNumber, a_blockSum, a_choices, a_runStart, a_runLetter, a_runBefore, a_runSame, a_lastRun, a_nodeLeft, a_nodeRight, a_weight, a_joined, a_codeLength, a_codeBits) x y := by
  subst hx hy
  have hs : zc (R r) i = zc (R r) (8 * (i / 8)) + zc (fun k => R r (8 * (i / 8) + k)) (i % 8) := by
    rw [← zc_add]; exact congrArg (zc (R r)) (by omega)
  refine nm_r (e' := nI (i % 8)) (pk_andN (by omega) 3 (by decide)) (pk_eq (i % 8) 0 (fun h => ?_) (fun h => ?_))
  · refine zr_37 H hr hi (m := 0) (by omega) ?_
    rw [zp_0]
    rw [h] at hs
    rw [hs] at hp
    exact hp
  · have e : (nI r * 7) + (nI i >>> ((5 : Int32) &&& 31)) = nI (r * 7 + i / 32) := by
      rw [pk_shrN (by omega) ((5 : Int32) &&& 31) 5 (by decide), show (7 : Int32) = nI 7 from rfl, pk_mul, nI_add]
    obtain ⟨m, hm, em, tb⟩ := zb_rest (a_rowBits (r * 7 + i / 32)) hi
    refine And.intro (pk_in (r * 7 + i / 32) 147 (by omega) e) ?_
    rw [e, nI_clamp (by omega), em]
    refine zr_37 H hr hi (m := m) (by omega) ?_
    have hc : zp_c m = zc (fun k => R r (8 * (i / 8) + k)) (i % 8) := zp_cut (by omega) fun k hk => by
      rw [tb k]
      rcases Nat.lt_or_ge k (i % 8) with z | z
      · have q := H.1 r (8 * (i / 8) + k) hr (by omega)
        rw [show (8 * (i / 8) + k) / 32 = i / 32 by omega, show (8 * (i / 8) + k) % 32 = i % 32 / 8 * 8 + k by omega] at q
        rw [q]
      · rw [decide_eq_false (by omega), Bool.false_and, Bool.false_and]
    rw [hc, ← hs]
    exact hp
theorem zr_zeros {post : Int32 → Prop} {R : Nat → Nat → Bool} (H : zr_RS a_rowBits a_wordSum a_byteSum R) {r i : Nat} (hr : r < 21) (hi : i < 224) {x y : Int32} (hx : x = nI r) (hy : y = nI i) (hp : post (nI (i - zc (R r) i))) : wpX_zerosBefore post (f_n, f_isPacked, f_runCount, f_nodes, f_codeSum, a_letters, a_countOf, a_sorted, a_parted, a_rowBits, a_wordSum, a_byteSum, a_zerosOf, a_lowWidth, a_firstPlace, a_lowPart, a_highBits, a_blockClass, a_blockNumber, a_blockSum, a_choices, a_runStart, a_runLetter, a_runBefore, a_runSame, a_lastRun, a_nodeLeft, a_nodeRight, a_weight, a_joined, a_codeLength, a_codeBits) x y := by
  unfold wpX_zerosBefore
  refine zr_ones H hr hi hx hy ?_
  rw [hy, pk_sub (zc_le _ _)]
  exact hp
end
end
section
/-! the list; digits and first digits; engine 0 -/
def zl_H (f_n : Int32) (a_letters : Nat → Int32) (n : Nat) (L : Nat → Nat) : Prop := n ≤ 200 ∧ (∀ i, L i < 8) ∧ f_n = nI n ∧ ∀ i, a_letters i = nI (L i)
def zd (l c : Nat) : Nat := c / 2 ^ (2 - l) % 2
def zt_p (l c : Nat) : Nat := c / 2 ^ (3 - l)
def zt_g (L : Nat → Nat) (l P : Nat) : Nat → Bool := fun j => decide (zt_p l (L j) = P)
def zt_b (L : Nat → Nat) (l P : Nat) : Nat → Bool := fun j => decide (zt_p l (L j) < P)
def zt_d (L : Nat → Nat) (l : Nat) : Nat → Bool := fun j => decide (zd l (L j) = 1)
def zt_s (L : Nat → Nat) (n l P : Nat) : Nat := zc (zt_b L l P) n
def zl_c (L : Nat → Nat) (c : Nat) : Nat → Bool := fun j => decide (L j = c)
theorem zd_val : ∀ c, c < 8 → ∀ l, l < 3 → (nI c >>> ((2 - nI l) &&& 31)) &&& 1 = nI (zd l c) := by decide +kernel
theorem zd_pre : ∀ c, c < 8 → ∀ l, l < 3 → nI c >>> ((3 - nI l) &&& 31) = nI (zt_p l c) := by decide +kernel
theorem zd_2 (l c : Nat) : zd l c < 2 := Nat.mod_lt _ (by decide)
theorem zd_s : ∀ c, c < 8 → ∀ l, l < 3 → zt_p (l + 1) c = 2 * zt_p l c + zd l c := by decide +kernel
theorem zd_s1 {c l : Nat} (hc : c < 8) (hl : l < 3) (h : zd l c = 1) : zt_p (l + 1) c = 2 * zt_p l c + 1 := by have := zd_s c hc l hl; omega
theorem zd_s0 {c l : Nat} (hc : c < 8) (hl : l < 3) (h : ¬ zd l c = 1) : zt_p (l + 1) c = 2 * zt_p l c := by have := zd_s c hc l hl; have := zd_2 l c; omega
theorem zd_top : ∀ c, c < 8 → ∀ l, l < 3 → zt_p l c < 2 ^ l := by decide +kernel
theorem zd_0 : ∀ c, c < 8 → zt_p 0 c = 0 := by decide +kernel
theorem zt_p3 (c : Nat) : zt_p 3 c = c := Nat.div_one c
theorem zt_g3 (L : Nat → Nat) (c : Nat) : zt_g L 3 (zt_p 3 c) = zl_c L c := by
  funext j; unfold zt_g zl_c; rw [zt_p3, zt_p3]
theorem zd_digit {post : Int32 → Prop} {c l : Nat} (hc : c < 8) (hl : l < 3) (h : post (nI (zd l c))) : wpX_digitOf post (nI c) (nI l) := by
  show post ((nI c >>> ((2 - nI l) &&& 31)) &&& 1)
  rw [zd_val c hc l hl]; exact h
section
variable {L : Nat → Nat} (hL : ∀ i, L i < 8)
theorem zt_g1 (hL : ∀ i, L i < 8) {l : Nat} (hl : l < 3) (P : Nat) : zt_g L (l + 1) (2 * P + 1) = fun j => zt_g L l P j && zt_d L l j := by
  funext j
  unfold zt_g zt_d
  have a := zd_s (L j) (hL j) l hl
  have b := zd_2 l (L j)
  rw [← Bool.decide_and]
  exact decide_eq_decide.mpr (by omega)
theorem zt_g0 (hL : ∀ i, L i < 8) {l : Nat} (hl : l < 3) (P : Nat) : zt_g L (l + 1) (2 * P) = fun j => zt_g L l P j && !zt_d L l j := by
  funext j
  unfold zt_g zt_d
  have a := zd_s (L j) (hL j) l hl
  have b := zd_2 l (L j)
  rw [← decide_not, ← Bool.decide_and]
  exact decide_eq_decide.mpr (by omega)
theorem zt_b0 (hL : ∀ i, L i < 8) {l : Nat} (hl : l < 3) (P : Nat) : zt_b L (l + 1) (2 * P) = zt_b L l P := by
  funext j
  unfold zt_b
  have a := zd_s (L j) (hL j) l hl
  have b := zd_2 l (L j)
  exact decide_eq_decide.mpr (by omega)
theorem zt_bn (L : Nat → Nat) (l P p : Nat) : zc (zt_b L l (P + 1)) p = zc (zt_b L l P) p + zc (zt_g L l P) p := by
  apply zc_or
  intro k _
  unfold zt_b zt_g
  constructor
  · rw [← Bool.decide_or]; exact decide_eq_decide.mpr (by omega)
  · intro ⟨a, b⟩
    have a := of_decide_eq_true a
    have b := of_decide_eq_true b
    omega
theorem zt_b00 (L : Nat → Nat) (l p : Nat) : zc (zt_b L l 0) p = 0 := zc_none fun k _ => decide_eq_false (Nat.not_lt_zero _)
theorem zt_g00 (hL : ∀ i, L i < 8) (p : Nat) : zc (zt_g L 0 0) p = p := zc_all fun k _ => decide_eq_true (zd_0 _ (hL k))
theorem zt_s_le (L : Nat → Nat) (n l P : Nat) : zt_s L n l P + zc (zt_g L l P) n ≤ n := by
  unfold zt_s; rw [← zt_bn]; exact zc_le _ _
theorem zt_gs (hL : ∀ i, L i < 8) {l : Nat} (hl : l < 3) (P p : Nat) : zc (zt_g L l P) p = zc (zt_g L (l + 1) (2 * P + 1)) p + zc (zt_g L (l + 1) (2 * P)) p := by
  rw [zt_g1 hL hl, zt_g0 hL hl]; exact zc_split _ _ p
/-- what a row says of a group, and of the two groups of the next level -/
theorem zt_grp (hL : ∀ i, L i < 8) {B : Nat → Bool} {n s l P : Nat} (hl : l < 3) (h : ∀ j, j < n → zt_g L l P j = true → B (s + zc (zt_g L l P) j) = zt_d L l j) {p : Nat} (hp : p ≤ n) : zc B (s + zc (zt_g L l P) p) = zc B s + zc (zt_g L (l + 1) (2 * P + 1)) p := by
  rw [zt_g1 hL hl]; exact zc_grp h p hp
end
def zt_pos (L : Nat → Nat) (n l j : Nat) : Nat := zt_s L n l (zt_p l (L j)) + zc (zt_g L l (zt_p l (L j))) j
def zt_T (n : Nat) (L : Nat → Nat) (R : Nat → Nat → Bool) : Prop := ∀ l, l < 3 → ∀ j, j < n → R l (zt_pos L n l j) = zt_d L l j
theorem zt_T_g {n : Nat} {L : Nat → Nat} {R : Nat → Nat → Bool} (h : zt_T n L R) {l : Nat} (hl : l < 3) (P : Nat) : ∀ j, j < n → zt_g L l P j = true → R l (zt_s L n l P + zc (zt_g L l P) j) = zt_d L l j := by
  intro j hj hg
  have e : zt_p l (L j) = P := of_decide_eq_true hg
  have := h l hl j hj
  unfold zt_pos at this
  rw [e] at this
  exact this
def zt_I (n : Nat) (L : Nat → Nat) (R0 : Nat → Nat → Bool) (l P i : Nat) (R : Nat → Nat → Bool) : Prop :=
  (∀ l', l' < l → ∀ j, j < n → R l' (zt_pos L n l' j) = zt_d L l' j) ∧
  (∀ j, j < n → (zt_p l (L j) < P ∨ (zt_p l (L j) = P ∧ j < i)) → zt_pos L n l j < zt_s L n l P + zc (zt_g L l P) i ∧ R l (zt_pos L n l j) = zt_d L l j) ∧
  (∀ q, zt_s L n l P + zc (zt_g L l P) i ≤ q → R l q = false) ∧ (∀ l', l < l' → l' < 3 → ∀ q, R l' q = false) ∧ (∀ r, 3 ≤ r → R r = R0 r)
theorem zt_I_skip {n : Nat} {L : Nat → Nat} {R0 R : Nat → Nat → Bool} {l P i : Nat} (h : zt_I n L R0 l P i R) (hg : ¬ zt_p l (L i) = P) : zt_I n L R0 l P (i + 1) R := by
  obtain ⟨a, b, c, d, e⟩ := h
  have z : zc (zt_g L l P) (i + 1) = zc (zt_g L l P) i := zc_f (decide_eq_false hg)
  refine ⟨a, ?_, ?_, d, e⟩
  · rw [z]
    intro j hj h
    refine b j hj (h.imp id fun h => ⟨h.1, ?_⟩)
    rcases Nat.decEq j i with y | y
    · omega
    · subst y; exact absurd h.1 hg
  · rw [z]; exact c
theorem zt_I_zero {n : Nat} {L : Nat → Nat} {R0 R : Nat → Nat → Bool} {l P i : Nat} (h : zt_I n L R0 l P i R) (hg : zt_p l (L i) = P) (hd : ¬ zd l (L i) = 1) : zt_I n L R0 l P (i + 1) R := by
  obtain ⟨a, b, c, d, e⟩ := h
  have z : zc (zt_g L l P) (i + 1) = zc (zt_g L l P) i + 1 := zc_t (decide_eq_true hg)
  have ep : zt_pos L n l i = zt_s L n l P + zc (zt_g L l P) i := by unfold zt_pos; rw [hg]
  refine ⟨a, ?_, ?_, d, e⟩
  · rw [z]
    intro j hj h
    rcases Nat.decEq j i with y | y
    · obtain ⟨h1, h2⟩ := b j hj (h.imp id fun h => ⟨h.1, by omega⟩)
      exact ⟨by omega, h2⟩
    · subst y
      rw [ep]
      exact ⟨by omega, by rw [c _ (Nat.le_refl _)]; exact (decide_eq_false hd).symm⟩
  · rw [z]; exact fun q hq => c q (by omega)
theorem zt_I_one {n : Nat} {L : Nat → Nat} {R0 R : Nat → Nat → Bool} {l P i : Nat} (hl : l < 3) (h : zt_I n L R0 l P i R) (hg : zt_p l (L i) = P) (hd : zd l (L i) = 1) : zt_I n L R0 l P (i + 1) (zr_set R l (zt_s L n l P + zc (zt_g L l P) i)) := by
  obtain ⟨a, b, c, d, e⟩ := h
  have z : zc (zt_g L l P) (i + 1) = zc (zt_g L l P) i + 1 := zc_t (decide_eq_true hg)
  have ep : zt_pos L n l i = zt_s L n l P + zc (zt_g L l P) i := by unfold zt_pos; rw [hg]
  refine ⟨?_, ?_, ?_, ?_, ?_⟩
  · intro l' h' j hj
    rw [zr_set_r R (by omega)]; exact a l' h' j hj
  · rw [z]
    intro j hj h
    rcases Nat.decEq j i with y | y
    · obtain ⟨h1, h2⟩ := b j hj (h.imp id fun h => ⟨h.1, by omega⟩)
      exact ⟨by omega, by rw [zr_set_n R (by omega)]; exact h2⟩
    · subst y
      rw [ep]
      exact ⟨by omega, by rw [zr_set_s]; exact (decide_eq_true hd).symm⟩
  · rw [z]; exact fun q hq => by rw [zr_set_n R (by omega)]; exact c q (by omega)
  · intro l' h' h3 q
    rw [zr_set_r R (by omega)]; exact d l' h' h3 q
  · intro r hr
    rw [zr_set_r R (by omega)]; exact e r hr
theorem zt_I_next {n : Nat} {L : Nat → Nat} {R0 R : Nat → Nat → Bool} {l P : Nat} (h : zt_I n L R0 l P n R) : zt_I n L R0 l (P + 1) 0 R := by
  obtain ⟨a, b, c, d, e⟩ := h
  have z : zt_s L n l (P + 1) + zc (zt_g L l (P + 1)) 0 = zt_s L n l P + zc (zt_g L l P) n := zt_bn L l P n
  refine ⟨a, ?_, ?_, d, e⟩
  · rw [z]
    exact fun j hj h => b j hj (by omega)
  · rw [z]; exact c
theorem zt_I_level {n : Nat} {L : Nat → Nat} {R0 R : Nat → Nat → Bool} (hL : ∀ i, L i < 8) {l : Nat} (hl : l < 3) (h : zt_I n L R0 l (2 ^ l) 0 R) (h3 : l + 1 < 3) : zt_I n L R0 (l + 1) 0 0 R := by
  obtain ⟨a, b, c, d, e⟩ := h
  refine ⟨?_, ?_, ?_, ?_, e⟩
  · intro l' h' j hj
    rcases Nat.decEq l' l with y | y
    · exact a l' (by omega) j hj
    · subst y; exact (b j hj (Or.inl (zd_top _ (hL j) _ hl))).2
  · intro j hj h
    omega
  · exact fun q _ => d (l + 1) (by omega) h3 q
  · exact fun l' h' h4 q => d l' (by omega) h4 q
theorem zt_I_end {n : Nat} {L : Nat → Nat} {R0 R : Nat → Nat → Bool} (hL : ∀ i, L i < 8) (h : zt_I n L R0 2 (2 ^ 2) 0 R) : zt_T n L R ∧ ∀ r, 3 ≤ r → R r = R0 r := by
  obtain ⟨a, b, c, d, e⟩ := h
  refine ⟨?_, e⟩
  intro l' h' j hj
  rcases Nat.decEq l' 2 with y | y
  · exact a l' (by omega) j hj
  · subst y; exact (b j hj (Or.inl (zd_top _ (hL j) _ h'))).2
section
variable {f_n f_isPacked f_runCount f_nodes f_codeSum : Int32} {a_letters a_countOf a_sorted a_parted a_rowBits a_wordSum a_byteSum a_zerosOf a_lowWidth a_firstPlace a_lowPart a_highBits a_blockClass a_blockNumber a_blockSum a_choices a_runStart a_runLetter a_runBefore a_runSame a_lastRun a_nodeLeft a_nodeRight a_weight a_joined a_codeLength a_codeBits : Nat → Int32} {n : Nat} {L : Nat → Nat}
theorem zt_in {post : SX → Prop} {J2 J11 : _} (H : zl_H f_n a_letters n L) {R0 : Nat → Nat → Bool} {l P : Nat} (hl : l < 3) (hP : P < 8) : ∀ (d i : Nat), i + d = n → ∀ (rb : Nat → Int32) (R : Nat → Nat → Bool), zr_RB rb R → zt_I n L R0 l P i R → (∀ rb' R', zr_RB rb' R' → zt_I n L R0 l P n R' → J11 (nI (zt_s L n l P + zc (zt_g L l P) n)) (nI (P + 1)) f_n f_isPacked f_runCount f_nodes f_codeSum a_letters a_countOf a_sorted a_parted rb' a_wordSum a_byteSum a_zerosOf a_lowWidth a_firstPlace a_lowPart a_highBits a_blockClass a_blockNumber a_blockSum a_choices a_runStart a_runLetter a_runBefore a_runSame a_lastRun a_nodeLeft a_nodeRight a_weight a_joined a_codeLength a_codeBits) → wX_packTree_21 post J2 J11 (nI l) (nI P) (d + 1) (nI (zt_s L n l P + zc (zt_g L l P) i)) (nI i) f_n f_isPacked f_runCount f_nodes f_codeSum a_letters a_countOf a_sorted a_parted rb a_wordSum a_byteSum a_zerosOf a_lowWidth a_firstPlace a_lowPart a_highBits a_blockClass a_blockNumber a_blockSum a_choices a_runStart a_runLetter a_runBefore a_runSame a_lastRun a_nodeLeft a_nodeRight a_weight a_joined a_codeLength a_codeBits
  | 0, i, hd, rb, R, hR, hI, hJ => by
    obtain ⟨hn, hL, hf, ha⟩ := H
    have e : i = n := by omega
    subst e
    exact pk_le i i (fun _ => nm_r (nI_1 P) (hJ rb R hR hI)) (fun h => absurd h (by omega)) hf rfl
  | d + 1, i, hd, rb, R, hR, hI, hJ => by
    have H' := H
    obtain ⟨hn, hL, hf, ha⟩ := H
    have e1 : a_letters (nI i).toNatClampNeg = nI (L i) := by rw [nI_clamp (by omega)]; exact ha i
    have hi : vp_in (nI i) 200 := vp_in_nI (by omega) (by omega)
    have hLi := hL i
    refine pk_le n i (fun h => absurd h (by omega)) (fun _ => And.intro hi ?_) hf rfl
    rw [e1, zd_pre (L i) hLi l hl]
    have hz := zt_s_le L n l P
    refine pk_eq (zt_p l (L i)) P (fun hg => And.intro hi (zd_digit hLi hl ?_)) (fun hg => nm_r (nI_1 i) ?_) rfl rfl (by have := zd_top _ hLi l hl; have : 2 ^ l ≤ 2 ^ 3 := Nat.pow_le_pow_right (by omega) (by omega); omega)
    · have hg' : zt_g L l P i = true := decide_eq_true hg
      have z : zc (zt_g L l P) (i + 1) = zc (zt_g L l P) i + 1 := zc_t hg'
      have hlt := zc_lt (p := zt_g L l P) (j := i) (n := n) (by omega) hg'
      have hd2 := zd_2 l (L i)
      have e0 : nI (zt_s L n l P + zc (zt_g L l P) i) + 1 = nI (zt_s L n l P + zc (zt_g L l P) (i + 1)) := by rw [nI_1, z]; rfl
      refine pk_eq (zd l (L i)) 1 (fun hd1 => ?_) (fun hd1 => ?_)
      · refine zr_setBit hR (r := l) (i := zt_s L n l P + zc (zt_g L l P) i) (by omega) (by omega) (Int32.zero_add _) rfl (fun rb' hR' => ?_)
        exact nm_r e0 (nm_r (nI_1 i) (zt_in H' hl hP d (i + 1) (by omega) rb' _ hR' (zt_I_one hl hI hg hd1) hJ))
      · exact nm_r e0 (nm_r (nI_1 i) (zt_in H' hl hP d (i + 1) (by omega) rb R hR (zt_I_zero hI hg hd1) hJ))
    · have z : zc (zt_g L l P) (i + 1) = zc (zt_g L l P) i := zc_f (decide_eq_false hg)
      have q := zt_in (post := post) (J2 := J2) H' hl hP d (i + 1) (by omega) rb R hR (zt_I_skip hI hg) hJ
      rw [z] at q
      exact q
theorem zt_pw : ∀ l, l < 3 → (1 : Int32) <<< (nI l &&& 31) = nI (2 ^ l) := by decide +kernel
theorem zt_mid {post : SX → Prop} {J2 : _} (H : zl_H f_n a_letters n L) {R0 : Nat → Nat → Bool} {l : Nat} (hl : l < 3) : ∀ (d P : Nat), P + d = 2 ^ l → ∀ (rb : Nat → Int32) (R : Nat → Nat → Bool), zr_RB rb R → zt_I n L R0 l P 0 R → (∀ rb' R', zr_RB rb' R' → zt_I n L R0 l (2 ^ l) 0 R' → J2 (nI (l + 1)) f_n f_isPacked f_runCount f_nodes f_codeSum a_letters a_countOf a_sorted a_parted rb' a_wordSum a_byteSum a_zerosOf a_lowWidth a_firstPlace a_lowPart a_highBits a_blockClass a_blockNumber a_blockSum a_choices a_runStart a_runLetter a_runBefore a_runSame a_lastRun a_nodeLeft a_nodeRight a_weight a_joined a_codeLength a_codeBits) → wX_packTree_11 post J2 (nI l) (d + 1) (nI (zt_s L n l P)) (nI P) f_n f_isPacked f_runCount f_nodes f_codeSum a_letters a_countOf a_sorted a_parted rb a_wordSum a_byteSum a_zerosOf a_lowWidth a_firstPlace a_lowPart a_highBits a_blockClass a_blockNumber a_blockSum a_choices a_runStart a_runLetter a_runBefore a_runSame a_lastRun a_nodeLeft a_nodeRight a_weight a_joined a_codeLength a_codeBits
  | 0, P, hd, rb, R, hR, hI, hJ => by
    have e : P = 2 ^ l := by omega
    subst e
    have h8 : 2 ^ l ≤ 2 ^ 3 := Nat.pow_le_pow_right (by omega) (by omega)
    exact pk_le (2 ^ l) (2 ^ l) (fun _ => nm_r (nI_1 l) (hJ rb R hR hI)) (fun h => absurd h (by omega)) (zt_pw l hl) rfl
  | d + 1, P, hd, rb, R, hR, hI, hJ => by
    have h8 : 2 ^ l ≤ 2 ^ 3 := Nat.pow_le_pow_right (by omega) (by omega)
    refine pk_le (2 ^ l) P (fun h => absurd h (by omega)) (fun _ => ⟨n + 1, zt_in H hl (by omega) n 0 (by omega) rb R hR hI (fun rb' R' hR' hI' => ?_)⟩) (zt_pw l hl) rfl
    have q := zt_mid (post := post) (J2 := J2) H hl d (P + 1) (by omega) rb' R' hR' (zt_I_next hI') hJ
    rw [show zt_s L n l (P + 1) = zt_s L n l P + zc (zt_g L l P) n from zt_bn L l P n] at q
    exact q
theorem zt_out {post : SX → Prop} (H : zl_H f_n a_letters n L) {R0 : Nat → Nat → Bool} (k : ∀ rb' R', zr_RB rb' R' → zt_T n L R' → (∀ r, 3 ≤ r → R' r = R0 r) → post (f_n, f_isPacked, f_runCount, f_nodes, f_codeSum, a_letters, a_countOf, a_sorted, a_parted, rb', a_wordSum, a_byteSum, a_zerosOf, a_lowWidth, a_firstPlace, a_lowPart, a_highBits, a_blockClass, a_blockNumber, a_blockSum, a_choices, a_runStart, a_runLetter, a_runBefore, a_runSame, a_lastRun, a_nodeLeft, a_nodeRight, a_weight, a_joined, a_codeLength, a_codeBits)) : ∀ (d l : Nat), l + d = 2 → ∀ (rb : Nat → Int32) (R : Nat → Nat → Bool), zr_RB rb R → zt_I n L R0 l 0 0 R → wX_packTree_2 post (d + 1 + 1) (nI l) f_n f_isPacked f_runCount f_nodes f_codeSum a_letters a_countOf a_sorted a_parted rb a_wordSum a_byteSum a_zerosOf a_lowWidth a_firstPlace a_lowPart a_highBits a_blockClass a_blockNumber a_blockSum a_choices a_runStart a_runLetter a_runBefore a_runSame a_lastRun a_nodeLeft a_nodeRight a_weight a_joined a_codeLength a_codeBits
  | 0, l, hd, rb, R, hR, hI => by
    have e : l = 2 := by omega
    subst e
    refine pk_le 3 2 (fun h => absurd h (by omega)) (fun _ => ⟨4 + 1, ?_⟩)
    have q := zt_mid (post := post) (J2 := wX_packTree_2 post (0 + 1)) H (R0 := R0) (l := 2) (by omega) 4 0 rfl rb R hR hI (fun rb' R' hR' hI' => pk_le 3 3 (fun _ => k rb' R' hR' (zt_I_end H.2.1 hI').1 (zt_I_end H.2.1 hI').2) (fun h => absurd h (by omega)))
    rw [show zt_s L n 2 0 = 0 from zt_b00 L 2 n] at q
    exact q
  | d + 1, l, hd, rb, R, hR, hI => by
    refine pk_le 3 l (fun h => absurd h (by omega)) (fun _ => ⟨2 ^ l + 1, ?_⟩)
    have q := zt_mid (post := post) (J2 := wX_packTree_2 post (d + 1 + 1)) H (R0 := R0) (l := l) (by omega) (2 ^ l) 0 (by omega) rb R hR hI (fun rb' R' hR' hI' => zt_out H k d (l + 1) (by omega) rb' R' hR' (zt_I_level H.2.1 (by omega) hI' (by omega)))
    rw [show zt_s L n l 0 = 0 from zt_b00 L l n] at q
    exact q
theorem zt_pack {post : SX → Prop} (H : zl_H f_n a_letters n L) {R0 : Nat → Nat → Bool} (hR : zr_RB a_rowBits R0) (h0 : ∀ r, r < 3 → ∀ q, R0 r q = false) (k : ∀ rb' R', zr_RB rb' R' → zt_T n L R' → (∀ r, 3 ≤ r → R' r = R0 r) → post (f_n, f_isPacked, f_runCount, f_nodes, f_codeSum, a_letters, a_countOf, a_sorted, a_parted, rb', a_wordSum, a_byteSum, a_zerosOf, a_lowWidth, a_firstPlace, a_lowPart, a_highBits, a_blockClass, a_blockNumber, a_blockSum, a_choices, a_runStart, a_runLetter, a_runBefore, a_runSame, a_lastRun, a_nodeLeft, a_nodeRight, a_weight, a_joined, a_codeLength, a_codeBits)) : wpX_packTree post (f_n, f_isPacked, f_runCount, f_nodes, f_codeSum, a_letters, a_countOf, a_sorted, a_parted, a_rowBits, a_wordSum, a_byteSum, a_zerosOf, a_lowWidth, a_firstPlace, a_lowPart, a_highBits, a_blockClass, a_blockNumber, a_blockSum, a_choices, a_runStart, a_runLetter, a_runBefore, a_runSame, a_lastRun, a_nodeLeft, a_nodeRight, a_weight, a_joined, a_codeLength, a_codeBits) :=
  ⟨4, zt_out H k 2 0 rfl a_rowBits R0 hR ⟨fun l' h => absurd h (Nat.not_lt_zero _), fun j _ h => absurd h (by omega), fun q _ => h0 0 (by omega) q, fun l' _ h q => h0 l' h q, fun r _ => rfl⟩⟩
/-! the walks down -/
theorem zt_down {R : Nat → Nat → Bool} (hL : ∀ i, L i < 8) (HT : zt_T n L R) {l P p : Nat} (hl : l < 3) (hp : p ≤ n) : nI (zt_s L n l P + zc (zt_g L l P) p - zc (R l) (zt_s L n l P + zc (zt_g L l P) p)) - nI (zt_s L n l P - zc (R l) (zt_s L n l P)) = nI (zc (zt_g L (l + 1) (2 * P)) p) := by
  have a := zt_grp hL hl (zt_T_g HT hl P) hp
  have b := zt_gs hL hl P p
  have c := zc_le (R l) (zt_s L n l P)
  rw [pk_sub (by omega)]
  exact congrArg nI (by omega)
theorem zt_rk {post : Int32 → Prop} {R : Nat → Nat → Bool} (H : zl_H f_n a_letters n L) (HR : zr_RS a_rowBits a_wordSum a_byteSum R) (HT : zt_T n L R) {c p : Nat} (hc : c < 8) (hp : p ≤ n) (k : post (nI (zc (zl_c L c) p))) : ∀ (d l : Nat), l + d = 3 → wX_rankInTree_14 post (nI c) f_n f_isPacked f_runCount f_nodes f_codeSum a_letters a_countOf a_sorted a_parted a_rowBits a_wordSum a_byteSum a_zerosOf a_lowWidth a_firstPlace a_lowPart a_highBits a_blockClass a_blockNumber a_blockSum a_choices a_runStart a_runLetter a_runBefore a_runSame a_lastRun a_nodeLeft a_nodeRight a_weight a_joined a_codeLength a_codeBits (d + 1) (nI (zt_s L n l (zt_p l c))) (nI (zt_s L n l (zt_p l c) + zc (zt_g L l (zt_p l c)) n)) (nI (zc (zt_g L l (zt_p l c)) p)) (nI l)
  | 0, l, hd => by
    have e : l = 3 := by omega
    subst e
    rw [zt_g3]
    exact pk_le 3 3 (fun _ => k) (fun h => absurd h (by omega))
  | d + 1, l, hd => by
    have hl : l < 3 := by omega
    have hn := H.1
    have hL := H.2.1
    have ih := zt_rk H HR HT hc hp k d (l + 1) (by omega)
    have h1 := zt_s_le L n l (zt_p l c)
    have h2 := zc_mono (zt_g L l (zt_p l c)) hp
    have d1 := zt_down hL HT (P := zt_p l c) hl (Nat.le_refl n)
    have d2 := zt_down hL HT (P := zt_p l c) hl hp
    have s1 := zt_gs hL hl (zt_p l c) n
    have s2 := zt_gs hL hl (zt_p l c) p
    have t0 : zt_s L n (l + 1) (2 * zt_p l c) = zt_s L n l (zt_p l c) := by unfold zt_s; rw [zt_b0 hL hl]
    have t1 : zt_s L n (l + 1) (2 * zt_p l c + 1) = zt_s L n l (zt_p l c) + zc (zt_g L (l + 1) (2 * zt_p l c)) n := by
      rw [← t0]; exact zt_bn L (l + 1) (2 * zt_p l c) n
    refine pk_le 3 l (fun h => absurd h (by omega)) (fun _ => nm_r (Int32.zero_add _) (zr_zeros HR (r := l) (by omega) (by omega) rfl rfl (zr_zeros HR (r := l) (by omega) (by omega) rfl rfl (nm_r d1 (zr_zeros HR (r := l) (i := zt_s L n l (zt_p l c) + zc (zt_g L l (zt_p l c)) p) (by omega) (by omega) rfl (nI_add _ _) (nm_r d2 (zd_digit hc hl ?_)))))))
    refine pk_eq (zd l c) 1 (fun h => ?_) (fun h => ?_) rfl rfl (by have := zd_2 l c; omega)
    · have q := zd_s1 hc hl h
      rw [q, t1] at ih
      refine br_f (by decide) (br_f (by decide) (br_f (by decide) (nm_r (nI_1 l) ?_)))
      rw [pk_sub (by omega), nI_add, show zc (zt_g L l (zt_p l c)) p - zc (zt_g L (l + 1) (2 * zt_p l c)) p = zc (zt_g L (l + 1) (2 * zt_p l c + 1)) p by omega, show zt_s L n l (zt_p l c) + zc (zt_g L l (zt_p l c)) n = zt_s L n l (zt_p l c) + zc (zt_g L (l + 1) (2 * zt_p l c)) n + zc (zt_g L (l + 1) (2 * zt_p l c + 1)) n by omega]
      exact ih
    · have q := zd_s0 hc hl h
      rw [q, t0] at ih
      exact br_t rfl (br_t rfl (br_t rfl (nm_r (nI_add _ _) (nm_r (nI_1 l) ih))))
theorem zt_rank {post : Int32 → Prop} {R : Nat → Nat → Bool} (H : zl_H f_n a_letters n L) (HR : zr_RS a_rowBits a_wordSum a_byteSum R) (HT : zt_T n L R) {c p : Nat} (hc : c < 8) (hp : p ≤ n) (k : post (nI (zc (zl_c L c) p))) : wpX_rankInTree post (f_n, f_isPacked, f_runCount, f_nodes, f_codeSum, a_letters, a_countOf, a_sorted, a_parted, a_rowBits, a_wordSum, a_byteSum, a_zerosOf, a_lowWidth, a_firstPlace, a_lowPart, a_highBits, a_blockClass, a_blockNumber, a_blockSum, a_choices, a_runStart, a_runLetter, a_runBefore, a_runSame, a_lastRun, a_nodeLeft, a_nodeRight, a_weight, a_joined, a_codeLength, a_codeBits) (nI c) (nI p) := by
  have q := zt_rk (f_n := f_n) (f_isPacked := f_isPacked) (f_runCount := f_runCount) (f_nodes := f_nodes) (f_codeSum := f_codeSum) (a_letters := a_letters) (a_countOf := a_countOf) (a_sorted := a_sorted) (a_parted := a_parted) (a_rowBits := a_rowBits) (a_wordSum := a_wordSum) (a_byteSum := a_byteSum) (a_zerosOf := a_zerosOf) (a_lowWidth := a_lowWidth) (a_firstPlace := a_firstPlace) (a_lowPart := a_lowPart) (a_highBits := a_highBits) (a_blockClass := a_blockClass) (a_blockNumber := a_blockNumber) (a_blockSum := a_blockSum) (a_choices := a_choices) (a_runStart := a_runStart) (a_runLetter := a_runLetter) (a_runBefore := a_runBefore) (a_runSame := a_runSame) (a_lastRun := a_lastRun) (a_nodeLeft := a_nodeLeft) (a_nodeRight := a_nodeRight) (a_weight := a_weight) (a_joined := a_joined) (a_codeLength := a_codeLength) (a_codeBits := a_codeBits) H HR HT hc hp k 3 0 rfl
  rw [zd_0 c hc, show zt_s L n 0 0 = 0 from zt_b00 L 0 n, zt_g00 H.2.1, zt_g00 H.2.1, Nat.zero_add, ← H.2.2.1] at q
  exact ⟨4, q⟩
theorem zt_bl {post : Int32 → Prop} {R : Nat → Nat → Bool} (H : zl_H f_n a_letters n L) (HR : zr_RS a_rowBits a_wordSum a_byteSum R) (HT : zt_T n L R) {c p : Nat} (hc : c < 8) (hp : p ≤ n) (k : post (nI (zc (zt_b L 3 c) p))) : ∀ (d l : Nat), l + d = 3 → wX_belowInTree_17 post (nI c) f_n f_isPacked f_runCount f_nodes f_codeSum a_letters a_countOf a_sorted a_parted a_rowBits a_wordSum a_byteSum a_zerosOf a_lowWidth a_firstPlace a_lowPart a_highBits a_blockClass a_blockNumber a_blockSum a_choices a_runStart a_runLetter a_runBefore a_runSame a_lastRun a_nodeLeft a_nodeRight a_weight a_joined a_codeLength a_codeBits (d + 1) (nI (zt_s L n l (zt_p l c))) (nI (zt_s L n l (zt_p l c) + zc (zt_g L l (zt_p l c)) n)) (nI (zc (zt_g L l (zt_p l c)) p)) (nI (zc (zt_b L l (zt_p l c)) p)) (nI l)
  | 0, l, hd => by
    have e : l = 3 := by omega
    subst e
    rw [show zt_b L 3 (zt_p 3 c) = zt_b L 3 c by rw [zt_p3]]
    exact pk_le 3 3 (fun _ => k) (fun h => absurd h (by omega))
  | d + 1, l, hd => by
    have hl : l < 3 := by omega
    have hn := H.1
    have hL := H.2.1
    have ih := zt_bl H HR HT hc hp k d (l + 1) (by omega)
    have h1 := zt_s_le L n l (zt_p l c)
    have h2 := zc_mono (zt_g L l (zt_p l c)) hp
    have d1 := zt_down hL HT (P := zt_p l c) hl (Nat.le_refl n)
    have d2 := zt_down hL HT (P := zt_p l c) hl hp
    have s1 := zt_gs hL hl (zt_p l c) n
    have s2 := zt_gs hL hl (zt_p l c) p
    have t0 : zt_s L n (l + 1) (2 * zt_p l c) = zt_s L n l (zt_p l c) := by unfold zt_s; rw [zt_b0 hL hl]
    have t1 : zt_s L n (l + 1) (2 * zt_p l c + 1) = zt_s L n l (zt_p l c) + zc (zt_g L (l + 1) (2 * zt_p l c)) n := by
      rw [← t0]; exact zt_bn L (l + 1) (2 * zt_p l c) n
    refine pk_le 3 l (fun h => absurd h (by omega)) (fun _ => nm_r (Int32.zero_add _) (zr_zeros HR (r := l) (by omega) (by omega) rfl rfl (zr_zeros HR (r := l) (by omega) (by omega) rfl rfl (nm_r d1 (zr_zeros HR (r := l) (i := zt_s L n l (zt_p l c) + zc (zt_g L l (zt_p l c)) p) (by omega) (by omega) rfl (nI_add _ _) (nm_r d2 (zd_digit hc hl ?_)))))))
    refine pk_eq (zd l c) 1 (fun h => ?_) (fun h => ?_) rfl rfl (by have := zd_2 l c; omega)
    · have q := zd_s1 hc hl h
      rw [q, t1, zt_bn, zt_b0 hL hl] at ih
      refine br_f (by decide) (nm_r (nI_add _ _) (br_f (by decide) (br_f (by decide) (br_f (by decide) (nm_r (nI_1 l) ?_)))))
      rw [pk_sub (by omega), nI_add, show zc (zt_g L l (zt_p l c)) p - zc (zt_g L (l + 1) (2 * zt_p l c)) p = zc (zt_g L (l + 1) (2 * zt_p l c + 1)) p by omega, show zt_s L n l (zt_p l c) + zc (zt_g L l (zt_p l c)) n = zt_s L n l (zt_p l c) + zc (zt_g L (l + 1) (2 * zt_p l c)) n + zc (zt_g L (l + 1) (2 * zt_p l c + 1)) n by omega]
      exact ih
    · have q := zd_s0 hc hl h
      rw [q, t0, zt_b0 hL hl] at ih
      exact br_t rfl (nm_r (Int32.add_zero _) (br_t rfl (br_t rfl (br_t rfl (nm_r (nI_add _ _) (nm_r (nI_1 l) ih))))))
theorem zt_below {post : Int32 → Prop} {R : Nat → Nat → Bool} (H : zl_H f_n a_letters n L) (HR : zr_RS a_rowBits a_wordSum a_byteSum R) (HT : zt_T n L R) {c p : Nat} (hc : c < 8) (hp : p ≤ n) (k : post (nI (zc (zt_b L 3 c) p))) : wpX_belowInTree post (f_n, f_isPacked, f_runCount, f_nodes, f_codeSum, a_letters, a_countOf, a_sorted, a_parted, a_rowBits, a_wordSum, a_byteSum, a_zerosOf, a_lowWidth, a_firstPlace, a_lowPart, a_highBits, a_blockClass, a_blockNumber, a_blockSum, a_choices, a_runStart, a_runLetter, a_runBefore, a_runSame, a_lastRun, a_nodeLeft, a_nodeRight, a_weight, a_joined, a_codeLength, a_codeBits) (nI c) (nI p) := by
  have q := zt_bl (f_n := f_n) (f_isPacked := f_isPacked) (f_runCount := f_runCount) (f_nodes := f_nodes) (f_codeSum := f_codeSum) (a_letters := a_letters) (a_countOf := a_countOf) (a_sorted := a_sorted) (a_parted := a_parted) (a_rowBits := a_rowBits) (a_wordSum := a_wordSum) (a_byteSum := a_byteSum) (a_zerosOf := a_zerosOf) (a_lowWidth := a_lowWidth) (a_firstPlace := a_firstPlace) (a_lowPart := a_lowPart) (a_highBits := a_highBits) (a_blockClass := a_blockClass) (a_blockNumber := a_blockNumber) (a_blockSum := a_blockSum) (a_choices := a_choices) (a_runStart := a_runStart) (a_runLetter := a_runLetter) (a_runBefore := a_runBefore) (a_runSame := a_runSame) (a_lastRun := a_lastRun) (a_nodeLeft := a_nodeLeft) (a_nodeRight := a_nodeRight) (a_weight := a_weight) (a_joined := a_joined) (a_codeLength := a_codeLength) (a_codeBits := a_codeBits) H HR HT hc hp k 3 0 rfl
  rw [zd_0 c hc, show zt_s L n 0 0 = 0 from zt_b00 L 0 n, zt_g00 H.2.1, zt_g00 H.2.1, zt_b00, Nat.zero_add, ← H.2.2.1] at q
  exact ⟨4, q⟩
theorem zt_at' {post : Int32 → Prop} {R : Nat → Nat → Bool} (H : zl_H f_n a_letters n L) (HR : zr_RS a_rowBits a_wordSum a_byteSum R) (HT : zt_T n L R) {p : Nat} (hp : p < n) (k : post (nI (L p))) : ∀ (d l : Nat), l + d = 3 → wX_atInTree_16 post f_n f_isPacked f_runCount f_nodes f_codeSum a_letters a_countOf a_sorted a_parted a_rowBits a_wordSum a_byteSum a_zerosOf a_lowWidth a_firstPlace a_lowPart a_highBits a_blockClass a_blockNumber a_blockSum a_choices a_runStart a_runLetter a_runBefore a_runSame a_lastRun a_nodeLeft a_nodeRight a_weight a_joined a_codeLength a_codeBits (d + 1) (nI (zt_p l (L p))) (nI (zt_s L n l (zt_p l (L p)))) (nI (zt_s L n l (zt_p l (L p)) + zc (zt_g L l (zt_p l (L p))) n)) (nI (zc (zt_g L l (zt_p l (L p))) p)) (nI l)
  | 0, l, hd => by
    have e : l = 3 := by omega
    subst e
    refine pk_le 3 3 (fun _ => ?_) (fun h => absurd h (by omega))
    rw [zt_p3]; exact k
  | d + 1, l, hd => by
    have hl : l < 3 := by omega
    have hn := H.1
    have hL := H.2.1
    have ih := zt_at' H HR HT hp k d (l + 1) (by omega)
    have h1 := zt_s_le L n l (zt_p l (L p))
    have h2 := zc_mono (zt_g L l (zt_p l (L p))) (Nat.le_of_lt hp)
    have d1 := zt_down hL HT (P := zt_p l (L p)) hl (Nat.le_refl n)
    have d2 := zt_down hL HT (P := zt_p l (L p)) hl (Nat.le_of_lt hp)
    have s1 := zt_gs hL hl (zt_p l (L p)) n
    have s2 := zt_gs hL hl (zt_p l (L p)) p
    have hb := HT l hl p hp
    unfold zt_pos at hb
    have t0 : zt_s L n (l + 1) (2 * zt_p l (L p)) = zt_s L n l (zt_p l (L p)) := by unfold zt_s; rw [zt_b0 hL hl]
    have t1 : zt_s L n (l + 1) (2 * zt_p l (L p) + 1) = zt_s L n l (zt_p l (L p)) + zc (zt_g L (l + 1) (2 * zt_p l (L p))) n := by
      rw [← t0]; exact zt_bn L (l + 1) (2 * zt_p l (L p)) n
    refine pk_le 3 l (fun h => absurd h (by omega)) (fun _ => nm_r (Int32.zero_add _) (zr_zeros HR (r := l) (by omega) (by omega) rfl rfl (zr_zeros HR (r := l) (by omega) (by omega) rfl rfl (nm_r d1 (zr_zeros HR (r := l) (i := zt_s L n l (zt_p l (L p)) + zc (zt_g L l (zt_p l (L p))) p) (by omega) (by omega) rfl (nI_add _ _) (nm_r d2 (zr_bitAt HR.1 (r := l) (i := zt_s L n l (zt_p l (L p)) + zc (zt_g L l (zt_p l (L p))) p) (by omega) (by omega) rfl (nI_add _ _) (fun h => ?_) (fun h => ?_))))))))
    · rw [hb] at h
      have h : zd l (L p) = 1 := of_decide_eq_true h
      have q := zd_s1 (hL p) hl h
      rw [q, t1] at ih
      refine br_f (by decide) (nm_r (e' := nI (2 * zt_p l (L p) + 1)) ?_ (br_f (by decide) (br_f (by decide) (br_f (by decide) (nm_r (nI_1 l) ?_)))))
      · rw [show (2 : Int32) = nI 2 from rfl, pk_mul, nI_1]
      · rw [pk_sub (by omega), nI_add, show zc (zt_g L l (zt_p l (L p))) p - zc (zt_g L (l + 1) (2 * zt_p l (L p))) p = zc (zt_g L (l + 1) (2 * zt_p l (L p) + 1)) p by omega, show zt_s L n l (zt_p l (L p)) + zc (zt_g L l (zt_p l (L p))) n = zt_s L n l (zt_p l (L p)) + zc (zt_g L (l + 1) (2 * zt_p l (L p))) n + zc (zt_g L (l + 1) (2 * zt_p l (L p) + 1)) n by omega]
        exact ih
    · rw [hb] at h
      have h : ¬ zd l (L p) = 1 := of_decide_eq_false h
      have q := zd_s0 (hL p) hl h
      rw [q, t0] at ih
      refine br_t rfl (nm_r (e' := nI (2 * zt_p l (L p))) ?_ (br_t rfl (br_t rfl (br_t rfl (nm_r (nI_add _ _) (nm_r (nI_1 l) ih))))))
      rw [show (2 : Int32) = nI 2 from rfl, pk_mul, Int32.add_zero]
theorem zt_at {post : Int32 → Prop} {R : Nat → Nat → Bool} (H : zl_H f_n a_letters n L) (HR : zr_RS a_rowBits a_wordSum a_byteSum R) (HT : zt_T n L R) {p : Nat} (hp : p < n) (k : post (nI (L p))) : wpX_atInTree post (f_n, f_isPacked, f_runCount, f_nodes, f_codeSum, a_letters, a_countOf, a_sorted, a_parted, a_rowBits, a_wordSum, a_byteSum, a_zerosOf, a_lowWidth, a_firstPlace, a_lowPart, a_highBits, a_blockClass, a_blockNumber, a_blockSum, a_choices, a_runStart, a_runLetter, a_runBefore, a_runSame, a_lastRun, a_nodeLeft, a_nodeRight, a_weight, a_joined, a_codeLength, a_codeBits) (nI p) := by
  have q := zt_at' (f_n := f_n) (f_isPacked := f_isPacked) (f_runCount := f_runCount) (f_nodes := f_nodes) (f_codeSum := f_codeSum) (a_letters := a_letters) (a_countOf := a_countOf) (a_sorted := a_sorted) (a_parted := a_parted) (a_rowBits := a_rowBits) (a_wordSum := a_wordSum) (a_byteSum := a_byteSum) (a_zerosOf := a_zerosOf) (a_lowWidth := a_lowWidth) (a_firstPlace := a_firstPlace) (a_lowPart := a_lowPart) (a_highBits := a_highBits) (a_blockClass := a_blockClass) (a_blockNumber := a_blockNumber) (a_blockSum := a_blockSum) (a_choices := a_choices) (a_runStart := a_runStart) (a_runLetter := a_runLetter) (a_runBefore := a_runBefore) (a_runSame := a_runSame) (a_lastRun := a_lastRun) (a_nodeLeft := a_nodeLeft) (a_nodeRight := a_nodeRight) (a_weight := a_weight) (a_joined := a_joined) (a_codeLength := a_codeLength) (a_codeBits := a_codeBits) H HR HT hp k 3 0 rfl
  rw [zd_0 (L p) (H.2.1 p), show zt_s L n 0 0 = 0 from zt_b00 L 0 n, zt_g00 H.2.1, zt_g00 H.2.1, Nat.zero_add, ← H.2.2.1] at q
  exact ⟨4, q⟩
end
end
section
/-! engine 1: by levels -/
def zm_s (R : Nat → Nat → Bool) (n : Nat) : Nat → Nat → Nat
  | 0, _ => 0
  | l + 1, Q => if Q % 2 = 1 then (n - zc (R (3 + l)) n) + zc (R (3 + l)) (zm_s R n l (Q / 2)) else zm_s R n l (Q / 2) - zc (R (3 + l)) (zm_s R n l (Q / 2))
theorem zm_s0 (R : Nat → Nat → Bool) (n l P : Nat) : zm_s R n (l + 1) (2 * P) = zm_s R n l P - zc (R (3 + l)) (zm_s R n l P) := by
  rw [zm_s, if_neg (by omega), show 2 * P / 2 = P by omega]
theorem zm_s1 (R : Nat → Nat → Bool) (n l P : Nat) : zm_s R n (l + 1) (2 * P + 1) = (n - zc (R (3 + l)) n) + zc (R (3 + l)) (zm_s R n l P) := by
  rw [zm_s, if_pos (by omega), show (2 * P + 1) / 2 = P by omega]
theorem zm_s_congr {R R' : Nat → Nat → Bool} {n : Nat} : ∀ {l : Nat}, (∀ l', l' < l → R' (3 + l') = R (3 + l')) → ∀ P, zm_s R' n l P = zm_s R n l P
  | 0, _, _ => rfl
  | l + 1, h, P => by
    have ih := zm_s_congr (R := R) (R' := R') (n := n) (l := l) (fun l' h' => h l' (by omega))
    rw [zm_s, zm_s, ih, h l (by omega)]
def zm_pos (R : Nat → Nat → Bool) (L : Nat → Nat) (n l P p : Nat) : Nat := zm_s R n l P + zc (zt_g L l P) p
def zm_K (n : Nat) (L : Nat → Nat) (R : Nat → Nat → Bool) (k : Nat) : Prop := ∀ l, l < k → l < 3 → ∀ j, j < n → R (3 + l) (zm_pos R L n l (zt_p l (L j)) j) = zt_d L l j
theorem zm_K_g {n : Nat} {L : Nat → Nat} {R : Nat → Nat → Bool} {k : Nat} (h : zm_K n L R k) {l : Nat} (hk : l < k) (hl : l < 3) (P : Nat) : ∀ j, j < n → zt_g L l P j = true → R (3 + l) (zm_s R n l P + zc (zt_g L l P) j) = zt_d L l j := by
  intro j hj hg
  have e : zt_p l (L j) = P := of_decide_eq_true hg
  have := h l hk hl j hj
  unfold zm_pos at this
  rw [e] at this
  exact this
theorem zm_d0 {n : Nat} {L : Nat → Nat} {R : Nat → Nat → Bool} {k : Nat} (hL : ∀ i, L i < 8) (h : zm_K n L R k) {l : Nat} (hk : l < k) (hl : l < 3) (P : Nat) {p : Nat} (hp : p ≤ n) : zm_pos R L n l P p - zc (R (3 + l)) (zm_pos R L n l P p) = zm_pos R L n (l + 1) (2 * P) p := by
  have a := zt_grp hL hl (zm_K_g h hk hl P) hp
  have b := zt_gs hL hl P p
  have c := zc_le (R (3 + l)) (zm_s R n l P)
  unfold zm_pos
  rw [zm_s0]
  omega
theorem zm_d1 {n : Nat} {L : Nat → Nat} {R : Nat → Nat → Bool} {k : Nat} (hL : ∀ i, L i < 8) (h : zm_K n L R k) {l : Nat} (hk : l < k) (hl : l < 3) (P : Nat) {p : Nat} (hp : p ≤ n) : (n - zc (R (3 + l)) n) + zc (R (3 + l)) (zm_pos R L n l P p) = zm_pos R L n (l + 1) (2 * P + 1) p := by
  have a := zt_grp hL hl (zm_K_g h hk hl P) hp
  unfold zm_pos
  rw [zm_s1]
  omega
theorem zm_le {n : Nat} {L : Nat → Nat} {R : Nat → Nat → Bool} {k : Nat} (hL : ∀ i, L i < 8) (h : zm_K n L R k) {p : Nat} (hp : p ≤ n) : ∀ (l : Nat), l ≤ k → l ≤ 3 → ∀ P, zm_pos R L n l P p ≤ n
  | 0, _, _, P => by
    have := zc_le (zt_g L 0 P) p
    show 0 + _ ≤ n
    omega
  | l + 1, hk, hl, P => by
    have ih := zm_le hL h hp l (by omega) (by omega) (P / 2)
    rcases Nat.mod_two_eq_zero_or_one P with z | z
    · have e := zm_d0 hL h (l := l) (by omega) (by omega) (P / 2) hp
      rw [show 2 * (P / 2) = P by omega] at e
      omega
    · have e := zm_d1 hL h (l := l) (by omega) (by omega) (P / 2) hp
      rw [show 2 * (P / 2) + 1 = P by omega] at e
      have a := zc_mono (R (3 + l)) ih
      have b := zc_le (R (3 + l)) n
      omega
theorem zm_lt {n : Nat} {L : Nat → Nat} {R : Nat → Nat → Bool} {k : Nat} (hL : ∀ i, L i < 8) (h : zm_K n L R k) {j : Nat} (hj : j < n) {l : Nat} (hk : l ≤ k) (hl : l ≤ 3) : zm_pos R L n l (zt_p l (L j)) j < n := by
  have a := zm_le hL h (Nat.le_refl n) l hk hl (zt_p l (L j))
  have b := zc_lt (p := zt_g L l (zt_p l (L j))) hj (decide_eq_true rfl)
  unfold zm_pos at a ⊢
  omega
def zm_M (n : Nat) (L : Nat → Nat) (R : Nat → Nat → Bool) (zo : Nat → Int32) : Prop := zm_K n L R 3 ∧ ∀ l, l < 3 → zo l = nI (n - zc (R (3 + l)) n)
/-! parting one level, purely: M is the order before, D its digits -/
def zm_D (M : Nat → Nat) (l : Nat) : Nat → Bool := fun i => decide (zd l (M i) = 1)
def zm_to (D : Nat → Bool) (n q : Nat) : Nat := if D q = true then (n - zc D n) + zc D q else q - zc D q
def zm_PI (n : Nat) (M : Nat → Nat) (l : Nat) (R : Nat → Nat → Bool) (i : Nat) (R' : Nat → Nat → Bool) (pa : Nat → Int32) : Prop :=
  (∀ r, r ≠ 3 + l → R' r = R r) ∧ (∀ q, R' (3 + l) q = (decide (q < i) && zm_D M l q)) ∧
  (∀ q, q < i → pa (zm_to (zm_D M l) n q) = nI (M q)) ∧
  (∀ q, q < i - zc (zm_D M l) i → ∃ v, v < 8 ∧ pa q = nI v) ∧
  (∀ q, n - zc (zm_D M l) n ≤ q → q < n - zc (zm_D M l) n + zc (zm_D M l) i → ∃ v, v < 8 ∧ pa q = nI v)
theorem zm_zl {D : Nat → Bool} {n q : Nat} (hq : q < n) (h : D q = false) : q - zc D q < n - zc D n := by
  have a := zc_diff D (i := q + 1) (j := n) (by omega)
  rw [zc_f h] at a
  have b := zc_le D q
  have c := zc_le D n
  omega
theorem zm_PI_1 {n : Nat} {M : Nat → Nat} {l : Nat} {R R' : Nat → Nat → Bool} {i : Nat} {pa : Nat → Int32} (h : zm_PI n M l R i R' pa) (hi : i < n) (hM : M i < 8) (hd : zm_D M l i = true) : zm_PI n M l R (i + 1) (zr_set R' (3 + l) i) (upd pa (n - zc (zm_D M l) n + zc (zm_D M l) i) (nI (M i))) := by
  obtain ⟨a, b, c, d, e⟩ := h
  refine ⟨?_, ?_, ?_, ?_, ?_⟩
  · intro r hr
    rw [zr_set_r R' hr]; exact a r hr
  · intro q
    rcases Nat.decEq q i with y | y
    · rw [zr_set_n R' (fun z => y z.2), b q]
      exact congrArg (· && zm_D M l q) (decide_eq_decide.mpr (by omega))
    · subst y
      rw [zr_set_s, hd, decide_eq_true (by omega)]; rfl
  · intro q hq
    rcases Nat.decEq q i with y | y
    · rw [pk_un, c q (by omega)]
      unfold zm_to
      cases hD : zm_D M l q
      · have := zm_zl (D := zm_D M l) (n := n) (by omega) hD
        simp only [Bool.false_eq_true, if_false]
        omega
      · have := zc_lt (p := zm_D M l) (j := q) (n := i) (by omega) hD
        simp only [if_true]
        omega
    · subst y
      unfold zm_to
      rw [if_pos hd, pk_us]
  · rw [zc_t hd]
    intro q hq
    rcases Nat.decEq q (n - zc (zm_D M l) n + zc (zm_D M l) i) with y | y
    · rw [pk_un y]; exact d q (by omega)
    · subst y; rw [pk_us]; exact ⟨_, hM, rfl⟩
  · rw [zc_t hd]
    intro q h1 h2
    rcases Nat.decEq q (n - zc (zm_D M l) n + zc (zm_D M l) i) with y | y
    · rw [pk_un y]; exact e q h1 (by omega)
    · subst y; rw [pk_us]; exact ⟨_, hM, rfl⟩
theorem zm_PI_0 {n : Nat} {M : Nat → Nat} {l : Nat} {R R' : Nat → Nat → Bool} {i : Nat} {pa : Nat → Int32} (h : zm_PI n M l R i R' pa) (hi : i < n) (hM : M i < 8) (hd : zm_D M l i = false) : zm_PI n M l R (i + 1) R' (upd pa (i - zc (zm_D M l) i) (nI (M i))) := by
  obtain ⟨a, b, c, d, e⟩ := h
  have hz := zm_zl (D := zm_D M l) hi hd
  have hle := zc_le (zm_D M l) i
  refine ⟨a, ?_, ?_, ?_, ?_⟩
  · intro q
    rw [b q]
    rcases Nat.decEq q i with y | y
    · exact congrArg (· && zm_D M l q) (decide_eq_decide.mpr (by omega))
    · subst y
      rw [hd, Bool.and_false, Bool.and_false]
  · intro q hq
    rcases Nat.decEq q i with y | y
    · rw [pk_un, c q (by omega)]
      unfold zm_to
      cases hD : zm_D M l q
      · have := zm_zl (D := zm_D M l) (n := i) (q := q) (by omega) hD
        simp only [Bool.false_eq_true, if_false]
        omega
      · simp only [if_true]
        omega
    · subst y
      unfold zm_to
      rw [hd, if_neg (by simp), pk_us]
  · rw [zc_f hd]
    intro q hq
    rcases Nat.decEq q (i - zc (zm_D M l) i) with y | y
    · rw [pk_un y]; exact d q (by omega)
    · subst y; rw [pk_us]; exact ⟨_, hM, rfl⟩
  · rw [zc_f hd]
    intro q h1 h2
    rw [pk_un (by omega)]; exact e q h1 h2
/-- what stands before level l -/
def zm_I (n : Nat) (L : Nat → Nat) (R0 : Nat → Nat → Bool) (l : Nat) (so : Nat → Int32) (R : Nat → Nat → Bool) (zo : Nat → Int32) : Prop :=
  zm_K n L R l ∧ (∀ l', l' < l → zo l' = nI (n - zc (R (3 + l')) n)) ∧ (∀ l', l ≤ l' → l' < 3 → ∀ q, R (3 + l') q = false) ∧ (∀ r, r < 3 ∨ 6 ≤ r → R r = R0 r) ∧
  ∃ M : Nat → Nat, (∀ i, i < n → M i < 8 ∧ so i = nI (M i)) ∧ ∀ j, j < n → M (zm_pos R L n l (zt_p l (L j)) j) = L j
theorem zm_step {n : Nat} {L : Nat → Nat} {R0 R R' : Nat → Nat → Bool} {l : Nat} {zo pa so' : Nat → Int32} {M : Nat → Nat} (hL : ∀ i, L i < 8) (hl : l < 3) (hK : zm_K n L R l) (hz : ∀ l', l' < l → zo l' = nI (n - zc (R (3 + l')) n)) (h0 : ∀ l', l ≤ l' → l' < 3 → ∀ q, R (3 + l') q = false) (hr : ∀ r, r < 3 ∨ 6 ≤ r → R r = R0 r) (hM : ∀ i, i < n → M i < 8) (hj : ∀ j, j < n → M (zm_pos R L n l (zt_p l (L j)) j) = L j) (hP : zm_PI n M l R n R' pa) (hs : ∀ q, q < n → so' q = pa q) : zm_I n L R0 (l + 1) so' R' (upd zo l (nI (n - zc (zm_D M l) n))) := by
  obtain ⟨a, b, c, d, e⟩ := hP
  have es : ∀ l', l' ≤ l → ∀ P, zm_s R' n l' P = zm_s R n l' P := fun l' h' => zm_s_congr (fun l'' h'' => a _ (by omega))
  have ec : ∀ x, x ≤ n → zc (R' (3 + l)) x = zc (zm_D M l) x := fun x hx => zc_congr fun k hk => by rw [b k, decide_eq_true (by omega), Bool.true_and]
  have hK' : zm_K n L R' (l + 1) := by
    intro l' h1 h2 j hjn
    unfold zm_pos
    rw [es l' (by omega)]
    rcases Nat.decEq l' l with y | y
    · rw [a _ (by omega)]; exact hK l' (by omega) h2 j hjn
    · subst y
      have hlt := zm_lt hL hK hjn (Nat.le_refl _) (by omega)
      have hm := hj j hjn
      unfold zm_pos at hlt hm
      rw [b, decide_eq_true hlt, Bool.true_and]
      unfold zm_D zt_d
      rw [hm]
  refine ⟨hK', ?_, ?_, ?_, fun i => (pa i).toNatClampNeg, ?_, ?_⟩
  · intro l' h'
    rcases Nat.decEq l' l with y | y
    · rw [pk_un y, hz l' (by omega), a _ (by omega)]
    · subst y; rw [pk_us, ec n (Nat.le_refl _)]
  · intro l' h1 h2 q
    rw [a _ (by omega)]; exact h0 l' (by omega) h2 q
  · intro r h
    rw [a r (by omega)]; exact hr r h
  · intro i hi
    have g1 := zc_le (zm_D M l) n
    have hv : ∃ v, v < 8 ∧ pa i = nI v := by
      rcases Nat.lt_or_ge i (n - zc (zm_D M l) n) with y | y
      · exact d i y
      · exact e i y (by omega)
    obtain ⟨v, hv, ev⟩ := hv
    show (pa i).toNatClampNeg < 8 ∧ so' i = nI (pa i).toNatClampNeg
    rw [hs i hi, ev, nI_clamp (by omega)]
    exact ⟨hv, rfl⟩
  · intro j hjn
    have hlt := zm_lt hL hK hjn (l := l) (Nat.le_refl _) (by omega)
    have hm := hj j hjn
    have hx := c _ hlt
    have ep : zm_pos R' L n l (zt_p l (L j)) j = zm_pos R L n l (zt_p l (L j)) j := by unfold zm_pos; rw [es l (Nat.le_refl _)]
    have hD : zm_D M l (zm_pos R L n l (zt_p l (L j)) j) = decide (zd l (L j) = 1) := by unfold zm_D; rw [hm]
    have et : zm_to (zm_D M l) n (zm_pos R L n l (zt_p l (L j)) j) = zm_pos R' L n (l + 1) (zt_p (l + 1) (L j)) j := by
      unfold zm_to
      have hd2 := zd_2 l (L j)
      rcases Nat.decEq (zd l (L j)) 1 with y | y
      · rw [hD, decide_eq_false y, if_neg (by simp), zd_s0 (hL j) hl y, ← zm_d0 hL hK' (by omega) hl _ (Nat.le_of_lt hjn), ep, ec _ (Nat.le_of_lt hlt)]
      · rw [hD, decide_eq_true y, if_pos rfl, zd_s1 (hL j) hl y, ← zm_d1 hL hK' (by omega) hl _ (Nat.le_of_lt hjn), ep, ec _ (Nat.le_of_lt hlt), ec n (Nat.le_refl _)]
    show (pa _).toNatClampNeg = L j
    rw [← et, hx, hm, nI_clamp (by have := hL j; omega)]
section
variable {f_n f_isPacked f_runCount f_nodes f_codeSum : Int32} {a_letters a_countOf a_sorted a_parted a_rowBits a_wordSum a_byteSum a_zerosOf a_lowWidth a_firstPlace a_lowPart a_highBits a_blockClass a_blockNumber a_blockSum a_choices a_runStart a_runLetter a_runBefore a_runSame a_lastRun a_nodeLeft a_nodeRight a_weight a_joined a_codeLength a_codeBits : Nat → Int32} {n : Nat} {L : Nat → Nat}
theorem zm_cp2 {post : SX → Prop} (hn : n ≤ 200) (hf : f_n = nI n) (hp : ∀ q, q < n → ∃ v, v < 8 ∧ a_parted q = nI v) (k : ∀ so', (∀ q, q < n → so' q = a_parted q) → post (f_n, f_isPacked, f_runCount, f_nodes, f_codeSum, a_letters, a_countOf, so', a_parted, a_rowBits, a_wordSum, a_byteSum, a_zerosOf, a_lowWidth, a_firstPlace, a_lowPart, a_highBits, a_blockClass, a_blockNumber, a_blockSum, a_choices, a_runStart, a_runLetter, a_runBefore, a_runSame, a_lastRun, a_nodeLeft, a_nodeRight, a_weight, a_joined, a_codeLength, a_codeBits)) : ∀ (d i : Nat), i + d = n → ∀ (so : Nat → Int32), (∀ q, q < i → so q = a_parted q) → wX_partLevel_86 post f_n f_isPacked f_runCount f_nodes f_codeSum (d + 1) (nI i) a_letters a_countOf so a_parted a_rowBits a_wordSum a_byteSum a_zerosOf a_lowWidth a_firstPlace a_lowPart a_highBits a_blockClass a_blockNumber a_blockSum a_choices a_runStart a_runLetter a_runBefore a_runSame a_lastRun a_nodeLeft a_nodeRight a_weight a_joined a_codeLength a_codeBits
  | 0, i, hd, so, hs => by
    have e : i = n := by omega
    subst e
    exact pk_le i i (fun _ => k so hs) (fun h => absurd h (by omega)) hf rfl
  | d + 1, i, hd, so, hs => by
    have hi : vp_in (nI i) 200 := vp_in_nI (by omega) (by omega)
    obtain ⟨v, hv, ev⟩ := hp i (by omega)
    refine pk_le n i (fun h => absurd h (by omega)) (fun _ => And.intro hi (And.intro hi (nm_r (e' := upd so i (a_parted i)) ?_ (nm_r (nI_1 i) (zm_cp2 hn hf hp k d (i + 1) (by omega) _ (zu_ext hs rfl)))))) hf rfl
    rw [nI_clamp (by omega), ev, zn_vb (by omega)]
theorem zm_pl {post : SX → Prop} (hn : n ≤ 200) (hf : f_n = nI n) {M : Nat → Nat} (hM : ∀ i, i < n → M i < 8 ∧ a_sorted i = nI (M i)) {l : Nat} (hl : l < 3) {R : Nat → Nat → Bool} (k : ∀ so' pa rb R', zr_RB rb R' → zm_PI n M l R n R' pa → (∀ q, q < n → so' q = pa q) → post (f_n, f_isPacked, f_runCount, f_nodes, f_codeSum, a_letters, a_countOf, so', pa, rb, a_wordSum, a_byteSum, a_zerosOf, a_lowWidth, a_firstPlace, a_lowPart, a_highBits, a_blockClass, a_blockNumber, a_blockSum, a_choices, a_runStart, a_runLetter, a_runBefore, a_runSame, a_lastRun, a_nodeLeft, a_nodeRight, a_weight, a_joined, a_codeLength, a_codeBits)) : ∀ (d i : Nat), i + d = n → ∀ (pa rb : Nat → Int32) (R' : Nat → Nat → Bool), zr_RB rb R' → zm_PI n M l R i R' pa → wX_partLevel_8 post (nI l) (d + 1) (nI (i - zc (zm_D M l) i)) (nI (n - zc (zm_D M l) n + zc (zm_D M l) i)) (nI i) f_n f_isPacked f_runCount f_nodes f_codeSum a_letters a_countOf a_sorted pa rb a_wordSum a_byteSum a_zerosOf a_lowWidth a_firstPlace a_lowPart a_highBits a_blockClass a_blockNumber a_blockSum a_choices a_runStart a_runLetter a_runBefore a_runSame a_lastRun a_nodeLeft a_nodeRight a_weight a_joined a_codeLength a_codeBits
  | 0, i, hd, pa, rb, R', hR, hI => by
    have e : i = n := by omega
    subst e
    refine pk_le i i (fun _ => ⟨i + 1, zm_cp2 hn hf ?_ (fun so' hs => k so' pa rb R' hR hI hs) i 0 (by omega) _ (fun q h => absurd h (Nat.not_lt_zero _))⟩) (fun h => absurd h (by omega)) hf rfl
    intro q hq
    rcases Nat.lt_or_ge q (i - zc (zm_D M l) i) with y | y
    · exact hI.2.2.2.1 q y
    · exact hI.2.2.2.2 q y (by have := zc_le (zm_D M l) i; omega)
  | d + 1, i, hd, pa, rb, R', hR, hI => by
    have hi : vp_in (nI i) 200 := vp_in_nI (by omega) (by omega)
    obtain ⟨h8, hs⟩ := hM i (by omega)
    have e1 : a_sorted (nI i).toNatClampNeg = nI (M i) := by rw [nI_clamp (by omega)]; exact hs
    have g1 := zc_le (zm_D M l) n
    have g2 := zc_le (zm_D M l) i
    refine pk_le n i (fun h => absurd h (by omega)) (fun _ => And.intro hi ?_) hf rfl
    rw [e1]
    refine zd_digit h8 hl (pk_eq (zd l (M i)) 1 (fun h => ?_) (fun h => ?_) rfl rfl (by have := zd_2 l (M i); omega))
    · have hD : zm_D M l i = true := decide_eq_true h
      have g3 := zc_lt (p := zm_D M l) (j := i) (n := n) (by omega) hD
      have e2 := zc_t hD
      refine zr_setBit hR (r := 3 + l) (i := i) (by omega) (by omega) (nI_add 3 l) rfl (fun rb' hR' => And.intro hi (And.intro (vp_in_nI (by omega) (by omega)) (nm_r (e' := upd pa (n - zc (zm_D M l) n + zc (zm_D M l) i) (nI (M i))) ?_ (nm_r (nI_1 _) (nm_r (nI_1 i) ?_)))))
      · rw [nI_clamp (by omega), e1, zn_vb (by omega)]
      · have q := zm_pl hn hf hM hl k d (i + 1) (by omega) _ rb' _ hR' (zm_PI_1 hI (by omega) h8 hD)
        rw [e2, show i + 1 - (zc (zm_D M l) i + 1) = i - zc (zm_D M l) i by omega] at q
        exact q
    · have hD : zm_D M l i = false := decide_eq_false h
      have e2 := zc_f hD
      refine And.intro hi (And.intro (vp_in_nI (by omega) (by omega)) (nm_r (e' := upd pa (i - zc (zm_D M l) i) (nI (M i))) ?_ (nm_r (nI_1 _) (nm_r (nI_1 i) ?_))))
      · rw [nI_clamp (by omega), zn_vb (by omega)]
      · have q := zm_pl hn hf hM hl k d (i + 1) (by omega) _ rb _ hR (zm_PI_0 hI (by omega) h8 hD)
        rw [e2, show i + 1 - zc (zm_D M l) i = i - zc (zm_D M l) i + 1 by omega] at q
        exact q
theorem zm_zr {post : SX → Prop} {J : _} (hn : n ≤ 200) (hf : f_n = nI n) {M : Nat → Nat} (hM : ∀ i, i < n → M i < 8 ∧ a_sorted i = nI (M i)) {l : Nat} (hl : l < 3) {R : Nat → Nat → Bool} (hR : zr_RB a_rowBits R) (h0 : ∀ q, R (3 + l) q = false) (k : ∀ so' pa rb R', zr_RB rb R' → zm_PI n M l R n R' pa → (∀ q, q < n → so' q = pa q) → J (nI (l + 1)) f_n f_isPacked f_runCount f_nodes f_codeSum a_letters a_countOf so' pa rb a_wordSum a_byteSum (upd a_zerosOf l (nI (n - zc (zm_D M l) n))) a_lowWidth a_firstPlace a_lowPart a_highBits a_blockClass a_blockNumber a_blockSum a_choices a_runStart a_runLetter a_runBefore a_runSame a_lastRun a_nodeLeft a_nodeRight a_weight a_joined a_codeLength a_codeBits) : ∀ (d i : Nat), i + d = n → wX_packMatrix_39 post J (nI l) f_n f_isPacked f_runCount f_nodes f_codeSum a_letters a_countOf a_sorted a_parted a_rowBits a_wordSum a_byteSum a_zerosOf a_lowWidth a_firstPlace a_lowPart a_highBits a_blockClass a_blockNumber a_blockSum a_choices a_runStart a_runLetter a_runBefore a_runSame a_lastRun a_nodeLeft a_nodeRight a_weight a_joined a_codeLength a_codeBits (d + 1) (nI (i - zc (zm_D M l) i)) (nI i)
  | 0, i, hd => by
    have e : i = n := by omega
    subst e
    refine pk_le i i (fun _ => And.intro (vp_in_nI hl (by omega)) (nm_r (e' := upd a_zerosOf l (nI (i - zc (zm_D M l) i))) ?_ ⟨i + 1, ?_⟩)) (fun h => absurd h (by omega)) hf rfl
    · rw [nI_clamp (by omega), zn_vss (by omega)]
    · refine zm_pl hn hf hM hl (R := R) (fun so' pa rb R' h1 h2 h3 => nm_r (nI_1 l) (k so' pa rb R' h1 h2 h3)) i 0 (by omega) a_parted a_rowBits R hR ?_
      refine ⟨fun r _ => rfl, ?_, fun q h => absurd h (Nat.not_lt_zero _), fun q h => absurd h (Nat.not_lt_zero _), fun q h1 h2 => absurd h2 (by show ¬ q < _ + 0; omega)⟩
      intro q
      rw [h0 q, decide_eq_false (Nat.not_lt_zero _), Bool.false_and]
  | d + 1, i, hd => by
    have hi : vp_in (nI i) 200 := vp_in_nI (by omega) (by omega)
    obtain ⟨h8, hs⟩ := hM i (by omega)
    have e1 : a_sorted (nI i).toNatClampNeg = nI (M i) := by rw [nI_clamp (by omega)]; exact hs
    have g2 := zc_le (zm_D M l) i
    have ih := zm_zr (post := post) hn hf hM hl hR h0 k d (i + 1) (by omega)
    refine pk_le n i (fun h => absurd h (by omega)) (fun _ => And.intro hi ?_) hf rfl
    rw [e1]
    refine zd_digit h8 hl (pk_eq (zd l (M i)) 0 (fun h => ?_) (fun h => ?_) rfl rfl (by have := zd_2 l (M i); omega))
    · have hD : zm_D M l i = false := decide_eq_false (by omega)
      rw [zc_f hD, show i + 1 - zc (zm_D M l) i = i - zc (zm_D M l) i + 1 by omega] at ih
      exact nm_r (nI_1 _) (nm_r (nI_1 i) ih)
    · have hD : zm_D M l i = true := decide_eq_true (by have := zd_2 l (M i); omega)
      rw [zc_t hD, show i + 1 - (zc (zm_D M l) i + 1) = i - zc (zm_D M l) i by omega] at ih
      exact nm_r (Int32.add_zero _) (nm_r (nI_1 i) ih)
theorem zm_lv {post : SX → Prop} (H : zl_H f_n a_letters n L) {R0 : Nat → Nat → Bool} (k : ∀ so' pa rb zo R', zr_RB rb R' → zm_M n L R' zo → (∀ r, r < 3 ∨ 6 ≤ r → R' r = R0 r) → post (f_n, f_isPacked, f_runCount, f_nodes, f_codeSum, a_letters, a_countOf, so', pa, rb, a_wordSum, a_byteSum, zo, a_lowWidth, a_firstPlace, a_lowPart, a_highBits, a_blockClass, a_blockNumber, a_blockSum, a_choices, a_runStart, a_runLetter, a_runBefore, a_runSame, a_lastRun, a_nodeLeft, a_nodeRight, a_weight, a_joined, a_codeLength, a_codeBits)) : ∀ (d l : Nat), l + d = 3 → ∀ (so pa rb zo : Nat → Int32) (R : Nat → Nat → Bool), zr_RB rb R → zm_I n L R0 l so R zo → wX_packMatrix_30 post (d + 1) (nI l) f_n f_isPacked f_runCount f_nodes f_codeSum a_letters a_countOf so pa rb a_wordSum a_byteSum zo a_lowWidth a_firstPlace a_lowPart a_highBits a_blockClass a_blockNumber a_blockSum a_choices a_runStart a_runLetter a_runBefore a_runSame a_lastRun a_nodeLeft a_nodeRight a_weight a_joined a_codeLength a_codeBits
  | 0, l, hd, so, pa, rb, zo, R, hR, hI => by
    have e : l = 3 := by omega
    subst e
    exact pk_le 3 3 (fun _ => k so pa rb zo R hR ⟨hI.1, hI.2.1⟩ hI.2.2.2.1) (fun h => absurd h (by omega))
  | d + 1, l, hd, so, pa, rb, zo, R, hR, hI => by
    obtain ⟨h1, h2, h3, h4, M, h5, h6⟩ := hI
    have hl : l < 3 := by omega
    refine pk_le 3 l (fun h => absurd h (by omega)) (fun _ => ⟨n + 1, ?_⟩)
    refine zm_zr H.1 H.2.2.1 h5 hl hR (h3 l (Nat.le_refl _) hl) ?_ n 0 (by omega)
    intro so' pa' rb' R' hR' hP hs
    exact zm_lv H k d (l + 1) (by omega) so' pa' rb' _ R' hR' (zm_step H.2.1 hl h1 h2 h3 h4 (fun i hi => (h5 i hi).1) h6 hP hs)
theorem zm_cp1 {post : SX → Prop} (H : zl_H f_n a_letters n L) (k : ∀ so', (∀ q, q < n → so' q = nI (L q)) → ∃ m, wX_packMatrix_30 post m 0 f_n f_isPacked f_runCount f_nodes f_codeSum a_letters a_countOf so' a_parted a_rowBits a_wordSum a_byteSum a_zerosOf a_lowWidth a_firstPlace a_lowPart a_highBits a_blockClass a_blockNumber a_blockSum a_choices a_runStart a_runLetter a_runBefore a_runSame a_lastRun a_nodeLeft a_nodeRight a_weight a_joined a_codeLength a_codeBits) : ∀ (d i : Nat), i + d = n → ∀ (so : Nat → Int32), (∀ q, q < i → so q = nI (L q)) → wX_packMatrix_2 post f_n f_isPacked f_runCount f_nodes f_codeSum (d + 1) (nI i) a_letters a_countOf so a_parted a_rowBits a_wordSum a_byteSum a_zerosOf a_lowWidth a_firstPlace a_lowPart a_highBits a_blockClass a_blockNumber a_blockSum a_choices a_runStart a_runLetter a_runBefore a_runSame a_lastRun a_nodeLeft a_nodeRight a_weight a_joined a_codeLength a_codeBits
  | 0, i, hd, so, hs => by
    have hn := H.1
    have e : i = n := by omega
    subst e
    exact pk_le i i (fun _ => k so hs) (fun h => absurd h (by omega)) H.2.2.1 rfl
  | d + 1, i, hd, so, hs => by
    have hn := H.1
    have hi : vp_in (nI i) 200 := vp_in_nI (by omega) (by omega)
    refine pk_le n i (fun h => absurd h (by omega)) (fun _ => And.intro hi (And.intro hi (nm_r (e' := upd so i (nI (L i))) ?_ (nm_r (nI_1 i) (zm_cp1 H k d (i + 1) (by omega) _ (zu_ext (C := fun q => nI (L q)) hs rfl)))))) H.2.2.1 rfl
    rw [nI_clamp (by omega), H.2.2.2 i, zn_vb (by have := H.2.1 i; omega)]
theorem zm_pack {post : SX → Prop} (H : zl_H f_n a_letters n L) {R0 : Nat → Nat → Bool} (hR : zr_RB a_rowBits R0) (h0 : ∀ l, l < 3 → ∀ q, R0 (3 + l) q = false) (k : ∀ so' pa rb zo R', zr_RB rb R' → zm_M n L R' zo → (∀ r, r < 3 ∨ 6 ≤ r → R' r = R0 r) → post (f_n, f_isPacked, f_runCount, f_nodes, f_codeSum, a_letters, a_countOf, so', pa, rb, a_wordSum, a_byteSum, zo, a_lowWidth, a_firstPlace, a_lowPart, a_highBits, a_blockClass, a_blockNumber, a_blockSum, a_choices, a_runStart, a_runLetter, a_runBefore, a_runSame, a_lastRun, a_nodeLeft, a_nodeRight, a_weight, a_joined, a_codeLength, a_codeBits)) : wpX_packMatrix post (f_n, f_isPacked, f_runCount, f_nodes, f_codeSum, a_letters, a_countOf, a_sorted, a_parted, a_rowBits, a_wordSum, a_byteSum, a_zerosOf, a_lowWidth, a_firstPlace, a_lowPart, a_highBits, a_blockClass, a_blockNumber, a_blockSum, a_choices, a_runStart, a_runLetter, a_runBefore, a_runSame, a_lastRun, a_nodeLeft, a_nodeRight, a_weight, a_joined, a_codeLength, a_codeBits) := by
  refine ⟨n + 1, zm_cp1 H (fun so' hs => ⟨3 + 1, ?_⟩) n 0 (by omega) _ (fun q h => absurd h (Nat.not_lt_zero _))⟩
  refine zm_lv H k 3 0 rfl so' a_parted a_rowBits a_zerosOf R0 hR ⟨fun l h => absurd h (Nat.not_lt_zero _), fun l h => absurd h (Nat.not_lt_zero _), fun l _ h => h0 l h, fun r _ => rfl, L, fun i hi => ⟨H.2.1 i, hs i hi⟩, fun j hj => ?_⟩
  unfold zm_pos
  rw [zd_0 _ (H.2.1 j), zt_g00 H.2.1]
  exact congrArg L (Nat.zero_add j)
/-! places of bits, by halving -/
theorem zr_p50 {post : Int32 → Prop} {J : _} {x1 x2 : Int32} {K lo hi mid v : Nat} (hK : K < 1000) (hv : v < 1000) (h1 : v ≤ K → J (nI (mid + 1)) (nI hi)) (h0 : K < v → J (nI lo) (nI mid)) : wX_placeOfBit_50 post J x1 x2 (nI K) (nI lo) (nI hi) (nI mid) (nI v) f_n f_isPacked f_runCount f_nodes f_codeSum a_letters a_countOf a_sorted a_parted a_rowBits a_wordSum a_byteSum a_zerosOf a_lowWidth a_firstPlace a_lowPart a_highBits a_blockClass a_blockNumber a_blockSum a_choices a_runStart a_runLetter a_runBefore a_runSame a_lastRun a_nodeLeft a_nodeRight a_weight a_joined a_codeLength a_codeBits := by
  refine pk_lt K v (fun h => br_t rfl (br_t rfl (h0 h))) (fun h => br_f (by decide) (br_f (by decide) ?_))
  rw [nI_1]; exact h1 h
theorem zr_pl {post : Int32 → Prop} {R : Nat → Nat → Bool} (HR : zr_RS a_rowBits a_wordSum a_byteSum R) (hn : n ≤ 200) {r t o K : Nat} (hr : r < 21) (ho : o < 2) (hK : K < 1000) (hb : ∀ m, m < n → ((if o = 1 then zc (R r) (m + 1) else m + 1 - zc (R r) (m + 1)) ≤ K ↔ m < t)) (k : post (nI t)) : ∀ (N lo hi : Nat), lo ≤ t → t ≤ hi → hi ≤ n → hi - lo < N → wX_placeOfBit_9 post (nI r) (nI o) (nI K) f_n f_isPacked f_runCount f_nodes f_codeSum a_letters a_countOf a_sorted a_parted a_rowBits a_wordSum a_byteSum a_zerosOf a_lowWidth a_firstPlace a_lowPart a_highBits a_blockClass a_blockNumber a_blockSum a_choices a_runStart a_runLetter a_runBefore a_runSame a_lastRun a_nodeLeft a_nodeRight a_weight a_joined a_codeLength a_codeBits N (nI lo) (nI hi)
  | 0, lo, hi, _, _, _, h => absurd h (Nat.not_lt_zero _)
  | N + 1, lo, hi, h1, h2, h3, h4 => by
    refine pk_le hi lo (fun h => ?_) (fun h => And.intro (by decide) (nm_r (e' := nI ((lo + hi) / 2)) ?_ ?_))
    · have : lo = t := by omega
      subst this; exact k
    · rw [nI_add]; exact pk_div (d := 2) (by omega) (by decide) (by decide)
    · have hm : (lo + hi) / 2 < n := by omega
      have hb' := hb _ hm
      have q1 : ((lo + hi) / 2 < t) → wX_placeOfBit_9 post (nI r) (nI o) (nI K) f_n f_isPacked f_runCount f_nodes f_codeSum a_letters a_countOf a_sorted a_parted a_rowBits a_wordSum a_byteSum a_zerosOf a_lowWidth a_firstPlace a_lowPart a_highBits a_blockClass a_blockNumber a_blockSum a_choices a_runStart a_runLetter a_runBefore a_runSame a_lastRun a_nodeLeft a_nodeRight a_weight a_joined a_codeLength a_codeBits N (nI ((lo + hi) / 2 + 1)) (nI hi) := fun z => zr_pl HR hn hr ho hK hb k N _ _ (by omega) h2 h3 (by omega)
      have q0 : (¬ (lo + hi) / 2 < t) → wX_placeOfBit_9 post (nI r) (nI o) (nI K) f_n f_isPacked f_runCount f_nodes f_codeSum a_letters a_countOf a_sorted a_parted a_rowBits a_wordSum a_byteSum a_zerosOf a_lowWidth a_firstPlace a_lowPart a_highBits a_blockClass a_blockNumber a_blockSum a_choices a_runStart a_runLetter a_runBefore a_runSame a_lastRun a_nodeLeft a_nodeRight a_weight a_joined a_codeLength a_codeBits N (nI lo) (nI ((lo + hi) / 2)) := fun z => zr_pl HR hn hr ho hK hb k N _ _ h1 (by omega) (by omega) (by omega)
      have g := zc_le (R r) ((lo + hi) / 2 + 1)
      refine pk_eq o 0 (fun z => ?_) (fun z => ?_)
      · rw [if_neg (by omega)] at hb'
        exact zr_zeros HR hr (i := (lo + hi) / 2 + 1) (by omega) rfl (nI_1 _) (zr_p50 hK (by omega) (fun y => q1 (hb'.mp y)) (fun y => q0 (fun w => absurd (hb'.mpr w) (by omega))))
      · rw [if_pos (by omega)] at hb'
        exact zr_ones HR hr (i := (lo + hi) / 2 + 1) (by omega) rfl (nI_1 _) (zr_p50 hK (by omega) (fun y => q1 (hb'.mp y)) (fun y => q0 (fun w => absurd (hb'.mpr w) (by omega))))
theorem zr_place1 {post : Int32 → Prop} {R : Nat → Nat → Bool} (HR : zr_RS a_rowBits a_wordSum a_byteSum R) (hn : n ≤ 200) (hf : f_n = nI n) {r t : Nat} (hr : r < 21) (ht : t < n) (hb : R r t = true) {x : Int32} (hx : x = nI r) (k : post (nI t)) : wpX_placeOfBit post (f_n, f_isPacked, f_runCount, f_nodes, f_codeSum, a_letters, a_countOf, a_sorted, a_parted, a_rowBits, a_wordSum, a_byteSum, a_zerosOf, a_lowWidth, a_firstPlace, a_lowPart, a_highBits, a_blockClass, a_blockNumber, a_blockSum, a_choices, a_runStart, a_runLetter, a_runBefore, a_runSame, a_lastRun, a_nodeLeft, a_nodeRight, a_weight, a_joined, a_codeLength, a_codeBits) x 1 (nI (zc (R r) t)) := by
  subst hx
  have g := zc_le (R r) t
  refine ⟨n + 1, ?_⟩
  rw [hf]
  refine zr_pl (n := n) (o := 1) HR hn hr (by omega) (by omega) (fun m hm => ?_) k (n + 1) 0 n (by omega) (by omega) (by omega) (by omega)
  rw [if_pos rfl]
  constructor
  · intro h
    rcases Nat.lt_or_ge m t with y | y
    · exact y
    · have a := zc_mono (R r) (i := t + 1) (j := m + 1) (by omega)
      rw [zc_t hb] at a
      omega
  · exact fun h => zc_mono (R r) (by omega)
theorem zr_place0 {post : Int32 → Prop} {R : Nat → Nat → Bool} (HR : zr_RS a_rowBits a_wordSum a_byteSum R) (hn : n ≤ 200) (hf : f_n = nI n) {r t : Nat} (hr : r < 21) (ht : t < n) (hb : R r t = false) {x : Int32} (hx : x = nI r) (k : post (nI t)) : wpX_placeOfBit post (f_n, f_isPacked, f_runCount, f_nodes, f_codeSum, a_letters, a_countOf, a_sorted, a_parted, a_rowBits, a_wordSum, a_byteSum, a_zerosOf, a_lowWidth, a_firstPlace, a_lowPart, a_highBits, a_blockClass, a_blockNumber, a_blockSum, a_choices, a_runStart, a_runLetter, a_runBefore, a_runSame, a_lastRun, a_nodeLeft, a_nodeRight, a_weight, a_joined, a_codeLength, a_codeBits) x 0 (nI (t - zc (R r) t)) := by
  subst hx
  have g := zc_le (R r) t
  refine ⟨n + 1, ?_⟩
  rw [hf]
  refine zr_pl (n := n) (o := 0) HR hn hr (by omega) (by omega) (fun m hm => ?_) k (n + 1) 0 n (by omega) (by omega) (by omega) (by omega)
  rw [if_neg (by omega)]
  have g2 := zc_le (R r) (m + 1)
  constructor
  · intro h
    rcases Nat.lt_or_ge m t with y | y
    · exact y
    · have a := zc_diff (R r) (i := t + 1) (j := m + 1) (by omega)
      rw [zc_f hb] at a
      omega
  · intro h
    have a := zc_diff (R r) (i := m + 1) (j := t) (by omega)
    omega
end
end
section
/-! engine 1: its answers; engine 2: its rows -/
section
variable {f_n f_isPacked f_runCount f_nodes f_codeSum : Int32} {a_letters a_countOf a_sorted a_parted a_rowBits a_wordSum a_byteSum a_zerosOf a_lowWidth a_firstPlace a_lowPart a_highBits a_blockClass a_blockNumber a_blockSum a_choices a_runStart a_runLetter a_runBefore a_runSame a_lastRun a_nodeLeft a_nodeRight a_weight a_joined a_codeLength a_codeBits : Nat → Int32} {n : Nat} {L : Nat → Nat} {R : Nat → Nat → Bool}
theorem zm_dn0 {post : Int32 → Prop} (HR : zr_RS a_rowBits a_wordSum a_byteSum R) {l x : Nat} (hl : l < 3) (hx : x < 224) (k : post (nI (x - zc (R (3 + l)) x))) : wpX_downInMatrix post (f_n, f_isPacked, f_runCount, f_nodes, f_codeSum, a_letters, a_countOf, a_sorted, a_parted, a_rowBits, a_wordSum, a_byteSum, a_zerosOf, a_lowWidth, a_firstPlace, a_lowPart, a_highBits, a_blockClass, a_blockNumber, a_blockSum, a_choices, a_runStart, a_runLetter, a_runBefore, a_runSame, a_lastRun, a_nodeLeft, a_nodeRight, a_weight, a_joined, a_codeLength, a_codeBits) (nI l) (nI x) 0 := by
  unfold wpX_downInMatrix
  refine zr_ones HR (r := 3 + l) (by omega) hx (nI_add 3 l) rfl (br_t rfl ?_)
  rw [pk_sub (zc_le _ _)]
  exact k
theorem zm_dn1 {post : Int32 → Prop} (HR : zr_RS a_rowBits a_wordSum a_byteSum R) {l x Z : Nat} (hl : l < 3) (hx : x < 224) (hz : a_zerosOf l = nI Z) (k : post (nI (Z + zc (R (3 + l)) x))) : wpX_downInMatrix post (f_n, f_isPacked, f_runCount, f_nodes, f_codeSum, a_letters, a_countOf, a_sorted, a_parted, a_rowBits, a_wordSum, a_byteSum, a_zerosOf, a_lowWidth, a_firstPlace, a_lowPart, a_highBits, a_blockClass, a_blockNumber, a_blockSum, a_choices, a_runStart, a_runLetter, a_runBefore, a_runSame, a_lastRun, a_nodeLeft, a_nodeRight, a_weight, a_joined, a_codeLength, a_codeBits) (nI l) (nI x) 1 := by
  unfold wpX_downInMatrix
  refine zr_ones HR (r := 3 + l) (by omega) hx (nI_add 3 l) rfl (br_f (by decide) (And.intro (vp_in_nI hl (by omega)) ?_))
  rw [nI_clamp (by omega), hz, nI_add]
  exact k
theorem zm_dnA {post : Int32 → Prop} (H : zl_H f_n a_letters n L) (HR : zr_RS a_rowBits a_wordSum a_byteSum R) (HM : zm_M n L R a_zerosOf) {l P p : Nat} (hl : l < 3) (hp : p ≤ n) (k : post (nI (zm_pos R L n (l + 1) (2 * P) p))) : wpX_downInMatrix post (f_n, f_isPacked, f_runCount, f_nodes, f_codeSum, a_letters, a_countOf, a_sorted, a_parted, a_rowBits, a_wordSum, a_byteSum, a_zerosOf, a_lowWidth, a_firstPlace, a_lowPart, a_highBits, a_blockClass, a_blockNumber, a_blockSum, a_choices, a_runStart, a_runLetter, a_runBefore, a_runSame, a_lastRun, a_nodeLeft, a_nodeRight, a_weight, a_joined, a_codeLength, a_codeBits) (nI l) (nI (zm_pos R L n l P p)) 0 := by
  have a := zm_le H.2.1 HM.1 hp l (by omega) (by omega) P
  have hn := H.1
  refine zm_dn0 HR hl (by omega) ?_
  rw [zm_d0 H.2.1 HM.1 hl hl P hp]
  exact k
theorem zm_dnB {post : Int32 → Prop} (H : zl_H f_n a_letters n L) (HR : zr_RS a_rowBits a_wordSum a_byteSum R) (HM : zm_M n L R a_zerosOf) {l P p : Nat} (hl : l < 3) (hp : p ≤ n) (k : post (nI (zm_pos R L n (l + 1) (2 * P + 1) p))) : wpX_downInMatrix post (f_n, f_isPacked, f_runCount, f_nodes, f_codeSum, a_letters, a_countOf, a_sorted, a_parted, a_rowBits, a_wordSum, a_byteSum, a_zerosOf, a_lowWidth, a_firstPlace, a_lowPart, a_highBits, a_blockClass, a_blockNumber, a_blockSum, a_choices, a_runStart, a_runLetter, a_runBefore, a_runSame, a_lastRun, a_nodeLeft, a_nodeRight, a_weight, a_joined, a_codeLength, a_codeBits) (nI l) (nI (zm_pos R L n l P p)) 1 := by
  have a := zm_le H.2.1 HM.1 hp l (by omega) (by omega) P
  have hn := H.1
  refine zm_dn1 HR hl (by omega) (HM.2 l hl) ?_
  rw [zm_d1 H.2.1 HM.1 hl hl P hp]
  exact k
theorem zm_rk {post : Int32 → Prop} (H : zl_H f_n a_letters n L) (HR : zr_RS a_rowBits a_wordSum a_byteSum R) (HM : zm_M n L R a_zerosOf) {c p : Nat} (hc : c < 8) (hp : p ≤ n) (k : post (nI (zc (zl_c L c) p))) : ∀ (d l : Nat), l + d = 3 → wX_rankInMatrix_8 post (nI c) f_n f_isPacked f_runCount f_nodes f_codeSum a_letters a_countOf a_sorted a_parted a_rowBits a_wordSum a_byteSum a_zerosOf a_lowWidth a_firstPlace a_lowPart a_highBits a_blockClass a_blockNumber a_blockSum a_choices a_runStart a_runLetter a_runBefore a_runSame a_lastRun a_nodeLeft a_nodeRight a_weight a_joined a_codeLength a_codeBits (d + 1) (nI (zm_pos R L n l (zt_p l c) 0)) (nI (zm_pos R L n l (zt_p l c) p)) (nI l)
  | 0, l, hd => by
    have e : l = 3 := by omega
    subst e
    refine pk_le 3 3 (fun _ => ?_) (fun h => absurd h (by omega))
    unfold zm_pos
    rw [pk_sub (by show _ + 0 ≤ _; omega), zt_g3, show zm_s R n 3 (zt_p 3 c) + zc (zl_c L c) p - (zm_s R n 3 (zt_p 3 c) + zc (zl_c L c) 0) = zc (zl_c L c) p by show _ - (_ + 0) = _; omega]
    exact k
  | d + 1, l, hd => by
    have hl : l < 3 := by omega
    have ih := zm_rk H HR HM hc hp k d (l + 1) (by omega)
    refine pk_le 3 l (fun h => absurd h (by omega)) (fun _ => zd_digit hc hl (pk_eq (zd l c) 1 (fun h => ?_) (fun h => ?_) rfl rfl (by have := zd_2 l c; omega)))
    · rw [zd_s1 hc hl h] at ih
      exact zm_dnB H HR HM hl (Nat.zero_le _) (zm_dnB H HR HM hl hp (nm_r (nI_1 l) ih))
    · rw [zd_s0 hc hl h] at ih
      exact zm_dnA H HR HM hl (Nat.zero_le _) (zm_dnA H HR HM hl hp (nm_r (nI_1 l) ih))
theorem zm_p0 (H : zl_H f_n a_letters n L) (p : Nat) : zm_pos R L n 0 0 p = p := by
  unfold zm_pos
  rw [zt_g00 H.2.1]
  exact Nat.zero_add p
theorem zm_rank {post : Int32 → Prop} (H : zl_H f_n a_letters n L) (HR : zr_RS a_rowBits a_wordSum a_byteSum R) (HM : zm_M n L R a_zerosOf) {c p : Nat} (hc : c < 8) (hp : p ≤ n) (k : post (nI (zc (zl_c L c) p))) : wpX_rankInMatrix post (f_n, f_isPacked, f_runCount, f_nodes, f_codeSum, a_letters, a_countOf, a_sorted, a_parted, a_rowBits, a_wordSum, a_byteSum, a_zerosOf, a_lowWidth, a_firstPlace, a_lowPart, a_highBits, a_blockClass, a_blockNumber, a_blockSum, a_choices, a_runStart, a_runLetter, a_runBefore, a_runSame, a_lastRun, a_nodeLeft, a_nodeRight, a_weight, a_joined, a_codeLength, a_codeBits) (nI c) (nI p) := by
  have q := zm_rk (f_n := f_n) (f_isPacked := f_isPacked) (f_runCount := f_runCount) (f_nodes := f_nodes) (f_codeSum := f_codeSum) (a_letters := a_letters) (a_countOf := a_countOf) (a_sorted := a_sorted) (a_parted := a_parted) (a_rowBits := a_rowBits) (a_wordSum := a_wordSum) (a_byteSum := a_byteSum) (a_zerosOf := a_zerosOf) (a_lowWidth := a_lowWidth) (a_firstPlace := a_firstPlace) (a_lowPart := a_lowPart) (a_highBits := a_highBits) (a_blockClass := a_blockClass) (a_blockNumber := a_blockNumber) (a_blockSum := a_blockSum) (a_choices := a_choices) (a_runStart := a_runStart) (a_runLetter := a_runLetter) (a_runBefore := a_runBefore) (a_runSame := a_runSame) (a_lastRun := a_lastRun) (a_nodeLeft := a_nodeLeft) (a_nodeRight := a_nodeRight) (a_weight := a_weight) (a_joined := a_joined) (a_codeLength := a_codeLength) (a_codeBits := a_codeBits) H HR HM hc hp k 3 0 rfl
  rw [zd_0 c hc, zm_p0 H, zm_p0 H] at q
  exact ⟨4, q⟩
theorem zm_at' {post : Int32 → Prop} (H : zl_H f_n a_letters n L) (HR : zr_RS a_rowBits a_wordSum a_byteSum R) (HM : zm_M n L R a_zerosOf) {p : Nat} (hp : p < n) (k : post (nI (L p))) : ∀ (d l : Nat), l + d = 3 → wX_atInMatrix_7 post f_n f_isPacked f_runCount f_nodes f_codeSum a_letters a_countOf a_sorted a_parted a_rowBits a_wordSum a_byteSum a_zerosOf a_lowWidth a_firstPlace a_lowPart a_highBits a_blockClass a_blockNumber a_blockSum a_choices a_runStart a_runLetter a_runBefore a_runSame a_lastRun a_nodeLeft a_nodeRight a_weight a_joined a_codeLength a_codeBits (d + 1) (nI (zt_p l (L p))) (nI (zm_pos R L n l (zt_p l (L p)) p)) (nI l)
  | 0, l, hd => by
    have e : l = 3 := by omega
    subst e
    refine pk_le 3 3 (fun _ => ?_) (fun h => absurd h (by omega))
    rw [zt_p3]; exact k
  | d + 1, l, hd => by
    have hl : l < 3 := by omega
    have hn := H.1
    have ih := zm_at' H HR HM hp k d (l + 1) (by omega)
    have a := zm_le H.2.1 HM.1 (Nat.le_of_lt hp) l (by omega) (by omega) (zt_p l (L p))
    have hb := HM.1 l hl hl p hp
    refine pk_le 3 l (fun h => absurd h (by omega)) (fun _ => zr_bitAt HR.1 (r := 3 + l) (i := zm_pos R L n l (zt_p l (L p)) p) (by omega) (by omega) (nI_add 3 l) rfl (fun h => ?_) (fun h => ?_))
    · rw [hb] at h
      have h : zd l (L p) = 1 := of_decide_eq_true h
      rw [zd_s1 (H.2.1 p) hl h] at ih
      refine br_f (by decide) (nm_r (e' := nI (2 * zt_p l (L p) + 1)) ?_ (zr_ones HR (r := 3 + l) (i := zm_pos R L n l (zt_p l (L p)) p) (by omega) (by omega) (nI_add 3 l) rfl (br_f (by decide) (And.intro (vp_in_nI hl (by omega)) (nm_r (e' := nI (zm_pos R L n (l + 1) (2 * zt_p l (L p) + 1) p)) ?_ (nm_r (nI_1 l) ih))))))
      · rw [show (2 : Int32) = nI 2 from rfl, pk_mul, nI_1]
      · rw [nI_clamp (by omega), HM.2 l hl, nI_add, zm_d1 H.2.1 HM.1 hl hl _ (Nat.le_of_lt hp)]
    · rw [hb] at h
      have h : ¬ zd l (L p) = 1 := of_decide_eq_false h
      rw [zd_s0 (H.2.1 p) hl h] at ih
      refine br_t rfl (nm_r (e' := nI (2 * zt_p l (L p))) ?_ (zr_ones HR (r := 3 + l) (i := zm_pos R L n l (zt_p l (L p)) p) (by omega) (by omega) (nI_add 3 l) rfl (br_t rfl (nm_r (e' := nI (zm_pos R L n (l + 1) (2 * zt_p l (L p)) p)) ?_ (nm_r (nI_1 l) ih)))))
      · rw [show (2 : Int32) = nI 2 from rfl, pk_mul, Int32.add_zero]
      · rw [pk_sub (zc_le _ _), zm_d0 H.2.1 HM.1 hl hl _ (Nat.le_of_lt hp)]
theorem zm_at {post : Int32 → Prop} (H : zl_H f_n a_letters n L) (HR : zr_RS a_rowBits a_wordSum a_byteSum R) (HM : zm_M n L R a_zerosOf) {p : Nat} (hp : p < n) (k : post (nI (L p))) : wpX_atInMatrix post (f_n, f_isPacked, f_runCount, f_nodes, f_codeSum, a_letters, a_countOf, a_sorted, a_parted, a_rowBits, a_wordSum, a_byteSum, a_zerosOf, a_lowWidth, a_firstPlace, a_lowPart, a_highBits, a_blockClass, a_blockNumber, a_blockSum, a_choices, a_runStart, a_runLetter, a_runBefore, a_runSame, a_lastRun, a_nodeLeft, a_nodeRight, a_weight, a_joined, a_codeLength, a_codeBits) (nI p) := by
  have q := zm_at' (f_n := f_n) (f_isPacked := f_isPacked) (f_runCount := f_runCount) (f_nodes := f_nodes) (f_codeSum := f_codeSum) (a_letters := a_letters) (a_countOf := a_countOf) (a_sorted := a_sorted) (a_parted := a_parted) (a_rowBits := a_rowBits) (a_wordSum := a_wordSum) (a_byteSum := a_byteSum) (a_zerosOf := a_zerosOf) (a_lowWidth := a_lowWidth) (a_firstPlace := a_firstPlace) (a_lowPart := a_lowPart) (a_highBits := a_highBits) (a_blockClass := a_blockClass) (a_blockNumber := a_blockNumber) (a_blockSum := a_blockSum) (a_choices := a_choices) (a_runStart := a_runStart) (a_runLetter := a_runLetter) (a_runBefore := a_runBefore) (a_runSame := a_runSame) (a_lastRun := a_lastRun) (a_nodeLeft := a_nodeLeft) (a_nodeRight := a_nodeRight) (a_weight := a_weight) (a_joined := a_joined) (a_codeLength := a_codeLength) (a_codeBits := a_codeBits) H HR HM hp k 3 0 rfl
  rw [zd_0 _ (H.2.1 p), zm_p0 H] at q
  exact ⟨4, q⟩
theorem zm_up {post : Int32 → Prop} (H : zl_H f_n a_letters n L) (HR : zr_RS a_rowBits a_wordSum a_byteSum R) (HM : zm_M n L R a_zerosOf) {j : Nat} (hj : j < n) (k : post (nI j)) : ∀ (l : Nat), l ≤ 3 → ∀ (x4 : Int32), x4 = nI l - 1 → wX_selectInMatrix_51 post (nI (L j)) f_n f_isPacked f_runCount f_nodes f_codeSum a_letters a_countOf a_sorted a_parted a_rowBits a_wordSum a_byteSum a_zerosOf a_lowWidth a_firstPlace a_lowPart a_highBits a_blockClass a_blockNumber a_blockSum a_choices a_runStart a_runLetter a_runBefore a_runSame a_lastRun a_nodeLeft a_nodeRight a_weight a_joined a_codeLength a_codeBits (l + 1) (nI (zm_pos R L n l (zt_p l (L j)) j)) x4
  | 0, _, x4, hx => by
    subst hx
    rw [zd_0 _ (H.2.1 j), zm_p0 H]
    exact br_t (by decide) k
  | l + 1, h3, x4, hx => by
    rw [nI_pred] at hx
    subst hx
    have hl : l < 3 := by omega
    have ih := zm_up H HR HM hj k l (by omega) (nI l - 1) rfl
    have a := zm_lt H.2.1 HM.1 hj (l := l) (by omega) (by omega)
    have hb := HM.1 l hl hl j hj
    have em : nI l + (-1) = nI l - 1 := by rw [Int32.sub_eq_add_neg]
    refine br_f (nI_pos (by omega)) (zd_digit (H.2.1 j) hl (pk_eq (zd l (L j)) 1 (fun h => ?_) (fun h => ?_) rfl rfl (by have := zd_2 l (L j); omega)))
    · rw [show zt_d L l j = true from decide_eq_true h] at hb
      refine br_f (by decide) (And.intro (vp_in_nI hl (by omega)) ?_)
      rw [nI_clamp (by omega), HM.2 l hl, zd_s1 (H.2.1 j) hl h, ← zm_d1 H.2.1 HM.1 hl hl _ (Nat.le_of_lt hj), pk_sub (by omega), Nat.add_sub_cancel_left]
      exact zr_place1 HR H.1 H.2.2.1 (r := 3 + l) (by omega) a hb (nI_add 3 l) (nm_r em ih)
    · rw [show zt_d L l j = false from decide_eq_false h] at hb
      refine br_t rfl ?_
      rw [zd_s0 (H.2.1 j) hl h, ← zm_d0 H.2.1 HM.1 hl hl _ (Nat.le_of_lt hj)]
      exact zr_place0 HR H.1 H.2.2.1 (r := 3 + l) (by omega) a hb (nI_add 3 l) (nm_r em ih)
theorem zm_sl {post : Int32 → Prop} (H : zl_H f_n a_letters n L) (HR : zr_RS a_rowBits a_wordSum a_byteSum R) (HM : zm_M n L R a_zerosOf) {j : Nat} (hj : j < n) (k : post (nI j)) : ∀ (d l : Nat), l + d = 3 → wX_selectInMatrix_5 post (nI (L j)) (nI (zc (zl_c L (L j)) j)) f_n f_isPacked f_runCount f_nodes f_codeSum a_letters a_countOf a_sorted a_parted a_rowBits a_wordSum a_byteSum a_zerosOf a_lowWidth a_firstPlace a_lowPart a_highBits a_blockClass a_blockNumber a_blockSum a_choices a_runStart a_runLetter a_runBefore a_runSame a_lastRun a_nodeLeft a_nodeRight a_weight a_joined a_codeLength a_codeBits (d + 1) (nI (zm_pos R L n l (zt_p l (L j)) 0)) (nI l)
  | 0, l, hd => by
    have e : l = 3 := by omega
    subst e
    refine pk_le 3 3 (fun _ => nm_r (e' := nI (zm_pos R L n 3 (zt_p 3 (L j)) j)) ?_ ⟨3 + 1, zm_up H HR HM hj k 3 (by omega) 2 (by decide)⟩) (fun h => absurd h (by omega))
    unfold zm_pos
    rw [nI_add, zt_g3]
    exact congrArg nI (by show _ + 0 + _ = _; omega)
  | d + 1, l, hd => by
    have hl : l < 3 := by omega
    have ih := zm_sl H HR HM hj k d (l + 1) (by omega)
    refine pk_le 3 l (fun h => absurd h (by omega)) (fun _ => zd_digit (H.2.1 j) hl (pk_eq (zd l (L j)) 1 (fun h => ?_) (fun h => ?_) rfl rfl (by have := zd_2 l (L j); omega)))
    · rw [zd_s1 (H.2.1 j) hl h] at ih
      exact zm_dnB H HR HM hl (Nat.zero_le _) (nm_r (nI_1 l) ih)
    · rw [zd_s0 (H.2.1 j) hl h] at ih
      exact zm_dnA H HR HM hl (Nat.zero_le _) (nm_r (nI_1 l) ih)
theorem zm_select {post : Int32 → Prop} (H : zl_H f_n a_letters n L) (HR : zr_RS a_rowBits a_wordSum a_byteSum R) (HM : zm_M n L R a_zerosOf) {j : Nat} (hj : j < n) (k : post (nI j)) : wpX_selectInMatrix post (f_n, f_isPacked, f_runCount, f_nodes, f_codeSum, a_letters, a_countOf, a_sorted, a_parted, a_rowBits, a_wordSum, a_byteSum, a_zerosOf, a_lowWidth, a_firstPlace, a_lowPart, a_highBits, a_blockClass, a_blockNumber, a_blockSum, a_choices, a_runStart, a_runLetter, a_runBefore, a_runSame, a_lastRun, a_nodeLeft, a_nodeRight, a_weight, a_joined, a_codeLength, a_codeBits) (nI (L j)) (nI (zc (zl_c L (L j)) j)) := by
  have q := zm_sl (f_n := f_n) (f_isPacked := f_isPacked) (f_runCount := f_runCount) (f_nodes := f_nodes) (f_codeSum := f_codeSum) (a_letters := a_letters) (a_countOf := a_countOf) (a_sorted := a_sorted) (a_parted := a_parted) (a_rowBits := a_rowBits) (a_wordSum := a_wordSum) (a_byteSum := a_byteSum) (a_zerosOf := a_zerosOf) (a_lowWidth := a_lowWidth) (a_firstPlace := a_firstPlace) (a_lowPart := a_lowPart) (a_highBits := a_highBits) (a_blockClass := a_blockClass) (a_blockNumber := a_blockNumber) (a_blockSum := a_blockSum) (a_choices := a_choices) (a_runStart := a_runStart) (a_runLetter := a_runLetter) (a_runBefore := a_runBefore) (a_runSame := a_runSame) (a_lastRun := a_lastRun) (a_nodeLeft := a_nodeLeft) (a_nodeRight := a_nodeRight) (a_weight := a_weight) (a_joined := a_joined) (a_codeLength := a_codeLength) (a_codeBits := a_codeBits) H HR HM hj k 3 0 rfl
  rw [zd_0 _ (H.2.1 j), zm_p0 H] at q
  exact ⟨4, q⟩
theorem zm_or {post : Int32 → Prop} (H : zl_H f_n a_letters n L) (HR : zr_RS a_rowBits a_wordSum a_byteSum R) (HM : zm_M n L R a_zerosOf) {i j K : Nat} (hij : i ≤ j) (hj : j ≤ n) (k : ∀ c, zc (zt_b L 3 c) j ≤ K + zc (zt_b L 3 c) i → K + zc (zt_b L 3 (c + 1)) i < zc (zt_b L 3 (c + 1)) j → post (nI c)) : ∀ (d l : Nat), l + d = 3 → ∀ (P left : Nat), left + zc (zt_b L l P) j = K + zc (zt_b L l P) i → left + zc (zt_g L l P) i < zc (zt_g L l P) j → wX_orderedInMatrix_15 post f_n f_isPacked f_runCount f_nodes f_codeSum a_letters a_countOf a_sorted a_parted a_rowBits a_wordSum a_byteSum a_zerosOf a_lowWidth a_firstPlace a_lowPart a_highBits a_blockClass a_blockNumber a_blockSum a_choices a_runStart a_runLetter a_runBefore a_runSame a_lastRun a_nodeLeft a_nodeRight a_weight a_joined a_codeLength a_codeBits (d + 1) (nI P) (nI (zm_pos R L n l P i)) (nI (zm_pos R L n l P j)) (nI left) (nI l)
  | 0, l, hd, P, left, h1, h2 => by
    have e : l = 3 := by omega
    subst e
    refine pk_le 3 3 (fun _ => k P (by omega) ?_) (fun h => absurd h (by omega))
    rw [zt_bn, zt_bn]
    omega
  | d + 1, l, hd, P, left, h1, h2 => by
    have hl : l < 3 := by omega
    have hn := H.1
    have si := zt_gs H.2.1 hl P i
    have sj := zt_gs H.2.1 hl P j
    have m0 := zc_mono (zt_g L (l + 1) (2 * P)) hij
    have m1 := zc_mono (zt_g L l P) hij
    have g1 := zc_le (zt_g L l P) j
    have b0 : zt_b L (l + 1) (2 * P) = zt_b L l P := zt_b0 H.2.1 hl P
    have bi := zt_bn L (l + 1) (2 * P) i
    have bj := zt_bn L (l + 1) (2 * P) j
    rw [b0] at bi bj
    have e1 : nI (zm_pos R L n (l + 1) (2 * P) j) - nI (zm_pos R L n (l + 1) (2 * P) i) = nI (zc (zt_g L (l + 1) (2 * P)) j - zc (zt_g L (l + 1) (2 * P)) i) := by
      unfold zm_pos
      rw [pk_sub (by omega)]
      exact congrArg nI (by omega)
    refine pk_le 3 l (fun h => absurd h (by omega)) (fun _ => zm_dnA H HR HM hl (Nat.le_trans hij hj) (zm_dnA H HR HM hl hj (pk_lt left (zc (zt_g L (l + 1) (2 * P)) j - zc (zt_g L (l + 1) (2 * P)) i) (fun h => ?_) (fun h => ?_) rfl e1)))
    · have ih := zm_or H HR HM hij hj k d (l + 1) (by omega) (2 * P) left (by rw [b0]; exact h1) (by omega)
      refine br_t rfl (nm_r (Int32.sub_zero _) (br_t rfl (nm_r (e' := nI (2 * P)) ?_ (br_t rfl (br_t rfl (nm_r (nI_1 l) ih))))))
      rw [show (2 : Int32) = nI 2 from rfl, pk_mul, Int32.add_zero]
    · have ih := zm_or H HR HM hij hj k d (l + 1) (by omega) (2 * P + 1) (left - (zc (zt_g L (l + 1) (2 * P)) j - zc (zt_g L (l + 1) (2 * P)) i)) (by omega) (by omega)
      refine br_f (by decide) (nm_r (e' := nI (left - (zc (zt_g L (l + 1) (2 * P)) j - zc (zt_g L (l + 1) (2 * P)) i))) ?_ (br_f (by decide) (nm_r (e' := nI (2 * P + 1)) ?_ (br_f (by decide) (zm_dnB H HR HM hl (Nat.le_trans hij hj) (br_f (by decide) (zm_dnB H HR HM hl hj (nm_r (nI_1 l) ih))))))))
      · rw [e1, pk_sub h]
      · rw [show (2 : Int32) = nI 2 from rfl, pk_mul, nI_1]
theorem zm_ordered {post : Int32 → Prop} (H : zl_H f_n a_letters n L) (HR : zr_RS a_rowBits a_wordSum a_byteSum R) (HM : zm_M n L R a_zerosOf) {i j K : Nat} (hij : i ≤ j) (hj : j ≤ n) (hK : K < j - i) (k : ∀ c, zc (zt_b L 3 c) j ≤ K + zc (zt_b L 3 c) i → K + zc (zt_b L 3 (c + 1)) i < zc (zt_b L 3 (c + 1)) j → post (nI c)) : wpX_orderedInMatrix post (f_n, f_isPacked, f_runCount, f_nodes, f_codeSum, a_letters, a_countOf, a_sorted, a_parted, a_rowBits, a_wordSum, a_byteSum, a_zerosOf, a_lowWidth, a_firstPlace, a_lowPart, a_highBits, a_blockClass, a_blockNumber, a_blockSum, a_choices, a_runStart, a_runLetter, a_runBefore, a_runSame, a_lastRun, a_nodeLeft, a_nodeRight, a_weight, a_joined, a_codeLength, a_codeBits) (nI i) (nI j) (nI K) := by
  have q := zm_or (f_n := f_n) (f_isPacked := f_isPacked) (f_runCount := f_runCount) (f_nodes := f_nodes) (f_codeSum := f_codeSum) (a_letters := a_letters) (a_countOf := a_countOf) (a_sorted := a_sorted) (a_parted := a_parted) (a_rowBits := a_rowBits) (a_wordSum := a_wordSum) (a_byteSum := a_byteSum) (a_zerosOf := a_zerosOf) (a_lowWidth := a_lowWidth) (a_firstPlace := a_firstPlace) (a_lowPart := a_lowPart) (a_highBits := a_highBits) (a_blockClass := a_blockClass) (a_blockNumber := a_blockNumber) (a_blockSum := a_blockSum) (a_choices := a_choices) (a_runStart := a_runStart) (a_runLetter := a_runLetter) (a_runBefore := a_runBefore) (a_runSame := a_runSame) (a_lastRun := a_lastRun) (a_nodeLeft := a_nodeLeft) (a_nodeRight := a_nodeRight) (a_weight := a_weight) (a_joined := a_joined) (a_codeLength := a_codeLength) (a_codeBits := a_codeBits) H HR HM hij hj k 3 0 rfl 0 K (by rw [zt_b00, zt_b00]) (by rw [zt_g00 H.2.1, zt_g00 H.2.1]; omega)
  rw [zm_p0 H, zm_p0 H] at q
  exact ⟨4, q⟩
/-! engine 2: a row a letter -/
def zb_M (n : Nat) (L : Nat → Nat) (R : Nat → Nat → Bool) : Prop := ∀ c, c < 8 → ∀ j, j < n → R (6 + c) j = decide (L j = c)
theorem zb_lp {post : SX → Prop} (H : zl_H f_n a_letters n L) {R0 : Nat → Nat → Bool} (k : ∀ rb R', zr_RB rb R' → zb_M n L R' → (∀ r, r < 6 ∨ 14 ≤ r → R' r = R0 r) → post (f_n, f_isPacked, f_runCount, f_nodes, f_codeSum, a_letters, a_countOf, a_sorted, a_parted, rb, a_wordSum, a_byteSum, a_zerosOf, a_lowWidth, a_firstPlace, a_lowPart, a_highBits, a_blockClass, a_blockNumber, a_blockSum, a_choices, a_runStart, a_runLetter, a_runBefore, a_runSame, a_lastRun, a_nodeLeft, a_nodeRight, a_weight, a_joined, a_codeLength, a_codeBits)) : ∀ (d i : Nat), i + d = n → ∀ (rb : Nat → Int32) (R' : Nat → Nat → Bool), zr_RB rb R' → (∀ r, r < 6 ∨ 14 ≤ r → R' r = R0 r) → (∀ c, c < 8 → ∀ j, R' (6 + c) j = (decide (j < i) && decide (L j = c))) → wX_packMaps_2 post (d + 1) (nI i) f_n f_isPacked f_runCount f_nodes f_codeSum a_letters a_countOf a_sorted a_parted rb a_wordSum a_byteSum a_zerosOf a_lowWidth a_firstPlace a_lowPart a_highBits a_blockClass a_blockNumber a_blockSum a_choices a_runStart a_runLetter a_runBefore a_runSame a_lastRun a_nodeLeft a_nodeRight a_weight a_joined a_codeLength a_codeBits
  | 0, i, hd, rb, R', hR, h1, h2 => by
    have hn := H.1
    have e : i = n := by omega
    subst e
    refine pk_le i i (fun _ => k rb R' hR (fun c hc j hj => ?_) h1) (fun h => absurd h (by omega)) H.2.2.1 rfl
    rw [h2 c hc j, decide_eq_true hj, Bool.true_and]
  | d + 1, i, hd, rb, R', hR, h1, h2 => by
    have hn := H.1
    have hLi := H.2.1 i
    refine pk_le n i (fun h => absurd h (by omega)) (fun _ => And.intro (vp_in_nI (by omega) (by omega)) ?_) H.2.2.1 rfl
    rw [nI_clamp (by omega), H.2.2.2 i]
    refine zr_setBit hR (r := 6 + L i) (i := i) (by omega) (by omega) (nI_add 6 (L i)) rfl (fun rb' hR' => nm_r (nI_1 i) (zb_lp H k d (i + 1) (by omega) rb' _ hR' ?_ ?_))
    · intro r hr
      rw [zr_set_r R' (by omega)]; exact h1 r hr
    · intro c hc j
      by_cases y : 6 + c = 6 + L i ∧ j = i
      · obtain ⟨y1, y2⟩ := y
        subst y2
        rw [y1, zr_set_s, decide_eq_true (by omega), decide_eq_true (by omega)]; rfl
      · rw [zr_set_n R' y, h2 c hc j]
        rcases Nat.decEq j i with w | w
        · exact congrArg (· && decide (L j = c)) (decide_eq_decide.mpr (by omega))
        · subst w
          rw [show decide (L j = c) = false from decide_eq_false (by omega), Bool.and_false, Bool.and_false]
theorem zb_pack {post : SX → Prop} (H : zl_H f_n a_letters n L) {R0 : Nat → Nat → Bool} (hR : zr_RB a_rowBits R0) (h0 : ∀ c, c < 8 → ∀ q, R0 (6 + c) q = false) (k : ∀ rb R', zr_RB rb R' → zb_M n L R' → (∀ r, r < 6 ∨ 14 ≤ r → R' r = R0 r) → post (f_n, f_isPacked, f_runCount, f_nodes, f_codeSum, a_letters, a_countOf, a_sorted, a_parted, rb, a_wordSum, a_byteSum, a_zerosOf, a_lowWidth, a_firstPlace, a_lowPart, a_highBits, a_blockClass, a_blockNumber, a_blockSum, a_choices, a_runStart, a_runLetter, a_runBefore, a_runSame, a_lastRun, a_nodeLeft, a_nodeRight, a_weight, a_joined, a_codeLength, a_codeBits)) : wpX_packMaps post (f_n, f_isPacked, f_runCount, f_nodes, f_codeSum, a_letters, a_countOf, a_sorted, a_parted, a_rowBits, a_wordSum, a_byteSum, a_zerosOf, a_lowWidth, a_firstPlace, a_lowPart, a_highBits, a_blockClass, a_blockNumber, a_blockSum, a_choices, a_runStart, a_runLetter, a_runBefore, a_runSame, a_lastRun, a_nodeLeft, a_nodeRight, a_weight, a_joined, a_codeLength, a_codeBits) := by
  refine ⟨n + 1, zb_lp H k n 0 (by omega) a_rowBits R0 hR (fun r _ => rfl) (fun c hc j => ?_)⟩
  rw [h0 c hc j, decide_eq_false (Nat.not_lt_zero _), Bool.false_and]
theorem zb_cnt (HB : zb_M n L R) {c p : Nat} (hc : c < 8) (hp : p ≤ n) : zc (R (6 + c)) p = zc (zl_c L c) p := zc_congr fun k hk => HB c hc k (by omega)
theorem zb_rank {post : Int32 → Prop} (hn : n ≤ 200) (HR : zr_RS a_rowBits a_wordSum a_byteSum R) (HB : zb_M n L R) {c p : Nat} (hc : c < 8) (hp : p ≤ n) (k : post (nI (zc (zl_c L c) p))) : wpX_onesBefore post (f_n, f_isPacked, f_runCount, f_nodes, f_codeSum, a_letters, a_countOf, a_sorted, a_parted, a_rowBits, a_wordSum, a_byteSum, a_zerosOf, a_lowWidth, a_firstPlace, a_lowPart, a_highBits, a_blockClass, a_blockNumber, a_blockSum, a_choices, a_runStart, a_runLetter, a_runBefore, a_runSame, a_lastRun, a_nodeLeft, a_nodeRight, a_weight, a_joined, a_codeLength, a_codeBits) (6 + nI c) (nI p) :=
  zr_ones HR (r := 6 + c) (by omega) (by omega) (nI_add 6 c) rfl (by rw [zb_cnt HB hc hp]; exact k)
theorem zb_select {post : Int32 → Prop} (H : zl_H f_n a_letters n L) (HR : zr_RS a_rowBits a_wordSum a_byteSum R) (HB : zb_M n L R) {j : Nat} (hj : j < n) (k : post (nI j)) : wpX_placeOfBit post (f_n, f_isPacked, f_runCount, f_nodes, f_codeSum, a_letters, a_countOf, a_sorted, a_parted, a_rowBits, a_wordSum, a_byteSum, a_zerosOf, a_lowWidth, a_firstPlace, a_lowPart, a_highBits, a_blockClass, a_blockNumber, a_blockSum, a_choices, a_runStart, a_runLetter, a_runBefore, a_runSame, a_lastRun, a_nodeLeft, a_nodeRight, a_weight, a_joined, a_codeLength, a_codeBits) (6 + nI (L j)) 1 (nI (zc (zl_c L (L j)) j)) := by
  have h8 := H.2.1 j
  rw [← zb_cnt HB h8 (Nat.le_of_lt hj)]
  exact zr_place1 HR H.1 H.2.2.1 (r := 6 + L j) (by omega) hj (by rw [HB _ h8 j hj]; exact decide_eq_true rfl) (nI_add 6 (L j)) k
end
end
section
/-! engine 3: low and high parts -/
def zh_HB (a : Nat → Int32) (R : Nat → Nat → Bool) : Prop := ∀ r j, r < 8 → j < 416 → bt (a (r * 13 + j / 32)) (j % 32) = R r j
theorem zh_upd {a : Nat → Int32} {R : Nat → Nat → Bool} (h : zh_HB a R) {r i : Nat} (hr : r < 8) (hi : i < 416) : zh_HB (upd a (r * 13 + i / 32) (a (r * 13 + i / 32) ||| ((1 : Int32) <<< (nI (i % 32) &&& 31)))) (zr_set R r i) := by
  intro r' j hr' hj
  rcases Nat.decEq (r' * 13 + j / 32) (r * 13 + i / 32) with z | z
  · rw [pk_un z, h r' j hr' hj, zr_set_n]
    rintro ⟨rfl, rfl⟩
    exact z rfl
  · obtain ⟨e1, e2⟩ := zx_ix (w := 13) (by omega) (by omega) z
    subst e1
    rw [z, pk_us, b_or, zr_or (i % 32) (by omega) (j % 32) (by omega), ← e2, h r' j hr' hj]
    unfold zr_set
    rcases Nat.decEq j i with y | y
    · rw [decide_eq_false (by omega), decide_eq_false y]
      simp
    · subst y
      simp
theorem zt_g3' (L : Nat → Nat) (c : Nat) : zt_g L 3 c = zl_c L c := by
  have := zt_g3 L c
  rw [zt_p3] at this
  exact this
def zh_F (L : Nat → Nat) (n c : Nat) : Nat := zc (zt_b L 3 c) n
theorem zh_F_s (L : Nat → Nat) (n c : Nat) : zh_F L n (c + 1) = zh_F L n c + zc (zl_c L c) n := by
  unfold zh_F
  rw [zt_bn, zt_g3']
theorem zh_F_m (L : Nat → Nat) (n : Nat) {c c' : Nat} (h : c ≤ c') : zh_F L n c ≤ zh_F L n c' := zc_imp fun k _ hk => decide_eq_true (Nat.lt_of_lt_of_le (of_decide_eq_true hk) h)
theorem zh_F_le (L : Nat → Nat) (n c : Nat) : zh_F L n c ≤ n := zc_le _ _
/-- the high parts of one letter's places below i -/
def zh_X (L : Nat → Nat) (c w i : Nat) : Nat := i / 2 ^ w + zc (zl_c L c) i
def zh_I (L : Nat → Nat) (c w i : Nat) (B : Nat → Bool) : Prop :=
  (∀ j, j < i → L j = c → zh_X L c w j < zh_X L c w i ∧ B (zh_X L c w j) = true ∧ zc B (zh_X L c w j) = zc (zl_c L c) j) ∧
  (∀ q, zh_X L c w i ≤ q → B q = false) ∧ zc B (zh_X L c w i) = zc (zl_c L c) i
theorem zh_I_0 (L : Nat → Nat) (c w : Nat) {B : Nat → Bool} (h : ∀ q, B q = false) : zh_I L c w 0 B :=
  ⟨fun j h => absurd h (Nat.not_lt_zero _), fun q _ => h q, zc_none fun k _ => h k⟩
theorem zh_X_s (L : Nat → Nat) (c w i : Nat) : i / 2 ^ w + zc (zl_c L c) (i + 1) ≤ zh_X L c w (i + 1) := Nat.add_le_add_right (Nat.div_le_div_right (by omega)) _
theorem zh_I_n {L : Nat → Nat} {c w i : Nat} {B : Nat → Bool} (h : zh_I L c w i B) (hc : ¬ L i = c) : zh_I L c w (i + 1) B := by
  obtain ⟨a, b, d⟩ := h
  have z : zc (zl_c L c) (i + 1) = zc (zl_c L c) i := zc_f (decide_eq_false hc)
  have hx := zh_X_s L c w i
  rw [z] at hx
  have hx : zh_X L c w i ≤ zh_X L c w (i + 1) := hx
  refine ⟨?_, fun q hq => b q (by omega), ?_⟩
  · intro j hj hl
    rcases Nat.decEq j i with y | y
    · obtain ⟨h1, h2⟩ := a j (by omega) hl
      exact ⟨by omega, h2⟩
    · subst y; exact absurd hl hc
  · rw [zc_flat hx fun k h1 _ => b k h1, d, z]
theorem zh_I_y {L : Nat → Nat} {c w i : Nat} {B : Nat → Bool} (h : zh_I L c w i B) (hc : L i = c) {B' : Nat → Bool} (h1 : B' (zh_X L c w i) = true) (h2 : ∀ q, q ≠ zh_X L c w i → B' q = B q) : zh_I L c w (i + 1) B' := by
  obtain ⟨a, b, d⟩ := h
  have z : zc (zl_c L c) (i + 1) = zc (zl_c L c) i + 1 := zc_t (decide_eq_true hc)
  have hx := zh_X_s L c w i
  rw [z] at hx
  have hx : zh_X L c w i + 1 ≤ zh_X L c w (i + 1) := hx
  have hcut : ∀ x, x ≤ zh_X L c w i → zc B' x = zc B x := fun x hx => zc_congr fun k hk => h2 k (by omega)
  refine ⟨?_, fun q hq => by rw [h2 q (by omega)]; exact b q (by omega), ?_⟩
  · intro j hj hl
    rcases Nat.decEq j i with y | y
    · obtain ⟨g1, g2, g3⟩ := a j (by omega) hl
      exact ⟨by omega, by rw [h2 _ (by omega)]; exact g2, by rw [hcut _ (by omega)]; exact g3⟩
    · subst y
      exact ⟨by omega, h1, by rw [hcut _ (Nat.le_refl _)]; exact d⟩
  · rw [zc_flat hx fun k g1 _ => by rw [h2 k (by omega)]; exact b k (by omega), zc_t h1, hcut _ (Nat.le_refl _), d, z]
/-- one letter's tables -/
def zh_L (n : Nat) (L : Nat → Nat) (fp lw lp : Nat → Int32) (R : Nat → Nat → Bool) (c : Nat) : Prop :=
  fp c = nI (zh_F L n c) ∧ ∃ w, w < 8 ∧ lw c = nI w ∧ zh_I L c w n (R c) ∧ ∀ j, j < n → L j = c → lp (zh_F L n c + zc (zl_c L c) j) = nI (j % 2 ^ w)
def zh_P (n : Nat) (L : Nat → Nat) (fp lw lp hb : Nat → Int32) : Prop := ∃ R, zh_HB hb R ∧ ∀ c, c < 8 → zh_L n L fp lw lp R c
theorem zh_sh : ∀ w, w < 8 → ∀ i, i < 200 → (nI i >>> (nI w &&& 31)) = nI (i / 2 ^ w) := fun w hw i hi => pk_shrN (by omega) _ w (s_l w (by omega))
theorem zh_mk (w : Nat) (hw : w < 8) (i : Nat) (hi : i < 200) : nI i &&& (((1 : Int32) <<< (nI w &&& 31)) - 1) = nI (i % 2 ^ w) := pk_andN (by omega) w (zb_pw w hw)
theorem zh_join : ∀ w, w < 8 → ∀ j, j < 200 → (nI (j / 2 ^ w) <<< (nI w &&& 31)) ||| nI (j % 2 ^ w) = nI j := by decide +kernel
section
variable {f_n f_isPacked f_runCount f_nodes f_codeSum : Int32} {a_letters a_countOf a_sorted a_parted a_rowBits a_wordSum a_byteSum a_zerosOf a_lowWidth a_firstPlace a_lowPart a_highBits a_blockClass a_blockNumber a_blockSum a_choices a_runStart a_runLetter a_runBefore a_runSame a_lastRun a_nodeLeft a_nodeRight a_weight a_joined a_codeLength a_codeBits : Nat → Int32} {n : Nat} {L : Nat → Nat}
theorem zh_setHigh {post : SX → Prop} {R : Nat → Nat → Bool} (h : zh_HB a_highBits R) {r i : Nat} (hr : r < 8) (hi : i < 416) {x y : Int32} (hx : x = nI r) (hy : y = nI i) (k : ∀ hb, zh_HB hb (zr_set R r i) → post (f_n, f_isPacked, f_runCount, f_nodes, f_codeSum, a_letters, a_countOf, a_sorted, a_parted, a_rowBits, a_wordSum, a_byteSum, a_zerosOf, a_lowWidth, a_firstPlace, a_lowPart, hb, a_blockClass, a_blockNumber, a_blockSum, a_choices, a_runStart, a_runLetter, a_runBefore, a_runSame, a_lastRun, a_nodeLeft, a_nodeRight, a_weight, a_joined, a_codeLength, a_codeBits)) : wpX_setHigh post (f_n, f_isPacked, f_runCount, f_nodes, f_codeSum, a_letters, a_countOf, a_sorted, a_parted, a_rowBits, a_wordSum, a_byteSum, a_zerosOf, a_lowWidth, a_firstPlace, a_lowPart, a_highBits, a_blockClass, a_blockNumber, a_blockSum, a_choices, a_runStart, a_runLetter, a_runBefore, a_runSame, a_lastRun, a_nodeLeft, a_nodeRight, a_weight, a_joined, a_codeLength, a_codeBits) x y := by
  subst hx hy
  have e : (nI r * 13) + (nI i >>> ((5 : Int32) &&& 31)) = nI (r * 13 + i / 32) := by
    rw [pk_shrN (by omega) ((5 : Int32) &&& 31) 5 (by decide), show (13 : Int32) = nI 13 from rfl, pk_mul, nI_add]
  have e2 : nI i &&& 31 = nI (i % 32) := pk_andN (by omega) 5 (by decide)
  have hin : vp_in ((nI r * 13) + (nI i >>> ((5 : Int32) &&& 31))) 104 := by rw [e]; exact vp_in_nI (by omega) (by omega)
  refine And.intro hin (And.intro hin (nm_r (e' := upd a_highBits (r * 13 + i / 32) (a_highBits (r * 13 + i / 32) ||| ((1 : Int32) <<< (nI (i % 32) &&& 31)))) ?_ (k _ (zh_upd h hr hi))))
  rw [e, e2, nI_clamp (by omega)]
theorem zh_highAt {post : Int32 → Prop} {R : Nat → Nat → Bool} (h : zh_HB a_highBits R) {r i : Nat} (hr : r < 8) (hi : i < 416) {x y : Int32} (hx : x = nI r) (hy : y = nI i) (h1 : R r i = true → post 1) (h0 : R r i = false → post 0) : wpX_highAt post (f_n, f_isPacked, f_runCount, f_nodes, f_codeSum, a_letters, a_countOf, a_sorted, a_parted, a_rowBits, a_wordSum, a_byteSum, a_zerosOf, a_lowWidth, a_firstPlace, a_lowPart, a_highBits, a_blockClass, a_blockNumber, a_blockSum, a_choices, a_runStart, a_runLetter, a_runBefore, a_runSame, a_lastRun, a_nodeLeft, a_nodeRight, a_weight, a_joined, a_codeLength, a_codeBits) x y := by
  subst hx hy
  have e : (nI r * 13) + (nI i >>> ((5 : Int32) &&& 31)) = nI (r * 13 + i / 32) := by
    rw [pk_shrN (by omega) ((5 : Int32) &&& 31) 5 (by decide), show (13 : Int32) = nI 13 from rfl, pk_mul, nI_add]
  have e2 : nI i &&& 31 = nI (i % 32) := pk_andN (by omega) 5 (by decide)
  have hin : vp_in ((nI r * 13) + (nI i >>> ((5 : Int32) &&& 31))) 104 := by rw [e]; exact vp_in_nI (by omega) (by omega)
  have hb := h r i hr hi
  have hc := zb_1 (a_highBits (r * 13 + i / 32)) (s := i % 32) (by omega)
  refine And.intro hin ?_
  rw [e, e2, nI_clamp (by omega), hc, hb]
  cases hR : R r i
  · exact br_t rfl (h0 hR)
  · exact br_f (by simp) (h1 hR)
/-- what holds while letter c's places are looked at -/
def zh_J (n : Nat) (L : Nat → Nat) (fp lw : Nat → Int32) (c w i : Nat) (lp : Nat → Int32) (R : Nat → Nat → Bool) : Prop :=
  (∀ c', c' < c → zh_L n L fp lw lp R c') ∧ fp c = nI (zh_F L n c) ∧ lw c = nI w ∧ zh_I L c w i (R c) ∧ (∀ j, j < i → L j = c → lp (zh_F L n c + zc (zl_c L c) j) = nI (j % 2 ^ w)) ∧ (∀ c', c < c' → c' < 8 → ∀ q, R c' q = false)
theorem zh_J_n {fp lw lp : Nat → Int32} {c w i : Nat} {R : Nat → Nat → Bool} (h : zh_J n L fp lw c w i lp R) (hc : ¬ L i = c) : zh_J n L fp lw c w (i + 1) lp R := by
  obtain ⟨a, b, d, e, f, g⟩ := h
  refine ⟨a, b, d, zh_I_n e hc, fun j hj hl => f j ?_ hl, g⟩
  rcases Nat.decEq j i with y | y
  · omega
  · subst y; exact absurd hl hc
theorem zh_J_y {fp lw lp : Nat → Int32} {c w i : Nat} {R : Nat → Nat → Bool} (h : zh_J n L fp lw c w i lp R) (hi : i < n) (hc : L i = c) : zh_J n L fp lw c w (i + 1) (upd lp (zh_F L n c + zc (zl_c L c) i) (nI (i % 2 ^ w))) (zr_set R c (zh_X L c w i)) := by
  obtain ⟨a, b, d, e, f, g⟩ := h
  refine ⟨?_, b, d, ?_, ?_, ?_⟩
  · intro c' hc'
    obtain ⟨a1, w', a2, a3, a4, a5⟩ := a c' hc'
    refine ⟨a1, w', a2, a3, ?_, ?_⟩
    · rw [zr_set_r R (by omega)]; exact a4
    · intro j hj hl
      have y1 := zc_lt (p := zl_c L c') (j := j) (n := n) hj (decide_eq_true hl)
      have y2 := zh_F_s L n c'
      have y3 := zh_F_m L n (c := c' + 1) (c' := c) (by omega)
      rw [pk_un (by omega)]
      exact a5 j hj hl
  · exact zh_I_y e hc (zr_set_s _ _ _) (fun q hq => zr_set_n R (fun z => hq z.2))
  · intro j hj hl
    rcases Nat.decEq j i with y | y
    · have y1 := zc_lt (p := zl_c L c) (j := j) (n := i) (by omega) (decide_eq_true hl)
      rw [pk_un (by omega)]
      exact f j (by omega) hl
    · subst y; rw [pk_us]
  · intro c' h1 h2 q
    rw [zr_set_r R (by omega)]; exact g c' h1 h2 q
theorem zh_pl {post : SX → Prop} {J : _} (H : zl_H f_n a_letters n L) {c w : Nat} (hc : c < 8) (hw : w < 8) (k : ∀ lp hb R, zh_HB hb R → zh_J n L a_firstPlace a_lowWidth c w n lp R → J (nI (zh_F L n c + zc (zl_c L c) n)) (nI (c + 1)) f_n f_isPacked f_runCount f_nodes f_codeSum a_letters a_countOf a_sorted a_parted a_rowBits a_wordSum a_byteSum a_zerosOf a_lowWidth a_firstPlace lp hb a_blockClass a_blockNumber a_blockSum a_choices a_runStart a_runLetter a_runBefore a_runSame a_lastRun a_nodeLeft a_nodeRight a_weight a_joined a_codeLength a_codeBits) : ∀ (d i : Nat), i + d = n → ∀ (lp hb : Nat → Int32) (R : Nat → Nat → Bool), zh_HB hb R → zh_J n L a_firstPlace a_lowWidth c w i lp R → wX_packParts_84 post J (nI c) (nI w) (d + 1) (nI (zh_F L n c + zc (zl_c L c) i)) (nI i) f_n f_isPacked f_runCount f_nodes f_codeSum a_letters a_countOf a_sorted a_parted a_rowBits a_wordSum a_byteSum a_zerosOf a_lowWidth a_firstPlace lp hb a_blockClass a_blockNumber a_blockSum a_choices a_runStart a_runLetter a_runBefore a_runSame a_lastRun a_nodeLeft a_nodeRight a_weight a_joined a_codeLength a_codeBits
  | 0, i, hd, lp, hb, R, hR, hI => by
    have hn := H.1
    have e : i = n := by omega
    subst e
    exact pk_le i i (fun _ => nm_r (nI_1 c) (k lp hb R hR hI)) (fun h => absurd h (by omega)) H.2.2.1 rfl
  | d + 1, i, hd, lp, hb, R, hR, hI => by
    have hn := H.1
    have hLi := H.2.1 i
    refine pk_le n i (fun h => absurd h (by omega)) (fun _ => And.intro (vp_in_nI (by omega) (by omega)) ?_) H.2.2.1 rfl
    rw [nI_clamp (n := i) (by omega), H.2.2.2 i]
    refine pk_eq (L i) c (fun h => ?_) (fun h => nm_r (nI_1 i) ?_)
    · have z : zc (zl_c L c) (i + 1) = zc (zl_c L c) i + 1 := zc_t (decide_eq_true h)
      have y1 := zc_lt (p := zl_c L c) (j := i) (n := n) (by omega) (decide_eq_true h)
      have y2 := zh_F_s L n c
      have y3 := zh_F_le L n (c + 1)
      have y4 := zc_le (zl_c L c) i
      have y5 : i / 2 ^ w ≤ i := Nat.div_le_self _ _
      have e1 : (((nI i >>> (nI w &&& 31)) + nI (zh_F L n c + zc (zl_c L c) i)) - (a_firstPlace (nI c).toNatClampNeg)) = nI (zh_X L c w i) := by
        rw [zh_sh w hw i (by omega), nI_clamp (by omega), hI.2.1, nI_add]
        unfold zh_X
        clear y5
        generalize i / 2 ^ w = z5
        rw [pk_sub (by omega)]
        exact congrArg nI (by omega)
      have hX : zh_X L c w i < 416 := by unfold zh_X; omega
      refine And.intro (vp_in_nI (by omega) (by omega)) (nm_r (e' := upd lp (zh_F L n c + zc (zl_c L c) i) (nI (i % 2 ^ w))) ?_ (And.intro (vp_in_nI (by omega) (by omega)) (zh_setHigh hR hc hX rfl e1 (fun hb' hR' => nm_r (nI_1 _) (nm_r (nI_1 i) ?_)))))
      · have y6 : i % 2 ^ w ≤ i := Nat.mod_le _ _
        rw [nI_clamp (by omega), zh_mk w hw i (by omega), zn_vss (by omega)]
      · have q := zh_pl (post := post) H hc hw k d (i + 1) (by omega) _ hb' _ hR' (zh_J_y hI (by omega) h)
        rw [z] at q
        exact q
    · have z : zc (zl_c L c) (i + 1) = zc (zl_c L c) i := zc_f (decide_eq_false h)
      have q := zh_pl (post := post) H hc hw k d (i + 1) (by omega) lp hb R hR (zh_J_n hI h)
      rw [z] at q
      exact q
theorem zh_wd {post : SX → Prop} {J : _} (hn : n ≤ 200) (hf : f_n = nI n) {c m : Nat} (hc : c < 8) (hm : a_countOf c = nI m) (hm2 : m ≤ 200) {x1 : Int32} (k : ∀ w, w < 8 → wX_packParts_73 post J x1 (nI c) (nI w) f_n f_isPacked f_runCount f_nodes f_codeSum a_letters a_countOf a_sorted a_parted a_rowBits a_wordSum a_byteSum a_zerosOf a_lowWidth a_firstPlace a_lowPart a_highBits a_blockClass a_blockNumber a_blockSum a_choices a_runStart a_runLetter a_runBefore a_runSame a_lastRun a_nodeLeft a_nodeRight a_weight a_joined a_codeLength a_codeBits) : ∀ (d w : Nat), w + d = 7 → wX_packParts_41 post J x1 (nI c) f_n f_isPacked f_runCount f_nodes f_codeSum a_letters a_countOf a_sorted a_parted a_rowBits a_wordSum a_byteSum a_zerosOf a_lowWidth a_firstPlace a_lowPart a_highBits a_blockClass a_blockNumber a_blockSum a_choices a_runStart a_runLetter a_runBefore a_runSame a_lastRun a_nodeLeft a_nodeRight a_weight a_joined a_codeLength a_codeBits (d + 1) (nI w) := by
  intro d
  induction d with
  | zero =>
    intro w hd
    have e : w = 7 := by omega
    subst e
    refine And.intro (vp_in_nI hc (by omega)) ?_
    rw [nI_clamp (by omega), hm]
    refine pk_le m 0 (fun _ => k 7 (by omega)) (fun h => And.intro (vp_in_nI hc (by omega)) (br_t ?_ (k 7 (by omega))))
    rw [nI_1, pk_shlN _ 8 (s_l 8 (by omega)) (by omega), hf]
    exact nI_lt (by omega) (by omega)
  | succ d ih =>
    intro w hd
    refine And.intro (vp_in_nI hc (by omega)) ?_
    rw [nI_clamp (by omega), hm]
    refine pk_le m 0 (fun _ => k w (by omega)) (fun h => And.intro (vp_in_nI hc (by omega)) (br_c (fun _ => k w (by omega)) (fun _ => nm_r (nI_1 w) (ih (w + 1) (by omega)))))
theorem zh_lt {post : SX → Prop} (H : zl_H f_n a_letters n L) (hct : ∀ c, c < 8 → a_countOf c = nI (zc (zl_c L c) n)) (k : ∀ fp lw lp hb, zh_P n L fp lw lp hb → post (f_n, f_isPacked, f_runCount, f_nodes, f_codeSum, a_letters, a_countOf, a_sorted, a_parted, a_rowBits, a_wordSum, a_byteSum, a_zerosOf, lw, fp, lp, hb, a_blockClass, a_blockNumber, a_blockSum, a_choices, a_runStart, a_runLetter, a_runBefore, a_runSame, a_lastRun, a_nodeLeft, a_nodeRight, a_weight, a_joined, a_codeLength, a_codeBits)) : ∀ (d c : Nat), c + d = 8 → ∀ (fp lw lp hb : Nat → Int32) (R : Nat → Nat → Bool), zh_HB hb R → (∀ c', c' < c → zh_L n L fp lw lp R c') → (∀ c', c ≤ c' → c' < 8 → ∀ q, R c' q = false) → wX_packParts_25 post (d + 1) (nI (zh_F L n c)) (nI c) f_n f_isPacked f_runCount f_nodes f_codeSum a_letters a_countOf a_sorted a_parted a_rowBits a_wordSum a_byteSum a_zerosOf lw fp lp hb a_blockClass a_blockNumber a_blockSum a_choices a_runStart a_runLetter a_runBefore a_runSame a_lastRun a_nodeLeft a_nodeRight a_weight a_joined a_codeLength a_codeBits
  | 0, c, hd, fp, lw, lp, hb, R, hR, h1, h2 => by
    have e : c = 8 := by omega
    subst e
    refine pk_le 8 8 (fun _ => nm_e (k _ lw lp hb ⟨R, hR, fun c hc => ?_⟩)) (fun h => absurd h (by omega))
    obtain ⟨a1, a2⟩ := h1 c hc
    exact ⟨by rw [pk_un (by omega)]; exact a1, a2⟩
  | d + 1, c, hd, fp, lw, lp, hb, R, hR, h1, h2 => by
    have hc : c < 8 := by omega
    have hn := H.1
    have y3 := zh_F_le L n c
    have y4 := zc_le (zl_c L c) n
    refine pk_le 8 c (fun h => absurd h (by omega)) (fun _ => And.intro (vp_in_nI (by omega) (by omega)) (nm_r (e' := upd fp c (nI (zh_F L n c))) ?_ ⟨7 + 1, zh_wd H.1 H.2.2.1 hc (hct c hc) (by omega) (fun w hw => ?_) 7 0 rfl⟩))
    · rw [nI_clamp (by omega), zn_vss (by omega)]
    · refine And.intro (vp_in_nI hc (by omega)) (nm_r (e' := upd lw c (nI w)) ?_ ⟨n + 1, ?_⟩)
      · rw [nI_clamp (by omega), zn_vbb (by omega)]
      · refine zh_pl H hc hw (fun lp' hb' R' hR' hJ => ?_) n 0 (by omega) lp hb R hR ?_
        · have q := zh_lt H hct k d (c + 1) (by omega) (upd fp c (nI (zh_F L n c))) (upd lw c (nI w)) lp' hb' R' hR' ?_ (fun c' h1 h2 => hJ.2.2.2.2.2 c' (by omega) h2)
          · rw [zh_F_s] at q
            exact q
          · intro c' hc'
            rcases Nat.decEq c' c with y | y
            · exact hJ.1 c' (by omega)
            · subst y
              exact ⟨hJ.2.1, w, hw, hJ.2.2.1, hJ.2.2.2.1, hJ.2.2.2.2.1⟩
        · refine ⟨?_, pk_us, pk_us, zh_I_0 L c w (h2 c (Nat.le_refl _) hc), fun j h => absurd h (Nat.not_lt_zero _), fun c' g1 g2 => h2 c' (by omega) g2⟩
          intro c' hc'
          obtain ⟨a1, w', a2, a3, a4⟩ := h1 c' hc'
          exact ⟨by rw [pk_un (by omega)]; exact a1, w', a2, by rw [pk_un (by omega)]; exact a3, a4⟩
theorem zh_zero {post : SX → Prop} (k : ∀ hb, (∀ q, q < 104 → hb q = 0) → ∃ m, wX_packParts_25 post m 0 0 f_n f_isPacked f_runCount f_nodes f_codeSum a_letters a_countOf a_sorted a_parted a_rowBits a_wordSum a_byteSum a_zerosOf a_lowWidth a_firstPlace a_lowPart hb a_blockClass a_blockNumber a_blockSum a_choices a_runStart a_runLetter a_runBefore a_runSame a_lastRun a_nodeLeft a_nodeRight a_weight a_joined a_codeLength a_codeBits) : ∀ (d i : Nat), i + d = 104 → ∀ (hb : Nat → Int32), (∀ q, q < i → hb q = 0) → wX_packParts_2 post f_n f_isPacked f_runCount f_nodes f_codeSum (d + 1) (nI i) a_letters a_countOf a_sorted a_parted a_rowBits a_wordSum a_byteSum a_zerosOf a_lowWidth a_firstPlace a_lowPart hb a_blockClass a_blockNumber a_blockSum a_choices a_runStart a_runLetter a_runBefore a_runSame a_lastRun a_nodeLeft a_nodeRight a_weight a_joined a_codeLength a_codeBits
  | 0, i, hd, hb, h => by
    have e : i = 104 := by omega
    subst e
    exact pk_le 104 104 (fun _ => k hb h) (fun h => absurd h (by omega))
  | d + 1, i, hd, hb, h => by
    refine pk_le 104 i (fun h => absurd h (by omega)) (fun _ => And.intro (vp_in_nI (by omega) (by omega)) (nm_r (e' := upd hb i 0) ?_ (nm_r (nI_1 i) (zh_zero k d (i + 1) (by omega) _ (zu_ext (C := fun _ => 0) h rfl)))))
    rw [nI_clamp (by omega)]
theorem zh_pack {post : SX → Prop} (H : zl_H f_n a_letters n L) (hct : ∀ c, c < 8 → a_countOf c = nI (zc (zl_c L c) n)) (k : ∀ fp lw lp hb, zh_P n L fp lw lp hb → post (f_n, f_isPacked, f_runCount, f_nodes, f_codeSum, a_letters, a_countOf, a_sorted, a_parted, a_rowBits, a_wordSum, a_byteSum, a_zerosOf, lw, fp, lp, hb, a_blockClass, a_blockNumber, a_blockSum, a_choices, a_runStart, a_runLetter, a_runBefore, a_runSame, a_lastRun, a_nodeLeft, a_nodeRight, a_weight, a_joined, a_codeLength, a_codeBits)) : wpX_packParts post (f_n, f_isPacked, f_runCount, f_nodes, f_codeSum, a_letters, a_countOf, a_sorted, a_parted, a_rowBits, a_wordSum, a_byteSum, a_zerosOf, a_lowWidth, a_firstPlace, a_lowPart, a_highBits, a_blockClass, a_blockNumber, a_blockSum, a_choices, a_runStart, a_runLetter, a_runBefore, a_runSame, a_lastRun, a_nodeLeft, a_nodeRight, a_weight, a_joined, a_codeLength, a_codeBits) := by
  refine ⟨104 + 1, zh_zero (fun hb hz => ⟨8 + 1, ?_⟩) 104 0 rfl _ (fun q h => absurd h (Nat.not_lt_zero _))⟩
  have q := zh_lt H hct k 8 0 rfl a_firstPlace a_lowWidth a_lowPart hb (fun _ _ => false) (fun r j hr hj => ?_) (fun c' h => absurd h (Nat.not_lt_zero _)) (fun _ _ _ _ => rfl)
  · rw [show zh_F L n 0 = 0 from zt_b00 L 3 n] at q
    exact q
  · rw [hz _ (by omega), b_0]
/-! answers of engine 3 -/
theorem zh_sl {post : Int32 → Prop} (hn : n ≤ 200) {R : Nat → Nat → Bool} (hR : zh_HB a_highBits R) {c j w : Nat} (hc : c < 8) (hj : j < n) (hl : L j = c) (hw : w < 8) (h1 : a_firstPlace c = nI (zh_F L n c)) (h2 : a_lowWidth c = nI w) (h3 : zh_I L c w n (R c)) (h4 : a_lowPart (zh_F L n c + zc (zl_c L c) j) = nI (j % 2 ^ w)) (k : post (nI j)) : ∀ (d i : Nat), i + d = zh_X L c w j → wX_selectInParts_8 post (nI c) (nI (zc (zl_c L c) j)) f_n f_isPacked f_runCount f_nodes f_codeSum a_letters a_countOf a_sorted a_parted a_rowBits a_wordSum a_byteSum a_zerosOf a_lowWidth a_firstPlace a_lowPart a_highBits a_blockClass a_blockNumber a_blockSum a_choices a_runStart a_runLetter a_runBefore a_runSame a_lastRun a_nodeLeft a_nodeRight a_weight a_joined a_codeLength a_codeBits (d + 1 + 1) (nI i) (nI (zc (R c) i)) 1 := by
  obtain ⟨g1, g2, g3⟩ := h3.1 j hj hl
  have y4 := zc_le (zl_c L c) j
  have y5 : j / 2 ^ w ≤ j := Nat.div_le_self _ _
  have hX : zh_X L c w j < 400 := by unfold zh_X; omega
  have y1 := zc_lt (p := zl_c L c) hj (decide_eq_true hl)
  have y2 := zh_F_s L n c
  have y3 := zh_F_le L n (c + 1)
  intro d
  induction d with
  | zero =>
    intro i hd
    have e : i = zh_X L c w j := by omega
    subst e
    refine br_f (by decide) (zh_highAt hR hc (i := zh_X L c w j) (by omega) rfl rfl (fun _ => ?_) (fun h => absurd (g2.symm.trans h) (by simp)))
    refine br_f (by decide) (br_t (by rw [g3]) (br_f (by decide) (nm_e (br_t rfl (nm_r (Int32.add_zero _) (br_t rfl (And.intro (vp_in_nI hc (by omega)) (And.intro (vp_in_nI (by omega) (by omega)) ?_))))))))
    rw [nI_clamp (by omega), h1, h2, nI_add, nI_clamp (by omega), h4]
    refine And.intro (vp_in_nI (by omega) (by omega)) ?_
    have e2 : nI (zh_X L c w j) - nI (zc (zl_c L c) j) = nI (j / 2 ^ w) := by
      unfold zh_X
      rw [pk_sub (Nat.le_add_left _ _), Nat.add_sub_cancel]
    rw [e2, zh_join w hw j (by omega)]
    exact k
  | succ d ih =>
    intro i hd
    have q := ih (i + 1) (by omega)
    refine br_f (by decide) (zh_highAt hR hc (i := i) (by omega) rfl rfl (fun h => ?_) (fun h => ?_))
    · have y6 := zc_lt (p := R c) (j := i) (n := zh_X L c w j) (by omega) h
      rw [zc_t h] at q
      refine br_f (by decide) (br_f (fun z => ?_) (br_f (by decide) (nm_r (nI_1 _) (br_f (by decide) (nm_r (nI_1 i) q)))))
      rw [nI_eq (by omega) (by omega)] at z
      omega
    · rw [zc_f h] at q
      exact br_t rfl (br_t rfl (nm_r (Int32.add_zero _) (br_f (by decide) (nm_r (nI_1 i) q))))
theorem zh_select {post : Int32 → Prop} (H : zl_H f_n a_letters n L) (HP : zh_P n L a_firstPlace a_lowWidth a_lowPart a_highBits) {j : Nat} (hj : j < n) (k : post (nI j)) : wpX_selectInParts post (f_n, f_isPacked, f_runCount, f_nodes, f_codeSum, a_letters, a_countOf, a_sorted, a_parted, a_rowBits, a_wordSum, a_byteSum, a_zerosOf, a_lowWidth, a_firstPlace, a_lowPart, a_highBits, a_blockClass, a_blockNumber, a_blockSum, a_choices, a_runStart, a_runLetter, a_runBefore, a_runSame, a_lastRun, a_nodeLeft, a_nodeRight, a_weight, a_joined, a_codeLength, a_codeBits) (nI (L j)) (nI (zc (zl_c L (L j)) j)) := by
  obtain ⟨R, hR, hc⟩ := HP
  obtain ⟨h1, w, hw, h2, h3, h4⟩ := hc (L j) (H.2.1 j)
  exact ⟨_, zh_sl H.1 hR (H.2.1 j) hj rfl hw h1 h2 h3 (h4 j hj rfl) k (zh_X L (L j) w j) 0 (by omega)⟩
theorem zh_sel {post : Int32 → Prop} (H : zl_H f_n a_letters n L) (HP : zh_P n L a_firstPlace a_lowWidth a_lowPart a_highBits) {c j q : Nat} (hj : j < n) (hl : L j = c) (hz : zc (zl_c L c) j = q) (k : post (nI j)) : wpX_selectInParts post (f_n, f_isPacked, f_runCount, f_nodes, f_codeSum, a_letters, a_countOf, a_sorted, a_parted, a_rowBits, a_wordSum, a_byteSum, a_zerosOf, a_lowWidth, a_firstPlace, a_lowPart, a_highBits, a_blockClass, a_blockNumber, a_blockSum, a_choices, a_runStart, a_runLetter, a_runBefore, a_runSame, a_lastRun, a_nodeLeft, a_nodeRight, a_weight, a_joined, a_codeLength, a_codeBits) (nI c) (nI q) := by
  subst hl hz
  exact zh_select H HP hj k
theorem zh_rk {post : Int32 → Prop} (H : zl_H f_n a_letters n L) (HP : zh_P n L a_firstPlace a_lowWidth a_lowPart a_highBits) {c p : Nat} (hp : p ≤ n) (k : post (nI (zc (zl_c L c) p))) : ∀ (N lo hi : Nat), lo ≤ zc (zl_c L c) p → zc (zl_c L c) p ≤ hi → hi ≤ zc (zl_c L c) n → hi - lo < N → wX_rankInParts_10 post (nI c) (nI p) f_n f_isPacked f_runCount f_nodes f_codeSum a_letters a_countOf a_sorted a_parted a_rowBits a_wordSum a_byteSum a_zerosOf a_lowWidth a_firstPlace a_lowPart a_highBits a_blockClass a_blockNumber a_blockSum a_choices a_runStart a_runLetter a_runBefore a_runSame a_lastRun a_nodeLeft a_nodeRight a_weight a_joined a_codeLength a_codeBits N (nI lo) (nI hi)
  | 0, lo, hi, _, _, _, h => absurd h (Nat.not_lt_zero _)
  | N + 1, lo, hi, h1, h2, h3, h4 => by
    have hn := H.1
    have y := zc_le (zl_c L c) n
    refine pk_le hi lo (fun h => ?_) (fun h => And.intro (by decide) (nm_r (e' := nI ((lo + hi) / 2)) ?_ ?_))
    · rw [show lo = zc (zl_c L c) p by omega]; exact k
    · rw [nI_add]; exact pk_div (d := 2) (by omega) (by decide) (by decide)
    · obtain ⟨j, hj, hl, hz⟩ := zc_ex (p := zl_c L c) (k := (lo + hi) / 2) (n := n) (by omega)
      have hl' : L j = c := of_decide_eq_true hl
      subst hl'
      refine zh_sel H HP hj rfl hz (pk_le p j (fun z => br_t rfl (br_t rfl ?_)) (fun z => br_f (by decide) (br_f (by decide) ?_)))
      · have := zc_mono (zl_c L (L j)) z
        exact zh_rk H HP hp k N lo _ h1 (by omega) (by omega) (by omega)
      · have := zc_lt (p := zl_c L (L j)) z hl
        rw [nI_1]
        exact zh_rk H HP hp k N _ hi (by omega) h2 h3 (by omega)
theorem zh_rank {post : Int32 → Prop} (H : zl_H f_n a_letters n L) (HP : zh_P n L a_firstPlace a_lowWidth a_lowPart a_highBits) (hct : ∀ c, c < 8 → a_countOf c = nI (zc (zl_c L c) n)) {c p : Nat} (hc : c < 8) (hp : p ≤ n) (k : post (nI (zc (zl_c L c) p))) : wpX_rankInParts post (f_n, f_isPacked, f_runCount, f_nodes, f_codeSum, a_letters, a_countOf, a_sorted, a_parted, a_rowBits, a_wordSum, a_byteSum, a_zerosOf, a_lowWidth, a_firstPlace, a_lowPart, a_highBits, a_blockClass, a_blockNumber, a_blockSum, a_choices, a_runStart, a_runLetter, a_runBefore, a_runSame, a_lastRun, a_nodeLeft, a_nodeRight, a_weight, a_joined, a_codeLength, a_codeBits) (nI c) (nI p) := by
  refine And.intro (vp_in_nI hc (by omega)) (nm_r (e' := nI (zc (zl_c L c) n)) ?_ ⟨zc (zl_c L c) n + 1, zh_rk H HP hp k _ 0 _ (by omega) (zc_mono _ hp) (by omega) (by omega)⟩)
  rw [nI_clamp (by omega), hct c hc]
end
end
section
/-! engine 4: blocks of seven -/
def zk_v (q : Nat → Bool) : Nat → Nat
  | 0 => 0
  | i + 1 => zk_v q i + (if q i = true then 2 ^ i else 0)
theorem zk_lt (q : Nat → Bool) : ∀ i, zk_v q i < 2 ^ i
  | 0 => Nat.zero_lt_one
  | i + 1 => by
    have := zk_lt q i
    rw [zk_v, Nat.pow_succ]
    split <;> omega
theorem zk_pc1 : ∀ i, i < 7 → ∀ v, v < 64 → v < 2 ^ i → zp_c (v + 2 ^ i) = zp_c v + 1 := by decide +kernel
theorem zk_v64 {q : Nat → Bool} {i : Nat} (hi : i < 7) : zk_v q i < 64 := Nat.lt_of_lt_of_le (zk_lt q i) (Nat.le_trans (Nat.pow_le_pow_right (by omega) (show i ≤ 6 by omega)) (by decide))
theorem zk_pc (q : Nat → Bool) : ∀ i, i ≤ 7 → zp_c (zk_v q i) = zc q i
  | 0, _ => zp_0
  | i + 1, h => by
    have ih := zk_pc q i (by omega)
    cases hq : q i
    · rw [zc_f hq, zk_v, hq, if_neg (by simp), Nat.add_zero, ih]
    · rw [zc_t hq, zk_v, hq, if_pos rfl, zk_pc1 i (by omega) _ (zk_v64 (by omega)) (zk_lt q i), ih]
theorem zk_mod (q : Nat → Bool) (r : Nat) : ∀ d, zk_v q (r + d) % 2 ^ r = zk_v q r
  | 0 => Nat.mod_eq_of_lt (zk_lt q r)
  | d + 1 => by
    have ih := zk_mod q r d
    show zk_v q (r + d + 1) % 2 ^ r = _
    rw [zk_v]
    split
    · rw [Nat.pow_add, Nat.add_mul_mod_self_left]; exact ih
    · exact ih
theorem zk_or : ∀ i, i < 7 → ∀ v, v < 64 → v < 2 ^ i → nI v ||| ((1 : Int32) <<< (nI i &&& 31)) = nI (v + 2 ^ i) := by decide +kernel
def zk_ch : Nat → Nat → Nat
  | _, 0 => 1
  | 0, _ + 1 => 0
  | a + 1, b + 1 => zk_ch a b + zk_ch a (b + 1)
def zk_num (k : Nat) : Nat → Nat → Nat → Nat
  | 0, num, _ => num
  | d + 1, num, left => if left = 0 then num else if k / 2 ^ (6 - d) % 2 = 0 then zk_num k d num left else if d < left then zk_num k d num (left - 1) else zk_num k d (num + zk_ch d left) (left - 1)
def zk_bit : Nat → Nat → Nat → Nat → Nat
  | 0, bits, _, _ => bits
  | d + 1, bits, left, rank => if left = 0 then bits else if rank < (if d < left then 0 else zk_ch d left) then zk_bit d bits left rank else zk_bit d (bits + 2 ^ (6 - d)) (left - 1) (rank - (if d < left then 0 else zk_ch d left))
theorem zk_inv : ∀ k, k < 128 → zk_bit 7 0 (zp_c k) (zk_num k 7 0 (zp_c k)) = k ∧ zk_num k 7 0 (zp_c k) < 128 ∧ zp_c k < 8 := by decide +kernel
def zk_C (ch : Nat → Int32) : Prop := ∀ r l, r < 8 → l < 8 → ch (r * 8 + l) = nI (zk_ch r l)
theorem zk_chb : ∀ r, r < 8 → ∀ l, l < 8 → zk_ch r l < 100 := by decide +kernel
theorem zk_bitn {k : Nat} (hk : k < 128) {i : Nat} (hi : i < 7) : ((nI k >>> (nI i &&& 31)) &&& 1) = nI (k / 2 ^ i % 2) := by
  rw [pk_shrN (by omega) _ i (s_l i (by omega))]
  have : k / 2 ^ i ≤ k := Nat.div_le_self _ _
  exact pk_andN (by omega) 1 (by decide)
/-- how the numbers of a letter stand in the tables -/
def zk_q (n : Nat) (L : Nat → Nat) (c : Nat) : Nat → Bool := fun j => decide (j < n) && decide (L j = c)
def zk_b (n : Nat) (L : Nat → Nat) (c b : Nat) : Nat := zk_v (fun i => zk_q n L c (7 * b + i)) 7
def zk_S (n : Nat) (L : Nat → Nat) (k : Nat) : Int32 := nI (zc (zk_q n L (k / 31)) (7 * (k % 31)))
def zk_L (n : Nat) (L : Nat → Nat) (k : Nat) : Int32 := nI (zp_c (zk_b n L (k / 30) (k % 30)))
def zk_N (n : Nat) (L : Nat → Nat) (k : Nat) : Int32 := nI (zk_num (zk_b n L (k / 30) (k % 30)) 7 0 (zp_c (zk_b n L (k / 30) (k % 30))))
theorem zk_b128 (n : Nat) (L : Nat → Nat) (c b : Nat) : zk_b n L c b < 128 := zk_lt _ 7
theorem zk_sum (n : Nat) (L : Nat → Nat) (c b : Nat) : zc (zk_q n L c) (7 * b) + zp_c (zk_b n L c b) = zc (zk_q n L c) (7 * (b + 1)) := by
  unfold zk_b
  rw [zk_pc _ 7 (by omega), ← zc_add]
  exact congrArg (zc _) (by omega)
def zk_P (n : Nat) (L : Nat → Nat) (bs bc bn : Nat → Int32) : Prop := (∀ k, k < 248 → bs k = zk_S n L k) ∧ (∀ k, k < 240 → bc k = zk_L n L k) ∧ (∀ k, k < 240 → bn k = zk_N n L k)
section
variable {f_n f_isPacked f_runCount f_nodes f_codeSum : Int32} {a_letters a_countOf a_sorted a_parted a_rowBits a_wordSum a_byteSum a_zerosOf a_lowWidth a_firstPlace a_lowPart a_highBits a_blockClass a_blockNumber a_blockSum a_choices a_runStart a_runLetter a_runBefore a_runSame a_lastRun a_nodeLeft a_nodeRight a_weight a_joined a_codeLength a_codeBits : Nat → Int32} {n : Nat} {L : Nat → Nat}
theorem zk_bb {post : Int32 → Prop} (H : zl_H f_n a_letters n L) {c b : Nat} (hc : c < 8) (hb : b < 30) (k : post (nI (zk_b n L c b))) : ∀ (d i : Nat), i + d = 7 → wX_blockBits_5 post (nI c) (nI b) f_n f_isPacked f_runCount f_nodes f_codeSum a_letters a_countOf a_sorted a_parted a_rowBits a_wordSum a_byteSum a_zerosOf a_lowWidth a_firstPlace a_lowPart a_highBits a_blockClass a_blockNumber a_blockSum a_choices a_runStart a_runLetter a_runBefore a_runSame a_lastRun a_nodeLeft a_nodeRight a_weight a_joined a_codeLength a_codeBits (d + 1) (nI (zk_v (fun i => zk_q n L c (7 * b + i)) i)) (nI i) := by
  intro d
  induction d with
  | zero =>
    intro i hd
    have e : i = 7 := by omega
    subst e
    exact pk_le 7 7 (fun _ => k) (fun h => absurd h (by omega))
  | succ d ih =>
    intro i hd
    have q := ih (i + 1) (by omega)
    have hn := H.1
    have e1 : (nI b * 7) + nI i = nI (7 * b + i) := by
      rw [show (7 : Int32) = nI 7 from rfl, pk_mul, nI_add, Nat.mul_comm]
    refine pk_le 7 i (fun h => absurd h (by omega)) (fun _ => nm_r e1 (pk_le n (7 * b + i) (fun h => ?_) (fun h => And.intro (vp_in_nI (by omega) (by omega)) ?_) H.2.2.1 rfl))
    · rw [zk_v, if_neg (by unfold zk_q; simp; omega), Nat.add_zero] at q
      exact nm_r (Int32.or_zero) (nm_r (nI_1 i) q)
    · rw [nI_clamp (by omega), H.2.2.2]
      have hL := H.2.1 (7 * b + i)
      refine pk_eq (L (7 * b + i)) c (fun hl => ?_) (fun hl => ?_)
      · rw [zk_v, if_pos (by unfold zk_q; simp; omega)] at q
        exact nm_r (zk_or i (by omega) _ (zk_v64 (by omega)) (zk_lt _ i)) (nm_r (nI_1 i) q)
      · rw [zk_v, if_neg (by unfold zk_q; simp; omega), Nat.add_zero] at q
        exact nm_r (Int32.or_zero) (nm_r (nI_1 i) q)
theorem zk_blockBits {post : Int32 → Prop} (H : zl_H f_n a_letters n L) {c b : Nat} (hc : c < 8) (hb : b < 30) (k : post (nI (zk_b n L c b))) : wpX_blockBits post (f_n, f_isPacked, f_runCount, f_nodes, f_codeSum, a_letters, a_countOf, a_sorted, a_parted, a_rowBits, a_wordSum, a_byteSum, a_zerosOf, a_lowWidth, a_firstPlace, a_lowPart, a_highBits, a_blockClass, a_blockNumber, a_blockSum, a_choices, a_runStart, a_runLetter, a_runBefore, a_runSame, a_lastRun, a_nodeLeft, a_nodeRight, a_weight, a_joined, a_codeLength, a_codeBits) (nI c) (nI b) := ⟨7 + 1, zk_bb H hc hb k 7 0 rfl⟩
theorem zk_nl {post : Int32 → Prop} (HC : zk_C a_choices) {k : Nat} (hk : k < 128) : ∀ (d num left i : Nat), i + d = 7 → left < 8 → post (nI (zk_num k d num left)) → wX_numberOf_8 post (nI k) f_n f_isPacked f_runCount f_nodes f_codeSum a_letters a_countOf a_sorted a_parted a_rowBits a_wordSum a_byteSum a_zerosOf a_lowWidth a_firstPlace a_lowPart a_highBits a_blockClass a_blockNumber a_blockSum a_choices a_runStart a_runLetter a_runBefore a_runSame a_lastRun a_nodeLeft a_nodeRight a_weight a_joined a_codeLength a_codeBits (d + 1) (nI num) (nI left) (nI i) := by
  intro d
  induction d with
  | zero =>
    intro num left i hd _ hp
    have e : i = 7 := by omega
    subst e
    exact pk_le 7 7 (fun _ => hp) (fun h => absurd h (by omega))
  | succ d ih =>
    intro num left i hd hl hp
    have e6 : (6 : Int32) - nI i = nI d := by
      rw [show (6 : Int32) = nI 6 from rfl, pk_sub (by omega)]
      exact congrArg nI (by omega)
    rw [zk_num] at hp
    refine pk_le 7 i (fun h => absurd h (by omega)) (fun _ => pk_le left 0 (fun h => ?_) (fun h => nm_r e6 ?_))
    · rw [if_pos (by omega)] at hp; exact hp
    · rw [if_neg (by omega), show 6 - d = i by omega] at hp
      rw [zk_bitn hk (by omega)]
      refine pk_eq (k / 2 ^ i % 2) 0 (fun h2 => ?_) (fun h2 => pk_lt d left (fun h3 => ?_) (fun h3 => ?_))
      · rw [if_pos h2] at hp
        exact nm_r (nI_1 i) (ih num left (i + 1) (by omega) hl hp)
      · rw [if_neg h2, if_pos h3] at hp
        obtain ⟨l', rfl⟩ : ∃ l', left = l' + 1 := ⟨left - 1, by omega⟩
        exact nm_r (Int32.add_zero _) (nm_r (pk_m1 l') (nm_r (nI_1 i) (ih num l' (i + 1) (by omega) (by omega) hp)))
      · rw [if_neg h2, if_neg (by omega)] at hp
        obtain ⟨l', rfl⟩ : ∃ l', left = l' + 1 := ⟨left - 1, by omega⟩
        have e8 : (nI d * 8) + nI (l' + 1) = nI (d * 8 + (l' + 1)) := by
          rw [show (8 : Int32) = nI 8 from rfl, pk_mul, nI_add]
        refine And.intro (pk_in (d * 8 + (l' + 1)) 64 (by omega) e8) (nm_r (e' := nI (num + zk_ch d (l' + 1))) ?_ (nm_r (pk_m1 l') (nm_r (nI_1 i) (ih _ l' (i + 1) (by omega) (by omega) hp))))
        rw [e8, nI_clamp (by omega), HC d (l' + 1) (by omega) (by omega), nI_add]
theorem zk_numberOf {post : Int32 → Prop} (HC : zk_C a_choices) {k : Nat} (hk : k < 128) (hp : post (nI (zk_num k 7 0 (zp_c k)))) : wpX_numberOf post (f_n, f_isPacked, f_runCount, f_nodes, f_codeSum, a_letters, a_countOf, a_sorted, a_parted, a_rowBits, a_wordSum, a_byteSum, a_zerosOf, a_lowWidth, a_firstPlace, a_lowPart, a_highBits, a_blockClass, a_blockNumber, a_blockSum, a_choices, a_runStart, a_runLetter, a_runBefore, a_runSame, a_lastRun, a_nodeLeft, a_nodeRight, a_weight, a_joined, a_codeLength, a_codeBits) (nI k) (nI (zp_c k)) := ⟨7 + 1, zk_nl HC hk 7 0 (zp_c k) 0 rfl (zk_inv k hk).2.2 hp⟩
theorem zk_54 {post : Int32 → Prop} {J : _} {bits left rank i wo : Nat} (hr : rank < 200) (hwo : wo < 200) (hi : i < 7) (hb : bits < 2 ^ i) (hl : 0 < left) (h1 : rank < wo → J (nI bits) (nI left) (nI rank) (nI (i + 1))) (h2 : wo ≤ rank → J (nI (bits + 2 ^ i)) (nI (left - 1)) (nI (rank - wo)) (nI (i + 1))) : wX_bitsOf_54 post J (nI bits) (nI left) (nI rank) (nI i) (nI wo) f_n f_isPacked f_runCount f_nodes f_codeSum a_letters a_countOf a_sorted a_parted a_rowBits a_wordSum a_byteSum a_zerosOf a_lowWidth a_firstPlace a_lowPart a_highBits a_blockClass a_blockNumber a_blockSum a_choices a_runStart a_runLetter a_runBefore a_runSame a_lastRun a_nodeLeft a_nodeRight a_weight a_joined a_codeLength a_codeBits := by
  obtain ⟨l', rfl⟩ : ∃ l', left = l' + 1 := ⟨left - 1, by omega⟩
  have hb64 : bits < 64 := Nat.lt_of_lt_of_le hb (Nat.le_trans (Nat.pow_le_pow_right (by omega) (show i ≤ 6 by omega)) (by decide))
  exact pk_lt rank wo (fun h => nm_r (nI_1 i) (h1 h)) (fun h => nm_r (pk_sub h) (nm_r (zk_or i hi bits hb64 hb) (nm_r (pk_m1 l') (nm_r (nI_1 i) (h2 h)))))
theorem zk_bl {post : Int32 → Prop} (HC : zk_C a_choices) : ∀ (d bits left rank i : Nat), i + d = 7 → left < 8 → rank < 200 → bits < 2 ^ i → post (nI (zk_bit d bits left rank)) → wX_bitsOf_11 post f_n f_isPacked f_runCount f_nodes f_codeSum a_letters a_countOf a_sorted a_parted a_rowBits a_wordSum a_byteSum a_zerosOf a_lowWidth a_firstPlace a_lowPart a_highBits a_blockClass a_blockNumber a_blockSum a_choices a_runStart a_runLetter a_runBefore a_runSame a_lastRun a_nodeLeft a_nodeRight a_weight a_joined a_codeLength a_codeBits (d + 1) (nI bits) (nI left) (nI rank) (nI i) := by
  intro d
  induction d with
  | zero =>
    intro bits left rank i hd _ _ _ hp
    have e : i = 7 := by omega
    subst e
    exact pk_le 7 7 (fun _ => hp) (fun h => absurd h (by omega))
  | succ d ih =>
    intro bits left rank i hd hl hr hb hp
    have e6 : (6 : Int32) - nI i = nI d := by
      rw [show (6 : Int32) = nI 6 from rfl, pk_sub (by omega)]
      exact congrArg nI (by omega)
    rw [zk_bit] at hp
    have hpw : 2 ^ (i + 1) = 2 ^ i + 2 ^ i := by rw [Nat.pow_succ]; omega
    have hch := zk_chb d (by omega) left hl
    refine pk_le 7 i (fun h => absurd h (by omega)) (fun _ => pk_le left 0 (fun h => ?_) (fun h => nm_r e6 (pk_lt d left (fun h3 => ?_) (fun h3 => ?_))))
    · rw [if_pos (by omega)] at hp; exact hp
    · rw [if_neg (by omega), if_pos h3, if_neg (by omega), show 6 - d = i by omega] at hp
      exact zk_54 (wo := 0) hr (by omega) (by omega) hb h (fun z => absurd z (by omega)) (fun _ => ih _ _ _ (i + 1) (by omega) (by omega) (by omega) (by omega) hp)
    · rw [if_neg (show ¬ left = 0 by omega), if_neg (show ¬ d < left by omega), show 6 - d = i by omega] at hp
      have e8 : (nI d * 8) + nI left = nI (d * 8 + left) := by
        rw [show (8 : Int32) = nI 8 from rfl, pk_mul, nI_add]
      refine And.intro (pk_in (d * 8 + left) 64 (by omega) e8) ?_
      rw [e8, nI_clamp (by omega), HC d left (by omega) hl]
      refine zk_54 hr (by omega) (by omega) hb h (fun z => ?_) (fun z => ?_)
      · rw [if_pos z] at hp
        exact ih _ _ _ (i + 1) (by omega) hl hr (by omega) hp
      · rw [if_neg (by omega)] at hp
        exact ih _ _ _ (i + 1) (by omega) (by omega) (by omega) (by omega) hp
theorem zk_bitsOf {post : Int32 → Prop} (HC : zk_C a_choices) {k : Nat} (hk : k < 128) (hp : post (nI k)) : wpX_bitsOf post (f_n, f_isPacked, f_runCount, f_nodes, f_codeSum, a_letters, a_countOf, a_sorted, a_parted, a_rowBits, a_wordSum, a_byteSum, a_zerosOf, a_lowWidth, a_firstPlace, a_lowPart, a_highBits, a_blockClass, a_blockNumber, a_blockSum, a_choices, a_runStart, a_runLetter, a_runBefore, a_runSame, a_lastRun, a_nodeLeft, a_nodeRight, a_weight, a_joined, a_codeLength, a_codeBits) (nI (zk_num k 7 0 (zp_c k))) (nI (zp_c k)) := by
  obtain ⟨h1, h2, h3⟩ := zk_inv k hk
  exact ⟨7 + 1, zk_bl HC 7 0 (zp_c k) _ 0 rfl h3 (by omega) (by decide) (by rw [h1]; exact hp)⟩
theorem zk_S_at (n : Nat) (L : Nat → Nat) {c b : Nat} (hb : b < 31) : zk_S n L (c * 31 + b) = nI (zc (zk_q n L c) (7 * b)) := by
  unfold zk_S
  rw [show (c * 31 + b) / 31 = c by omega, show (c * 31 + b) % 31 = b by omega]
theorem zk_L_at (n : Nat) (L : Nat → Nat) {c b : Nat} (hb : b < 30) : zk_L n L (c * 30 + b) = nI (zp_c (zk_b n L c b)) := by
  unfold zk_L
  rw [show (c * 30 + b) / 30 = c by omega, show (c * 30 + b) % 30 = b by omega]
theorem zk_N_at (n : Nat) (L : Nat → Nat) {c b : Nat} (hb : b < 30) : zk_N n L (c * 30 + b) = nI (zk_num (zk_b n L c b) 7 0 (zp_c (zk_b n L c b))) := by
  unfold zk_N
  rw [show (c * 30 + b) / 30 = c by omega, show (c * 30 + b) % 30 = b by omega]
theorem zk_pb {post : SX → Prop} {J : _} (H : zl_H f_n a_letters n L) (HC : zk_C a_choices) {c : Nat} (hc : c < 8) (k : ∀ bs bc bn, (∀ k, k < (c + 1) * 31 → bs k = zk_S n L k) → (∀ k, k < (c + 1) * 30 → bc k = zk_L n L k) → (∀ k, k < (c + 1) * 30 → bn k = zk_N n L k) → J (nI (c + 1)) a_letters a_countOf a_sorted a_parted a_rowBits a_wordSum a_byteSum a_zerosOf a_lowWidth a_firstPlace a_lowPart a_highBits bc bn bs a_choices a_runStart a_runLetter a_runBefore a_runSame a_lastRun a_nodeLeft a_nodeRight a_weight a_joined a_codeLength a_codeBits) : ∀ (d b : Nat), b + d = 30 → ∀ (bs bc bn : Nat → Int32), (∀ k, k < c * 31 + b → bs k = zk_S n L k) → (∀ k, k < c * 30 + b → bc k = zk_L n L k) → (∀ k, k < c * 30 + b → bn k = zk_N n L k) → wX_packBlocks_12 post J (nI c) f_n f_isPacked f_runCount f_nodes f_codeSum (d + 1) (nI (zc (zk_q n L c) (7 * b))) (nI b) a_letters a_countOf a_sorted a_parted a_rowBits a_wordSum a_byteSum a_zerosOf a_lowWidth a_firstPlace a_lowPart a_highBits bc bn bs a_choices a_runStart a_runLetter a_runBefore a_runSame a_lastRun a_nodeLeft a_nodeRight a_weight a_joined a_codeLength a_codeBits
  | 0, b, hd, bs, bc, bn, h1, h2, h3 => by
    have e : b = 30 := by omega
    subst e
    have e1 : (nI c * 31) + 30 = nI (c * 31 + 30) := by
      rw [show (30 : Int32) = nI 30 from rfl, show (31 : Int32) = nI 31 from rfl, pk_mul, nI_add]
    have g := zc_le (zk_q n L c) (7 * 30)
    refine pk_le 30 30 (fun _ => And.intro (pk_in (c * 31 + 30) 248 (by omega) e1) (nm_r (e' := upd bs (c * 31 + 30) (nI (zc (zk_q n L c) (7 * 30)))) ?_ (nm_r (nI_1 c) (k _ _ _ (fun q hq => zu_ext h1 (zk_S_at n L (by omega)).symm q (by omega)) (fun q hq => h2 q (by omega)) (fun q hq => h3 q (by omega)))))) (fun h => absurd h (by omega))
    rw [e1, nI_clamp (by omega), zn_vss (by omega)]
  | d + 1, b, hd, bs, bc, bn, h1, h2, h3 => by
    have hb : b < 30 := by omega
    have hv := zk_b128 n L c b
    obtain ⟨-, i2, i3⟩ := zk_inv _ hv
    have e1 : (nI c * 31) + nI b = nI (c * 31 + b) := by
      rw [show (31 : Int32) = nI 31 from rfl, pk_mul, nI_add]
    have e2 : (nI c * 30) + nI b = nI (c * 30 + b) := by
      rw [show (30 : Int32) = nI 30 from rfl, pk_mul, nI_add]
    have g := zc_le (zk_q n L c) (7 * b)
    refine pk_le 30 b (fun h => absurd h (by omega)) (fun _ => zk_blockBits H hc hb (zp_ones (by omega) (And.intro (pk_in (c * 31 + b) 248 (by omega) e1) (nm_r (e' := upd bs (c * 31 + b) (nI (zc (zk_q n L c) (7 * b)))) ?_ (And.intro (pk_in (c * 30 + b) 240 (by omega) e2) (nm_r (e' := upd bc (c * 30 + b) (nI (zp_c (zk_b n L c b)))) ?_ (zk_numberOf HC hv (And.intro (pk_in (c * 30 + b) 240 (by omega) e2) (nm_r (e' := upd bn (c * 30 + b) (nI (zk_num (zk_b n L c b) 7 0 (zp_c (zk_b n L c b))))) ?_ (nm_r (e' := nI (zc (zk_q n L c) (7 * (b + 1)))) ?_ (nm_r (nI_1 b) (zk_pb H HC hc k d (b + 1) (by omega) _ _ _ (zu_ext h1 (zk_S_at n L (by omega)).symm) (zu_ext h2 (zk_L_at n L hb).symm) (zu_ext h3 (zk_N_at n L hb).symm)))))))))))))
    · rw [e1, nI_clamp (by omega), zn_vss (by omega)]
    · rw [e2, nI_clamp (by omega), zn_vbb (by omega)]
    · rw [e2, nI_clamp (by omega), zn_vbb (by omega)]
    · rw [nI_add, zk_sum]
theorem zk_po {post : SX → Prop} (H : zl_H f_n a_letters n L) (HC : zk_C a_choices) (k : ∀ bs bc bn, zk_P n L bs bc bn → post (f_n, f_isPacked, f_runCount, f_nodes, f_codeSum, a_letters, a_countOf, a_sorted, a_parted, a_rowBits, a_wordSum, a_byteSum, a_zerosOf, a_lowWidth, a_firstPlace, a_lowPart, a_highBits, bc, bn, bs, a_choices, a_runStart, a_runLetter, a_runBefore, a_runSame, a_lastRun, a_nodeLeft, a_nodeRight, a_weight, a_joined, a_codeLength, a_codeBits)) : ∀ (d c : Nat), c + d = 8 → ∀ (bs bc bn : Nat → Int32), (∀ k, k < c * 31 → bs k = zk_S n L k) → (∀ k, k < c * 30 → bc k = zk_L n L k) → (∀ k, k < c * 30 → bn k = zk_N n L k) → wX_packBlocks_2 post f_n f_isPacked f_runCount f_nodes f_codeSum (d + 1) (nI c) a_letters a_countOf a_sorted a_parted a_rowBits a_wordSum a_byteSum a_zerosOf a_lowWidth a_firstPlace a_lowPart a_highBits bc bn bs a_choices a_runStart a_runLetter a_runBefore a_runSame a_lastRun a_nodeLeft a_nodeRight a_weight a_joined a_codeLength a_codeBits
  | 0, c, hd, bs, bc, bn, h1, h2, h3 => by
    have e : c = 8 := by omega
    subst e
    exact pk_le 8 8 (fun _ => k _ _ _ ⟨h1, h2, h3⟩) (fun h => absurd h (by omega))
  | d + 1, c, hd, bs, bc, bn, h1, h2, h3 =>
    pk_le 8 c (fun h => absurd h (by omega)) (fun _ => ⟨30 + 1, zk_pb H HC (by omega) (fun bs' bc' bn' g1 g2 g3 => zk_po H HC k d (c + 1) (by omega) bs' bc' bn' g1 g2 g3) 30 0 rfl bs bc bn h1 h2 h3⟩)
theorem zk_pack {post : SX → Prop} (H : zl_H f_n a_letters n L) (HC : zk_C a_choices) (k : ∀ bs bc bn, zk_P n L bs bc bn → post (f_n, f_isPacked, f_runCount, f_nodes, f_codeSum, a_letters, a_countOf, a_sorted, a_parted, a_rowBits, a_wordSum, a_byteSum, a_zerosOf, a_lowWidth, a_firstPlace, a_lowPart, a_highBits, bc, bn, bs, a_choices, a_runStart, a_runLetter, a_runBefore, a_runSame, a_lastRun, a_nodeLeft, a_nodeRight, a_weight, a_joined, a_codeLength, a_codeBits)) : wpX_packBlocks post (f_n, f_isPacked, f_runCount, f_nodes, f_codeSum, a_letters, a_countOf, a_sorted, a_parted, a_rowBits, a_wordSum, a_byteSum, a_zerosOf, a_lowWidth, a_firstPlace, a_lowPart, a_highBits, a_blockClass, a_blockNumber, a_blockSum, a_choices, a_runStart, a_runLetter, a_runBefore, a_runSame, a_lastRun, a_nodeLeft, a_nodeRight, a_weight, a_joined, a_codeLength, a_codeBits) :=
  ⟨8 + 1, zk_po H HC k 8 0 rfl _ _ _ (fun k h => absurd h (by omega)) (fun k h => absurd h (by omega)) (fun k h => absurd h (by omega))⟩
theorem zk_rank {post : Int32 → Prop} (hn : n ≤ 200) (HC : zk_C a_choices) (HK : zk_P n L a_blockSum a_blockClass a_blockNumber) {c p : Nat} (hc : c < 8) (hp : p ≤ n) (k : post (nI (zc (zl_c L c) p))) : wpX_rankInBlocks post (f_n, f_isPacked, f_runCount, f_nodes, f_codeSum, a_letters, a_countOf, a_sorted, a_parted, a_rowBits, a_wordSum, a_byteSum, a_zerosOf, a_lowWidth, a_firstPlace, a_lowPart, a_highBits, a_blockClass, a_blockNumber, a_blockSum, a_choices, a_runStart, a_runLetter, a_runBefore, a_runSame, a_lastRun, a_nodeLeft, a_nodeRight, a_weight, a_joined, a_codeLength, a_codeBits) (nI c) (nI p) := by
  obtain ⟨h1, h2, h3⟩ := HK
  have e1 : nI p / 7 = nI (p / 7) := pk_div (d := 7) (by omega) (by decide) (by decide)
  have e2 : nI p - nI p / 7 * 7 = nI (p % 7) := pk_rem (d := 7) (by omega) (by decide) (by decide)
  have e3 : (nI c * 30) + nI (p / 7) = nI (c * 30 + p / 7) := by
    rw [show (30 : Int32) = nI 30 from rfl, pk_mul, nI_add]
  have e4 : (nI c * 31) + nI (p / 7) = nI (c * 31 + p / 7) := by
    rw [show (31 : Int32) = nI 31 from rfl, pk_mul, nI_add]
  have hin : vp_in ((nI c * 30) + nI (p / 7)) 240 := pk_in (c * 30 + p / 7) 240 (by omega) e3
  refine And.intro (by decide) (nm_r e1 (And.intro (by decide) (nm_r e2 (And.intro hin (And.intro hin ?_)))))
  rw [e3, nI_clamp (by omega), h2 _ (by omega), h3 _ (by omega), zk_L_at n L (by omega), zk_N_at n L (by omega)]
  refine zk_bitsOf HC (zk_b128 n L c (p / 7)) (And.intro (pk_in (c * 31 + p / 7) 248 (by omega) e4) ?_)
  have hv := zk_b128 n L c (p / 7)
  have hr : p % 7 < 8 := by omega
  rw [pk_andN (by omega) (p % 7) (zb_pw _ hr)]
  have em : zk_b n L c (p / 7) % 2 ^ (p % 7) = zk_v (fun i => zk_q n L c (7 * (p / 7) + i)) (p % 7) := by
    have := zk_mod (fun i => zk_q n L c (7 * (p / 7) + i)) (p % 7) (7 - p % 7)
    rw [show p % 7 + (7 - p % 7) = 7 by omega] at this
    exact this
  rw [em]
  refine zp_ones (Nat.lt_trans (zk_v64 (by omega)) (by decide)) ?_
  rw [zk_pc _ _ (by omega), e4, nI_clamp (by omega), h1 _ (by omega), zk_S_at n L (by omega), nI_add, ← zc_add, show 7 * (p / 7) + p % 7 = p by omega]
  rw [show zc (zk_q n L c) p = zc (zl_c L c) p from zc_congr fun j hj => by unfold zk_q zl_c; rw [decide_eq_true (show j < n by omega), Bool.true_and]]
  exact k
end
end
section
/-! engine 5: runs. st r: where run r begins; st m: how far the list was looked at -/
def zq_new (L : Nat → Nat) : Nat → Bool := fun j => decide (j = 0) || decide (L j ≠ L (j - 1))
def zq_last (L st : Nat → Nat) (c r : Nat) (x : Int32) : Prop := (x = -1 ∧ ∀ r', r' < r → L (st r') ≠ c) ∨ ∃ q, q < r ∧ x = nI q ∧ L (st q) = c ∧ ∀ r', q < r' → r' < r → L (st r') ≠ c
/-- the runs, purely -/
def zq_R (L st : Nat → Nat) (m i : Nat) : Prop := m = zc (zq_new L) i ∧ st 0 = 0 ∧ st m = i ∧ (∀ r, r < m → st r < st (r + 1)) ∧ (∀ r q, r < m → st r ≤ q → q < st (r + 1) → L q = L (st r))
def zq_A (L st : Nat → Nat) (m : Nat) (rs rl rb rsm lr : Nat → Int32) : Prop :=
  (∀ r, r < m → rs r = nI (st r) ∧ rl r = nI (L (st r)) ∧ rb r = nI (zc (zl_c L (L (st r))) (st r)) ∧ zq_last L st (L (st r)) r (rsm r)) ∧ (∀ c, c < 8 → zq_last L st c m (lr c))
theorem zq_mono {L st : Nat → Nat} {m i : Nat} (h : zq_R L st m i) {a b : Nat} (hab : a ≤ b) (hb : b ≤ m) : st a ≤ st b := by
  obtain ⟨d, rfl⟩ : ∃ d, b = a + d := ⟨b - a, by omega⟩
  clear hab
  induction d with
  | zero => exact Nat.le_refl _
  | succ d ih =>
    have := h.2.2.2.1 (a + d) (by omega)
    have := ih (by omega)
    show st a ≤ st (a + d + 1)
    omega
theorem zq_find {L st : Nat → Nat} {m i : Nat} (h : zq_R L st m i) {q : Nat} (hq : q < i) : ∃ r, r < m ∧ st r ≤ q ∧ q < st (r + 1) := by
  have key : ∀ k, k ≤ m → q < st k → ∃ r, r < k ∧ st r ≤ q ∧ q < st (r + 1) := by
    intro k
    induction k with
    | zero => intro _ h0; rw [h.2.1] at h0; omega
    | succ k ih =>
      intro hk h1
      rcases Nat.lt_or_ge q (st k) with z | z
      · obtain ⟨r, a, b⟩ := ih (by omega) z
        exact ⟨r, by omega, b⟩
      · exact ⟨k, by omega, z, h1⟩
  exact key m (Nat.le_refl _) (by rw [h.2.2.1]; exact hq)
/-- no run of c from run a on: none of its places either -/
theorem zq_flat {L st : Nat → Nat} {m i c a : Nat} (h : zq_R L st m i) (ha : a ≤ m) (hc : ∀ r, a ≤ r → r < m → L (st r) ≠ c) : zc (zl_c L c) i = zc (zl_c L c) (st a) := by
  have h1 := zq_mono h ha (Nat.le_refl m)
  rw [h.2.2.1] at h1
  refine zc_flat h1 fun q g1 g2 => ?_
  obtain ⟨r, r1, r2, r3⟩ := zq_find h g2
  have hr : a ≤ r := by
    rcases Nat.lt_or_ge r a with z | z
    · have := zq_mono h (a := r + 1) (b := a) (by omega) ha; omega
    · exact z
  refine decide_eq_false ?_
  rw [h.2.2.2.2 r q r1 r2 r3]
  exact hc r hr r1
theorem zq_R0 (L : Nat → Nat) : zq_R L (fun _ => 0) 0 0 := ⟨rfl, rfl, rfl, fun r h => absurd h (Nat.not_lt_zero _), fun r q h => absurd h (Nat.not_lt_zero _)⟩
def zq_st (st : Nat → Nat) (k v : Nat) : Nat → Nat := fun r => if r = k then v else st r
theorem zq_st_s (st : Nat → Nat) (k v : Nat) : zq_st st k v k = v := if_pos rfl
theorem zq_st_n (st : Nat → Nat) {k v r : Nat} (h : r ≠ k) : zq_st st k v r = st r := if_neg h
theorem zq_pos {L st : Nat → Nat} {m i : Nat} (h : zq_R L st m i) (hi : 0 < i) : 0 < m := by
  rw [h.1]
  have := zc_mono (zq_new L) (i := 0 + 1) (j := i) hi
  rw [zc_t (p := zq_new L) (k := 0) rfl] at this
  omega
theorem zq_skip {L st : Nat → Nat} {m i : Nat} (h : zq_R L st m i) (hi : 0 < i) (hl : L i = L (i - 1)) : zq_R L (zq_st st m (i + 1)) m (i + 1) := by
  have hm := zq_pos h hi
  obtain ⟨a, b, c, d, e⟩ := h
  have hz : zq_new L i = false := by
    unfold zq_new
    rw [decide_eq_false (by omega), decide_eq_false (by omega)]; rfl
  refine ⟨by rw [zc_f hz]; exact a, by rw [zq_st_n st (by omega)]; exact b, zq_st_s _ _ _, ?_, ?_⟩
  · intro r hr
    rw [zq_st_n st (by omega)]
    rcases Nat.decEq (r + 1) m with y | y
    · rw [zq_st_n st y]; exact d r hr
    · rw [y, zq_st_s]
      have := d r hr
      rw [y, c] at this
      omega
  · intro r q hr h1 h2
    rw [zq_st_n st (by omega)] at h1 ⊢
    rcases Nat.decEq (r + 1) m with y | y
    · rw [zq_st_n st y] at h2; exact e r q hr h1 h2
    · rw [y, zq_st_s] at h2
      have hlt := d r hr
      rw [y, c] at hlt
      rcases Nat.decEq q i with w | w
      · exact e r q hr h1 (by rw [y, c]; omega)
      · rw [w, hl]; exact e r (i - 1) hr (by omega) (by rw [y, c]; omega)
theorem zq_newrun {L st : Nat → Nat} {m i : Nat} (h : zq_R L st m i) (hz : zq_new L i = true) : zq_R L (zq_st st (m + 1) (i + 1)) (m + 1) (i + 1) := by
  obtain ⟨a, b, c, d, e⟩ := h
  refine ⟨by rw [zc_t hz, a], by rw [zq_st_n st (by omega)]; exact b, zq_st_s _ _ _, ?_, ?_⟩
  · intro r hr
    rw [zq_st_n st (by omega)]
    rcases Nat.decEq (r + 1) (m + 1) with y | y
    · rw [zq_st_n st y]; exact d r (by omega)
    · rw [y, zq_st_s, show r = m by omega, c]
      omega
  · intro r q hr h1 h2
    rw [zq_st_n st (by omega)] at h1 ⊢
    rcases Nat.decEq (r + 1) (m + 1) with y | y
    · rw [zq_st_n st y] at h2; exact e r q (by omega) h1 h2
    · rw [y, zq_st_s] at h2
      have hr' : r = m := by omega
      subst hr'
      rw [c] at h1 ⊢
      rw [show q = i by omega]
/-- the tables depend on the starts below m alone -/
theorem zq_last_c {L st st' : Nat → Nat} {c r : Nat} {x : Int32} (h : zq_last L st c r x) (hs : ∀ r', r' < r → st' r' = st r') : zq_last L st' c r x := by
  rcases h with ⟨a, b⟩ | ⟨q, a, b, d, e⟩
  · exact Or.inl ⟨a, fun r' h' => by rw [hs r' h']; exact b r' h'⟩
  · exact Or.inr ⟨q, a, b, by rw [hs q a]; exact d, fun r' h1 h2 => by rw [hs r' h2]; exact e r' h1 h2⟩
theorem zq_A_c {L st st' : Nat → Nat} {m : Nat} {rs rl rb rsm lr : Nat → Int32} (h : zq_A L st m rs rl rb rsm lr) (hs : ∀ r', r' < m → st' r' = st r') : zq_A L st' m rs rl rb rsm lr := by
  refine ⟨fun r hr => ?_, fun c hc => zq_last_c (h.2 c hc) hs⟩
  obtain ⟨a, b, d, e⟩ := h.1 r hr
  rw [hs r hr]
  exact ⟨a, b, d, zq_last_c e (fun r' h' => hs r' (by omega))⟩
/-- the same letter's places before run m -/
theorem zq_bef {L st : Nat → Nat} {m i c : Nat} {x : Int32} (h : zq_R L st m i) (hx : zq_last L st c m x) : (x = -1 ∧ zc (zl_c L c) i = 0) ∨ ∃ q, q < m ∧ x = nI q ∧ L (st q) = c ∧ zc (zl_c L c) (st q) + (st (q + 1) - st q) = zc (zl_c L c) i := by
  rcases hx with ⟨a, b⟩ | ⟨q, a, b, d, e⟩
  · refine Or.inl ⟨a, ?_⟩
    rw [zq_flat h (a := 0) (by omega) (fun r _ hr => b r hr), h.2.1]; rfl
  · refine Or.inr ⟨q, a, b, d, ?_⟩
    rw [zq_flat h (a := q + 1) (by omega) (fun r h1 h2 => e r (by omega) h2)]
    exact (zc_full (Nat.le_of_lt (h.2.2.2.1 q a)) fun k h1 h2 => decide_eq_true ((h.2.2.2.2 q k a h1 h2).trans d)).symm
theorem zq_A_new {L st : Nat → Nat} {m i : Nat} {rs rl rb rsm lr : Nat → Int32} (hR : zq_R L st m i) (h : zq_A L st m rs rl rb rsm lr) {y : Int32} : zq_A L (zq_st st (m + 1) (i + 1)) (m + 1) (upd (upd rs m (nI i)) (m + 1) y) (upd rl m (nI (L i))) (upd rb m (nI (zc (zl_c L (L i)) i))) (upd rsm m (lr (L i))) (upd lr (L i) (nI m)) ∨ ¬ L i < 8 := by
  rcases Nat.lt_or_ge (L i) 8 with h8 | h8
  · refine Or.inl (zq_A_c (st := st) ⟨?_, ?_⟩ (fun r hr => zq_st_n st (by omega)))
    · intro r hr
      rcases Nat.decEq r m with z | z
      · obtain ⟨a, b, d, e⟩ := h.1 r (by omega)
        rw [pk_un (by omega), pk_un z, pk_un z, pk_un z, pk_un z]
        exact ⟨a, b, d, e⟩
      · subst z
        rw [pk_un (by omega), pk_us, pk_us, pk_us, pk_us, hR.2.2.1]
        exact ⟨rfl, rfl, rfl, h.2 _ h8⟩
    · intro c hc
      rcases Nat.decEq c (L i) with z | z
      · rw [pk_un z]
        rcases h.2 c hc with ⟨a, b⟩ | ⟨q, a, b, d, e⟩
        · refine Or.inl ⟨a, fun r' h' => ?_⟩
          rcases Nat.decEq r' m with w | w
          · exact b r' (by omega)
          · rw [w, hR.2.2.1]; exact fun z' => z z'.symm
        · refine Or.inr ⟨q, by omega, b, d, fun r' h1 h2 => ?_⟩
          rcases Nat.decEq r' m with w | w
          · exact e r' h1 (by omega)
          · rw [w, hR.2.2.1]; exact fun z' => z z'.symm
      · subst z
        rw [pk_us]
        exact Or.inr ⟨m, by omega, rfl, by rw [hR.2.2.1], fun r' h1 h2 => by omega⟩
  · exact Or.inr (by omega)
/-- what the packed tables say; x is the count of runs -/
def zq_P (n : Nat) (L : Nat → Nat) (x : Int32) (rs rl rb rsm lr : Nat → Int32) : Prop := ∃ m st, x = nI m ∧ zq_R L st m n ∧ zq_A L st m rs rl rb rsm lr ∧ (0 < m → rs m = nI n)
section
variable {f_n f_isPacked f_runCount f_nodes f_codeSum : Int32} {a_letters a_countOf a_sorted a_parted a_rowBits a_wordSum a_byteSum a_zerosOf a_lowWidth a_firstPlace a_lowPart a_highBits a_blockClass a_blockNumber a_blockSum a_choices a_runStart a_runLetter a_runBefore a_runSame a_lastRun a_nodeLeft a_nodeRight a_weight a_joined a_codeLength a_codeBits : Nat → Int32} {n : Nat} {L : Nat → Nat}
theorem zq_142 {post : SX → Prop} {J : _} (H : zl_H f_n a_letters n L) {i m v : Nat} (hi : i < n) (hm : m ≤ i) (hv : v ≤ i) {z0 : Int32} (hz : z0 = nI v) (hf : f_runCount = nI m) (k : J (nI (i + 1)) (nI (m + 1)) a_letters a_countOf a_sorted a_parted a_rowBits a_wordSum a_byteSum a_zerosOf a_lowWidth a_firstPlace a_lowPart a_highBits a_blockClass a_blockNumber a_blockSum a_choices (upd a_runStart (m + 1) (nI n)) a_runLetter (upd a_runBefore m (nI v)) a_runSame (upd a_lastRun (L i) (nI m)) a_nodeLeft a_nodeRight a_weight a_joined a_codeLength a_codeBits) : wX_packRuns_142 post J (nI i) (nI (L i)) z0 f_runCount f_n f_isPacked f_runCount f_nodes f_codeSum a_letters a_countOf a_sorted a_parted a_rowBits a_wordSum a_byteSum a_zerosOf a_lowWidth a_firstPlace a_lowPart a_highBits a_blockClass a_blockNumber a_blockSum a_choices a_runStart a_runLetter a_runBefore a_runSame a_lastRun a_nodeLeft a_nodeRight a_weight a_joined a_codeLength a_codeBits := by
  subst hz hf
  have hn := H.1
  have hL := H.2.1 i
  refine And.intro (vp_in_nI (by omega) (by omega)) (nm_r (e' := upd a_runBefore m (nI v)) ?_ (And.intro (vp_in_nI hL (by omega)) (nm_r (e' := upd a_lastRun (L i) (nI m)) ?_ (nm_r (nI_1 m) (And.intro (vp_in_nI (by omega) (by omega)) (nm_r (e' := upd a_runStart (m + 1) (nI n)) ?_ (nm_r (nI_1 i) k)))))))
  · rw [nI_clamp (by omega), zn_vss (by omega)]
  · rw [nI_clamp (by omega), zn_vss (by omega)]
  · rw [nI_clamp (by omega), H.2.2.1, zn_vss (by omega)]
theorem zq_57 {post : SX → Prop} {J : _} (H : zl_H f_n a_letters n L) {i m : Nat} (hi : i < n) {st : Nat → Nat} (hR : zq_R L st m i) (hA : zq_A L st m a_runStart a_runLetter a_runBefore a_runSame a_lastRun) (hf : f_runCount = nI m) (k : J (nI (i + 1)) (nI (m + 1)) a_letters a_countOf a_sorted a_parted a_rowBits a_wordSum a_byteSum a_zerosOf a_lowWidth a_firstPlace a_lowPart a_highBits a_blockClass a_blockNumber a_blockSum a_choices (upd (upd a_runStart m (nI i)) (m + 1) (nI n)) (upd a_runLetter m (nI (L i))) (upd a_runBefore m (nI (zc (zl_c L (L i)) i))) (upd a_runSame m (a_lastRun (L i))) (upd a_lastRun (L i) (nI m)) a_nodeLeft a_nodeRight a_weight a_joined a_codeLength a_codeBits) : wX_packRuns_57 post J (nI i) f_n f_isPacked f_runCount f_nodes f_codeSum a_letters a_countOf a_sorted a_parted a_rowBits a_wordSum a_byteSum a_zerosOf a_lowWidth a_firstPlace a_lowPart a_highBits a_blockClass a_blockNumber a_blockSum a_choices a_runStart a_runLetter a_runBefore a_runSame a_lastRun a_nodeLeft a_nodeRight a_weight a_joined a_codeLength a_codeBits := by
  have hn := H.1
  have hL := H.2.1 i
  have hmi : m ≤ i := by rw [hR.1]; exact zc_le _ _
  have hx := hA.2 (L i) hL
  have hbf := zq_bef hR hx
  have e1 : a_letters (nI i).toNatClampNeg = nI (L i) := by rw [nI_clamp (by omega)]; exact H.2.2.2 i
  have hc := zc_le (zl_c L (L i)) i
  have hsm : vp_nar .short (a_lastRun (L i)).toInt16.toInt32 = a_lastRun (L i) := by
    rcases hbf with ⟨a, -⟩ | ⟨q, a, b, -⟩
    · rw [a]; exact zn_m1s
    · rw [b]; exact zn_vss (by omega)
  have hv : vp_in f_runCount 200 := by rw [hf]; exact vp_in_nI (by omega) (by omega)
  have hcl : f_runCount.toNatClampNeg = m := by rw [hf]; exact nI_clamp (by omega)
  refine And.intro (vp_in_nI (by omega) (by omega)) (nm_r e1 (And.intro (vp_in_nI hL (by omega)) (nm_r (e' := a_lastRun (L i)) (by rw [nI_clamp (by omega)]) (And.intro (by rw [hf]; exact vp_in_nI (by omega) (by omega)) (nm_r (e' := upd a_runStart m (nI i)) ?_ (And.intro hv (nm_r (e' := upd a_runLetter m (nI (L i))) ?_ (And.intro hv (nm_r (e' := upd a_runSame m (a_lastRun (L i))) ?_ ?_)))))))))
  · rw [hcl, zn_vss (by omega)]
  · rw [hcl, zn_vbb (by omega)]
  · rw [hcl, hsm]
  · rcases hbf with ⟨a, b⟩ | ⟨q, a, b, c, d⟩
    · rw [a]
      refine br_f (by decide) ?_
      refine zq_142 H hi hmi (v := zc (zl_c L (L i)) i) hc (by rw [b]; rfl) hf ?_
      rw [← a]
      exact k
    · rw [b]
      have hq1 := (hA.1 q a).1
      have hq3 := (hA.1 q a).2.2.1
      rw [c] at hq3
      have hlt := hR.2.2.2.1 q a
      have hle := zq_mono hR (a := q + 1) (b := m) (by omega) (Nat.le_refl _)
      rw [hR.2.2.1] at hle
      have hle2 := zc_le (zl_c L (L i)) (st q)
      refine br_t (nI_pos' (by omega)) (And.intro (vp_in_nI (by omega) (by omega)) (And.intro (by rw [nI_1]; exact vp_in_nI (by omega) (by omega)) (And.intro (vp_in_nI (by omega) (by omega)) ?_)))
      refine zq_142 H hi hmi (v := zc (zl_c L (L i)) i) hc ?_ hf ?_
      · have e2 : upd a_runStart m (nI i) (q + 1) = nI (st (q + 1)) := by
          rcases Nat.decEq (q + 1) m with y | y
          · rw [pk_un y]; exact (hA.1 (q + 1) (by omega)).1
          · rw [y, pk_us, hR.2.2.1]
        rw [nI_1, nI_clamp (by omega), nI_clamp (by omega), e2, pk_un (by omega), hq1, hq3, nI_add, pk_sub (by omega)]
        exact congrArg nI (by omega)
      · rw [← b]
        exact k
theorem zq_lp {post : SX → Prop} (H : zl_H f_n a_letters n L) (k : ∀ x rs rl rb rsm lr, zq_P n L x rs rl rb rsm lr → post (f_n, f_isPacked, x, f_nodes, f_codeSum, a_letters, a_countOf, a_sorted, a_parted, a_rowBits, a_wordSum, a_byteSum, a_zerosOf, a_lowWidth, a_firstPlace, a_lowPart, a_highBits, a_blockClass, a_blockNumber, a_blockSum, a_choices, rs, rl, rb, rsm, lr, a_nodeLeft, a_nodeRight, a_weight, a_joined, a_codeLength, a_codeBits)) : ∀ (d i : Nat), i + d = n → ∀ (m : Nat) (st : Nat → Nat) (rs rl rb rsm lr : Nat → Int32), zq_R L st m i → zq_A L st m rs rl rb rsm lr → (0 < m → rs m = nI n) → wX_packRuns_28 post f_n f_isPacked f_nodes f_codeSum (d + 1) (nI i) (nI m) a_letters a_countOf a_sorted a_parted a_rowBits a_wordSum a_byteSum a_zerosOf a_lowWidth a_firstPlace a_lowPart a_highBits a_blockClass a_blockNumber a_blockSum a_choices rs rl rb rsm lr a_nodeLeft a_nodeRight a_weight a_joined a_codeLength a_codeBits
  | 0, i, hd, m, st, rs, rl, rb, rsm, lr, h1, h2, h3 => by
    have hn := H.1
    have e : i = n := by omega
    subst e
    exact pk_le i i (fun _ => k _ _ _ _ _ _ ⟨m, st, rfl, h1, h2, h3⟩) (fun h => absurd h (by omega)) H.2.2.1 rfl
  | d + 1, i, hd, m, st, rs, rl, rb, rsm, lr, h1, h2, h3 => by
    have hn := H.1
    have hLi := H.2.1 i
    have step : zq_new L i = true → wX_packRuns_57 post (wX_packRuns_28 post f_n f_isPacked f_nodes f_codeSum (d + 1)) (nI i) f_n f_isPacked (nI m) f_nodes f_codeSum a_letters a_countOf a_sorted a_parted a_rowBits a_wordSum a_byteSum a_zerosOf a_lowWidth a_firstPlace a_lowPart a_highBits a_blockClass a_blockNumber a_blockSum a_choices rs rl rb rsm lr a_nodeLeft a_nodeRight a_weight a_joined a_codeLength a_codeBits := fun hz =>
      zq_57 H (by omega) h1 h2 rfl (zq_lp H k d (i + 1) (by omega) (m + 1) _ _ _ _ _ _ (zq_newrun h1 hz) ((zq_A_new h1 h2).resolve_right (fun z => z hLi)) (fun _ => pk_us))
    refine pk_le n i (fun h => absurd h (by omega)) (fun _ => pk_eq i 0 (fun h => step ?_) (fun h => And.intro (vp_in_nI (by omega) (by omega)) (And.intro ?_ ?_))) H.2.2.1 rfl
    · unfold zq_new; rw [decide_eq_true h]; rfl
    · obtain ⟨i', rfl⟩ : ∃ i', i = i' + 1 := ⟨i - 1, by omega⟩
      rw [nI_pred]; exact vp_in_nI (by omega) (by omega)
    · have e2 : nI i - 1 = nI (i - 1) := pk_sub (a := i) (b := 1) (by omega)
      rw [e2, nI_clamp (by omega), nI_clamp (by omega), H.2.2.2, H.2.2.2]
      have hLj := H.2.1 (i - 1)
      refine pk_eq (L i) (L (i - 1)) (fun h' => nm_r (nI_1 i) ?_) (fun h' => step ?_)
      · refine zq_lp H k d (i + 1) (by omega) m _ rs rl rb rsm lr (zq_skip h1 (by omega) h') (zq_A_c h2 (fun r hr => zq_st_n st (by omega))) h3
      · unfold zq_new; rw [decide_eq_true h', Bool.or_true]
theorem zq_7 {post : SX → Prop} (k : ∀ lr, (∀ q, q < 8 → lr q = -1) → ∃ N, wX_packRuns_28 post f_n f_isPacked f_nodes f_codeSum N 0 f_runCount a_letters a_countOf a_sorted a_parted a_rowBits a_wordSum a_byteSum a_zerosOf a_lowWidth a_firstPlace a_lowPart a_highBits a_blockClass a_blockNumber a_blockSum a_choices a_runStart a_runLetter a_runBefore a_runSame lr a_nodeLeft a_nodeRight a_weight a_joined a_codeLength a_codeBits) : ∀ (d i : Nat), i + d = 8 → ∀ (lr : Nat → Int32), (∀ q, q < i → lr q = -1) → wX_packRuns_7 post f_n f_isPacked f_runCount f_nodes f_codeSum (d + 1) (nI i) a_letters a_countOf a_sorted a_parted a_rowBits a_wordSum a_byteSum a_zerosOf a_lowWidth a_firstPlace a_lowPart a_highBits a_blockClass a_blockNumber a_blockSum a_choices a_runStart a_runLetter a_runBefore a_runSame lr a_nodeLeft a_nodeRight a_weight a_joined a_codeLength a_codeBits
  | 0, i, hd, lr, h => by
    have e : i = 8 := by omega
    subst e
    exact pk_le 8 8 (fun _ => k lr h) (fun h => absurd h (by omega))
  | d + 1, i, hd, lr, h => by
    refine pk_le 8 i (fun h => absurd h (by omega)) (fun _ => And.intro (vp_in_nI (by omega) (by omega)) (nm_r (e' := upd lr i (-1)) ?_ (nm_r (nI_1 i) (zq_7 k d (i + 1) (by omega) _ (zu_ext (C := fun _ => -1) h rfl)))))
    rw [nI_clamp (by omega), zn_m1]
theorem zq_pack {post : SX → Prop} (H : zl_H f_n a_letters n L) (k : ∀ x rs rl rb rsm lr, zq_P n L x rs rl rb rsm lr → post (f_n, f_isPacked, x, f_nodes, f_codeSum, a_letters, a_countOf, a_sorted, a_parted, a_rowBits, a_wordSum, a_byteSum, a_zerosOf, a_lowWidth, a_firstPlace, a_lowPart, a_highBits, a_blockClass, a_blockNumber, a_blockSum, a_choices, rs, rl, rb, rsm, lr, a_nodeLeft, a_nodeRight, a_weight, a_joined, a_codeLength, a_codeBits)) : wpX_packRuns post (f_n, f_isPacked, f_runCount, f_nodes, f_codeSum, a_letters, a_countOf, a_sorted, a_parted, a_rowBits, a_wordSum, a_byteSum, a_zerosOf, a_lowWidth, a_firstPlace, a_lowPart, a_highBits, a_blockClass, a_blockNumber, a_blockSum, a_choices, a_runStart, a_runLetter, a_runBefore, a_runSame, a_lastRun, a_nodeLeft, a_nodeRight, a_weight, a_joined, a_codeLength, a_codeBits) :=
  ⟨8 + 1, zq_7 (fun lr hl => ⟨n + 1, zq_lp H k n 0 (by omega) 0 (fun _ => 0) _ _ _ _ lr (zq_R0 L) ⟨fun r h => absurd h (Nat.not_lt_zero _), fun c hc => Or.inl ⟨hl c hc, fun r h => absurd h (Nat.not_lt_zero _)⟩⟩ (fun h => absurd h (by omega))⟩) 8 0 rfl _ (fun q h => absurd h (Nat.not_lt_zero _))⟩
/-! answers of engine 5 -/
theorem zq_t {st : Nat → Nat} {m i : Nat} (h : zq_R L st m i) (p : Nat) : ∃ t, t ≤ m ∧ (∀ r, r < t → st r < p) ∧ (t < m → p ≤ st t) := by
  obtain ⟨t, h1, h2⟩ := pk_least (fun r => r = m ∨ p ≤ st r) ⟨m, Or.inl rfl⟩
  have ht : t ≤ m := by
    rcases Nat.lt_or_ge m t with z | z
    · exact absurd (Or.inl rfl) (h2 m z)
    · exact z
  refine ⟨t, ht, fun r hr => ?_, fun z => ?_⟩
  · have := h2 r hr
    omega
  · omega
theorem zq_sr {post : Int32 → Prop} {m : Nat} {st : Nat → Nat} (hR : zq_R L st m n) (hn : n ≤ 200) (hA : ∀ r, r < m → a_runStart r = nI (st r)) {p t : Nat} (hp : p ≤ n) (ht : t ≤ m) (h1 : ∀ r, r < t → st r < p) (h2 : t < m → p ≤ st t) (k : post (nI t - 1)) : ∀ (N lo hi : Nat), lo ≤ t → t ≤ hi → hi ≤ m → hi - lo < N → wX_runBeforePlace_7 post (nI p) f_n f_isPacked f_runCount f_nodes f_codeSum a_letters a_countOf a_sorted a_parted a_rowBits a_wordSum a_byteSum a_zerosOf a_lowWidth a_firstPlace a_lowPart a_highBits a_blockClass a_blockNumber a_blockSum a_choices a_runStart a_runLetter a_runBefore a_runSame a_lastRun a_nodeLeft a_nodeRight a_weight a_joined a_codeLength a_codeBits N (nI lo) (nI hi)
  | 0, lo, hi, _, _, _, h => absurd h (Nat.not_lt_zero _)
  | N + 1, lo, hi, g1, g2, g3, g4 => by
    have hm : m ≤ n := by rw [hR.1]; exact zc_le _ _
    refine pk_le hi lo (fun h => ?_) (fun h => And.intro (by decide) (nm_r (e' := nI ((lo + hi) / 2)) ?_ (And.intro (vp_in_nI (by omega) (by omega)) ?_)))
    · rw [show lo = t by omega]; exact k
    · rw [nI_add]; exact pk_div (d := 2) (by omega) (by decide) (by decide)
    · have hst := zq_mono hR (a := (lo + hi) / 2) (b := m) (by omega) (Nat.le_refl _)
      rw [hR.2.2.1] at hst
      rw [nI_clamp (by omega), hA _ (by omega)]
      refine pk_le p (st ((lo + hi) / 2)) (fun z => br_t rfl (br_t rfl ?_)) (fun z => br_f (by decide) (br_f (by decide) ?_))
      · have hz : t ≤ (lo + hi) / 2 := by
          rcases Nat.lt_or_ge ((lo + hi) / 2) t with y | y
          · have := h1 _ y; omega
          · exact y
        exact zq_sr hR hn hA hp ht h1 h2 k N lo _ g1 hz (by omega) (by omega)
      · have hz : (lo + hi) / 2 < t := by
          rcases Nat.lt_or_ge ((lo + hi) / 2) t with y | y
          · exact y
          · have := h2 (by omega)
            have := zq_mono hR y (by omega)
            omega
        rw [nI_1]
        exact zq_sr hR hn hA hp ht h1 h2 k N _ hi (by omega) g2 g3 (by omega)
theorem zq_rbp {post : Int32 → Prop} {m : Nat} {st : Nat → Nat} (hf : f_runCount = nI m) (hR : zq_R L st m n) (hn : n ≤ 200) (hA : ∀ r, r < m → a_runStart r = nI (st r)) {p : Nat} (hp : p ≤ n) (k : ∀ t, t ≤ m → (∀ r, r < t → st r < p) → (t < m → p ≤ st t) → post (nI t - 1)) : wpX_runBeforePlace post (f_n, f_isPacked, f_runCount, f_nodes, f_codeSum, a_letters, a_countOf, a_sorted, a_parted, a_rowBits, a_wordSum, a_byteSum, a_zerosOf, a_lowWidth, a_firstPlace, a_lowPart, a_highBits, a_blockClass, a_blockNumber, a_blockSum, a_choices, a_runStart, a_runLetter, a_runBefore, a_runSame, a_lastRun, a_nodeLeft, a_nodeRight, a_weight, a_joined, a_codeLength, a_codeBits) (nI p) := by
  obtain ⟨t, h1, h2, h3⟩ := zq_t hR p
  refine ⟨m + 1, ?_⟩
  rw [hf]
  exact zq_sr hR hn hA hp h1 h2 h3 (k t h1 h2 h3) (m + 1) 0 m (by omega) h1 (by omega) (by omega)
theorem zq_6 {post : Int32 → Prop} {m : Nat} {st : Nat → Nat} (hR : zq_R L st m n) (hL : ∀ i, L i < 8) (hn : n ≤ 200) (hA : zq_A L st m a_runStart a_runLetter a_runBefore a_runSame a_lastRun) (hm : 0 < m → a_runStart m = nI n) {c p : Nat} (hc : c < 8) (hp : p ≤ n) (k : post (nI (zc (zl_c L c) p))) : ∀ (t : Nat), t ≤ m → (∀ r, r < t → st r < p) → zc (zl_c L c) p = zc (zl_c L c) (if st t < p then st t else p) → ∀ (x : Int32), x = nI t - 1 → wX_rankInRuns_6 post (nI c) (nI p) f_n f_isPacked f_runCount f_nodes f_codeSum a_letters a_countOf a_sorted a_parted a_rowBits a_wordSum a_byteSum a_zerosOf a_lowWidth a_firstPlace a_lowPart a_highBits a_blockClass a_blockNumber a_blockSum a_choices a_runStart a_runLetter a_runBefore a_runSame a_lastRun a_nodeLeft a_nodeRight a_weight a_joined a_codeLength a_codeBits (t + 1) x
  | 0, _, _, h2, x, hx => by
    subst hx
    refine br_t (by decide) (br_f (by decide) ?_)
    have h0 : (if st 0 < p then st 0 else p) = 0 := by rw [hR.2.1]; split <;> omega
    rw [h0] at h2
    rw [h2] at k
    exact k
  | t + 1, ht, h1, h2, x, hx => by
    rw [nI_pred] at hx
    subst hx
    have hmn : m ≤ n := by rw [hR.1]; exact zc_le _ _
    obtain ⟨a1, a2, a3, a4⟩ := hA.1 t (by omega)
    have hLt := hL (st t)
    have hst := h1 t (by omega)
    have hlt := hR.2.2.2.1 t (by omega)
    have hle := zq_mono hR (a := t + 1) (b := m) (by omega) (Nat.le_refl _)
    rw [hR.2.2.1] at hle
    have e3 : a_runStart (t + 1) = nI (st (t + 1)) := by
      rcases Nat.decEq (t + 1) m with y | y
      · exact (hA.1 (t + 1) (by omega)).1
      · rw [y, hm (by omega), hR.2.2.1]
    refine br_f (nI_pos (by omega)) (And.intro (vp_in_nI (by omega) (by omega)) ?_)
    rw [nI_clamp (by omega), a2]
    refine pk_eq (L (st t)) c (fun h => ?_) (fun h => nm_r (e' := nI t - 1) (by rw [Int32.sub_eq_add_neg]) ?_)
    · have hin : vp_in (nI t + 1) 201 := by rw [nI_1]; exact vp_in_nI (by omega) (by omega)
      have hzl := zc_le (zl_c L c) (st t)
      rw [h] at a3
      have hval : ∀ e, st t ≤ e → e ≤ st (t + 1) → zc (zl_c L c) (st t) + e - st t = zc (zl_c L c) e := fun e he1 he2 => by
        have := zc_full (p := zl_c L c) he1 (fun k g1 g2 => decide_eq_true ((hR.2.2.2.2 t k (by omega) g1 (by omega)).trans h))
        omega
      have fin : ∀ e, st t ≤ e → e ≤ st (t + 1) → zc (zl_c L c) e = zc (zl_c L c) p → wX_rankInRuns_56 post (nI t) (nI e) f_n f_isPacked f_runCount f_nodes f_codeSum a_letters a_countOf a_sorted a_parted a_rowBits a_wordSum a_byteSum a_zerosOf a_lowWidth a_firstPlace a_lowPart a_highBits a_blockClass a_blockNumber a_blockSum a_choices a_runStart a_runLetter a_runBefore a_runSame a_lastRun a_nodeLeft a_nodeRight a_weight a_joined a_codeLength a_codeBits := by
        intro e he1 he2 he3
        refine And.intro (vp_in_nI (by omega) (by omega)) (And.intro (vp_in_nI (by omega) (by omega)) ?_)
        rw [nI_clamp (by omega), a1, a3, nI_add, pk_sub (by omega), hval e he1 he2, he3]
        exact k
      refine br_t (nI_pos' (by omega)) (And.intro hin ?_)
      rw [nI_1, nI_clamp (by omega), e3]
      refine pk_le p (st (t + 1)) (fun z => fin p (by omega) z rfl) (fun z => And.intro (vp_in_nI (by omega) (by omega)) (fin _ (by omega) (Nat.le_refl _) ?_))
      rw [if_pos z] at h2
      exact h2.symm
    · refine zq_6 hR hL hn hA hm hc hp k t (by omega) (fun r hr => h1 r (by omega)) ?_ _ rfl
      rw [if_pos hst, h2]
      refine zc_flat (by split <;> omega) fun q g1 g2 => decide_eq_false ?_
      rw [hR.2.2.2.2 t q (by omega) g1 (by split at g2 <;> omega)]
      exact h
theorem zq_rank {post : Int32 → Prop} (H : zl_H f_n a_letters n L) (HQ : zq_P n L f_runCount a_runStart a_runLetter a_runBefore a_runSame a_lastRun) {c p : Nat} (hc : c < 8) (hp : p ≤ n) (k : post (nI (zc (zl_c L c) p))) : wpX_rankInRuns post (f_n, f_isPacked, f_runCount, f_nodes, f_codeSum, a_letters, a_countOf, a_sorted, a_parted, a_rowBits, a_wordSum, a_byteSum, a_zerosOf, a_lowWidth, a_firstPlace, a_lowPart, a_highBits, a_blockClass, a_blockNumber, a_blockSum, a_choices, a_runStart, a_runLetter, a_runBefore, a_runSame, a_lastRun, a_nodeLeft, a_nodeRight, a_weight, a_joined, a_codeLength, a_codeBits) (nI c) (nI p) := by
  obtain ⟨m, st, hf, hR, hA, hm⟩ := HQ
  unfold wpX_rankInRuns
  refine zq_rbp hf hR H.1 (fun r hr => (hA.1 r hr).1) hp (fun t h1 h2 h3 => ⟨t + 1, zq_6 hR H.2.1 H.1 hA hm hc hp k t h1 h2 ?_ _ rfl⟩)
  have : ¬ st t < p := by
    rcases Nat.decEq t m with y | y
    · have := h3 (by omega); omega
    · rw [y, hR.2.2.1]; omega
  rw [if_neg this]
theorem zq_at {post : Int32 → Prop} (H : zl_H f_n a_letters n L) (HQ : zq_P n L f_runCount a_runStart a_runLetter a_runBefore a_runSame a_lastRun) {p : Nat} (hp : p < n) (k : post (nI (L p))) : wpX_runBeforePlace (fun r => vp_in r 200 ∧ post (a_runLetter r.toNatClampNeg)) (f_n, f_isPacked, f_runCount, f_nodes, f_codeSum, a_letters, a_countOf, a_sorted, a_parted, a_rowBits, a_wordSum, a_byteSum, a_zerosOf, a_lowWidth, a_firstPlace, a_lowPart, a_highBits, a_blockClass, a_blockNumber, a_blockSum, a_choices, a_runStart, a_runLetter, a_runBefore, a_runSame, a_lastRun, a_nodeLeft, a_nodeRight, a_weight, a_joined, a_codeLength, a_codeBits) (nI p + 1) := by
  obtain ⟨m, st, hf, hR, hA, hm⟩ := HQ
  have hmn : m ≤ n := by rw [hR.1]; exact zc_le _ _
  have hn := H.1
  rw [nI_1]
  refine zq_rbp hf hR H.1 (fun r hr => (hA.1 r hr).1) (p := p + 1) (by omega) (fun t h1 h2 h3 => ?_)
  have hm0 := zq_pos hR (by omega)
  obtain ⟨t', rfl⟩ : ∃ t', t = t' + 1 := by
    refine ⟨t - 1, ?_⟩
    rcases Nat.decEq t 0 with y | y
    · omega
    · have := h3 (by omega)
      rw [y, hR.2.1] at this
      omega
  rw [nI_pred, nI_clamp (by omega), (hA.1 t' (by omega)).2.1]
  have hlt := h2 t' (by omega)
  have hgt : p < st (t' + 1) := by
    rcases Nat.decEq (t' + 1) m with y | y
    · have := h3 (by omega); omega
    · rw [y, hR.2.2.1]; omega
  rw [← hR.2.2.2.2 t' p (by omega) (by omega) hgt]
  exact ⟨vp_in_nI (by omega) (by omega), k⟩
theorem zq_sl {post : Int32 → Prop} {m : Nat} {st : Nat → Nat} (hR : zq_R L st m n) (hn : n ≤ 200) (hA : zq_A L st m a_runStart a_runLetter a_runBefore a_runSame a_lastRun) {j rr : Nat} (hj : j < n) (r1 : rr < m) (r2 : st rr ≤ j) (r3 : j < st (rr + 1)) (k : post (nI j)) : ∀ (N r : Nat), r < N → r < m → rr ≤ r → L (st r) = L j → wX_selectInRuns_7 post (nI (zc (zl_c L (L j)) j)) f_n f_isPacked f_runCount f_nodes f_codeSum a_letters a_countOf a_sorted a_parted a_rowBits a_wordSum a_byteSum a_zerosOf a_lowWidth a_firstPlace a_lowPart a_highBits a_blockClass a_blockNumber a_blockSum a_choices a_runStart a_runLetter a_runBefore a_runSame a_lastRun a_nodeLeft a_nodeRight a_weight a_joined a_codeLength a_codeBits N (nI r)
  | 0, r, h, _, _, _ => absurd h (Nat.not_lt_zero _)
  | N + 1, r, h1, h2, h3, h4 => by
    have hmn : m ≤ n := by rw [hR.1]; exact zc_le _ _
    obtain ⟨a1, a2, a3, a4⟩ := hA.1 r h2
    rw [h4] at a3 a4
    have hz1 := zc_le (zl_c L (L j)) (st r)
    have hz2 := zc_le (zl_c L (L j)) j
    have hst := zq_mono hR (a := r) (b := m) (by omega) (Nat.le_refl _)
    rw [hR.2.2.1] at hst
    refine And.intro (vp_in_nI (by omega) (by omega)) ?_
    rw [nI_clamp (by omega), a3]
    refine pk_le (zc (zl_c L (L j)) (st r)) (zc (zl_c L (L j)) j) (fun z => And.intro (vp_in_nI (by omega) (by omega)) (And.intro (vp_in_nI (by omega) (by omega)) ?_)) (fun z => And.intro (vp_in_nI (by omega) (by omega)) ?_)
    · have hle := zc_leI (p := zl_c L (L j)) (i := j) (j := st r) (decide_eq_true rfl) z
      have hrr : r = rr := by
        rcases Nat.lt_or_ge rr r with y | y
        · have := zq_mono hR (a := rr + 1) (b := r) (by omega) (by omega); omega
        · omega
      subst hrr
      have hfull := zc_full (p := zl_c L (L j)) r2 (fun q g1 g2 => decide_eq_true ((hR.2.2.2.2 r q r1 g1 (by omega)).trans h4))
      rw [a1, nI_add, pk_sub (by omega), show st r + zc (zl_c L (L j)) j - zc (zl_c L (L j)) (st r) = j by omega]
      exact k
    · have hgt : rr < r := by
        rcases Nat.decEq rr r with y | y
        · omega
        · subst y
          have := zc_mono (zl_c L (L j)) r2
          omega
      have hLr : L (st rr) = L j := (hR.2.2.2.2 rr j r1 r2 r3).symm
      rcases a4 with ⟨b1, b2⟩ | ⟨q, b1, b2, b3, b4⟩
      · exact absurd hLr (b2 rr hgt)
      · refine nm_r b2 (zq_sl hR hn hA hj r1 r2 r3 k N q (by omega) (by omega) ?_ b3)
        rcases Nat.lt_or_ge q rr with y | y
        · exact absurd hLr (b4 rr y hgt)
        · exact y
theorem zq_select {post : Int32 → Prop} (H : zl_H f_n a_letters n L) (HQ : zq_P n L f_runCount a_runStart a_runLetter a_runBefore a_runSame a_lastRun) {j : Nat} (hj : j < n) (k : post (nI j)) : wpX_selectInRuns post (f_n, f_isPacked, f_runCount, f_nodes, f_codeSum, a_letters, a_countOf, a_sorted, a_parted, a_rowBits, a_wordSum, a_byteSum, a_zerosOf, a_lowWidth, a_firstPlace, a_lowPart, a_highBits, a_blockClass, a_blockNumber, a_blockSum, a_choices, a_runStart, a_runLetter, a_runBefore, a_runSame, a_lastRun, a_nodeLeft, a_nodeRight, a_weight, a_joined, a_codeLength, a_codeBits) (nI (L j)) (nI (zc (zl_c L (L j)) j)) := by
  obtain ⟨m, st, hf, hR, hA, hm⟩ := HQ
  have h8 := H.2.1 j
  obtain ⟨rr, r1, r2, r3⟩ := zq_find hR hj
  have hLr : L (st rr) = L j := (hR.2.2.2.2 rr j r1 r2 r3).symm
  refine And.intro (vp_in_nI h8 (by omega)) ?_
  rw [nI_clamp (by omega)]
  rcases hA.2 (L j) h8 with ⟨b1, b2⟩ | ⟨q, b1, b2, b3, b4⟩
  · exact absurd hLr (b2 rr r1)
  · refine nm_r b2 ⟨q + 1, zq_sl hR H.1 hA hj r1 r2 r3 k (q + 1) q (by omega) b1 ?_ b3⟩
    rcases Nat.lt_or_ge q rr with y | y
    · exact absurd hLr (b4 rr y r1)
    · exact y
end
end
section
/-! the rarest, and the cost of joining the two rarest again and again -/
def zf_B (fr : Nat → Bool) (wt : Nat → Nat) (x : Nat) (b : Int32) : Prop := (b = -1 ∧ ∀ y, y < x → fr y = false) ∨ ∃ q, q < x ∧ b = nI q ∧ fr q = true ∧ ∀ y, y < x → fr y = true → wt q ≤ wt y
theorem zf_B0 (fr : Nat → Bool) (wt : Nat → Nat) : zf_B fr wt 0 (-1) := Or.inl ⟨rfl, fun y h => absurd h (Nat.not_lt_zero _)⟩
theorem zf_B_n {fr : Nat → Bool} {wt : Nat → Nat} {x : Nat} {b : Int32} (h : zf_B fr wt x b) (hx : fr x = false) : zf_B fr wt (x + 1) b := by
  rcases h with ⟨a, c⟩ | ⟨q, a, c, d, e⟩
  · refine Or.inl ⟨a, fun y hy => ?_⟩
    rcases Nat.decEq y x with z | z
    · exact c y (by omega)
    · rw [z]; exact hx
  · refine Or.inr ⟨q, by omega, c, d, fun y hy hf => ?_⟩
    rcases Nat.decEq y x with z | z
    · exact e y (by omega) hf
    · rw [z, hx] at hf; exact absurd hf (by simp)
theorem zf_B_1 {fr : Nat → Bool} {wt : Nat → Nat} {x : Nat} (h : ∀ y, y < x → fr y = false) (hx : fr x = true) : zf_B fr wt (x + 1) (nI x) := by
  refine Or.inr ⟨x, by omega, rfl, hx, fun y hy hf => ?_⟩
  rcases Nat.decEq y x with z | z
  · rw [h y (by omega)] at hf; exact absurd hf (by simp)
  · rw [z]; exact Nat.le_refl _
theorem zf_B_k {fr : Nat → Bool} {wt : Nat → Nat} {x q : Nat} (hq : q < x) (hf : fr q = true) (h : ∀ y, y < x → fr y = true → wt q ≤ wt y) (hx : wt q ≤ wt x) : zf_B fr wt (x + 1) (nI q) := by
  refine Or.inr ⟨q, by omega, rfl, hf, fun y hy hf' => ?_⟩
  rcases Nat.decEq y x with z | z
  · exact h y (by omega) hf'
  · rw [z]; exact hx
theorem zf_B_s {fr : Nat → Bool} {wt : Nat → Nat} {x q : Nat} (h : ∀ y, y < x → fr y = true → wt q ≤ wt y) (hx : wt x < wt q) (hf : fr x = true) : zf_B fr wt (x + 1) (nI x) := by
  refine Or.inr ⟨x, by omega, rfl, hf, fun y hy hf' => ?_⟩
  rcases Nat.decEq y x with z | z
  · have := h y (by omega) hf'; omega
  · rw [z]; exact Nat.le_refl _
section
variable {f_n f_isPacked f_runCount f_nodes f_codeSum : Int32} {a_letters a_countOf a_sorted a_parted a_rowBits a_wordSum a_byteSum a_zerosOf a_lowWidth a_firstPlace a_lowPart a_highBits a_blockClass a_blockNumber a_blockSum a_choices a_runStart a_runLetter a_runBefore a_runSame a_lastRun a_nodeLeft a_nodeRight a_weight a_joined a_codeLength a_codeBits : Nat → Int32}
theorem zf_38 {post : Int32 → Prop} {J : _} {fr : Nat → Bool} {wt : Nat → Nat} {x : Nat} {b : Int32} (hx : x < 16) (hw : ∀ y, y < 16 → a_weight y = nI (wt y) ∧ wt y < 1000) (hB : zf_B fr wt x b) (hf : fr x = true) (k : ∀ b', zf_B fr wt (x + 1) b' → J b' (nI (x + 1))) : wX_rarest_38 post J b (nI x) 1 f_n f_isPacked f_runCount f_nodes f_codeSum a_letters a_countOf a_sorted a_parted a_rowBits a_wordSum a_byteSum a_zerosOf a_lowWidth a_firstPlace a_lowPart a_highBits a_blockClass a_blockNumber a_blockSum a_choices a_runStart a_runLetter a_runBefore a_runSame a_lastRun a_nodeLeft a_nodeRight a_weight a_joined a_codeLength a_codeBits := by
  refine br_f (by decide) ?_
  rcases hB with ⟨a, c⟩ | ⟨q, a, c, d, e⟩
  · subst a
    exact br_t (by decide) (nm_r (nI_1 x) (k _ (zf_B_1 c hf)))
  · subst c
    refine br_f (nI_pos (by omega)) (And.intro (vp_in_nI hx (by omega)) (And.intro (vp_in_nI (by omega) (by omega)) ?_))
    rw [nI_clamp (by omega), nI_clamp (by omega), (hw q (by omega)).1, (hw x hx).1]
    have h1 := (hw q (by omega)).2
    have h2 := (hw x hx).2
    exact pk_le (wt q) (wt x) (fun z => nm_r (nI_1 x) (k _ (zf_B_k a d e z))) (fun z => nm_r (nI_1 x) (k _ (zf_B_s e z hf)))
theorem zf_lp {post : Int32 → Prop} {fr : Nat → Bool} {wt : Nat → Nat} {m : Nat} (hm : m ≤ 8) (hn : f_nodes = nI m) (hw : ∀ y, y < 16 → a_weight y = nI (wt y) ∧ wt y < 1000) (hf : ∀ y, y < 8 + m → (fr y = true ↔ a_joined y = 0 ∧ 0 < wt y)) (k : ∀ b, zf_B fr wt (8 + m) b → post b) : ∀ (d x : Nat), x + d = 8 + m → ∀ (b : Int32), zf_B fr wt x b → wX_rarest_4 post f_n f_isPacked f_runCount f_nodes f_codeSum a_letters a_countOf a_sorted a_parted a_rowBits a_wordSum a_byteSum a_zerosOf a_lowWidth a_firstPlace a_lowPart a_highBits a_blockClass a_blockNumber a_blockSum a_choices a_runStart a_runLetter a_runBefore a_runSame a_lastRun a_nodeLeft a_nodeRight a_weight a_joined a_codeLength a_codeBits (d + 1) b (nI x)
  | 0, x, hd, b, hB => by
    have e : x = 8 + m := by omega
    subst e
    exact pk_le (8 + m) (8 + m) (fun _ => k b hB) (fun h => absurd h (by omega)) (by rw [hn]; exact nI_add 8 m) rfl
  | d + 1, x, hd, b, hB => by
    have hx : vp_in (nI x) 16 := vp_in_nI (by omega) (by omega)
    have hff := hf x (by omega)
    refine pk_le (8 + m) x (fun h => absurd h (by omega)) (fun _ => And.intro hx ?_) (by rw [hn]; exact nI_add 8 m) rfl
    rw [nI_clamp (by omega), (hw x (by omega)).1]
    have h2 := (hw x (by omega)).2
    have skip : fr x = false → wX_rarest_37 post (wX_rarest_4 post f_n f_isPacked f_runCount f_nodes f_codeSum a_letters a_countOf a_sorted a_parted a_rowBits a_wordSum a_byteSum a_zerosOf a_lowWidth a_firstPlace a_lowPart a_highBits a_blockClass a_blockNumber a_blockSum a_choices a_runStart a_runLetter a_runBefore a_runSame a_lastRun a_nodeLeft a_nodeRight a_weight a_joined a_codeLength a_codeBits (d + 1)) b (nI x) f_n f_isPacked f_runCount f_nodes f_codeSum a_letters a_countOf a_sorted a_parted a_rowBits a_wordSum a_byteSum a_zerosOf a_lowWidth a_firstPlace a_lowPart a_highBits a_blockClass a_blockNumber a_blockSum a_choices a_runStart a_runLetter a_runBefore a_runSame a_lastRun a_nodeLeft a_nodeRight a_weight a_joined a_codeLength a_codeBits := fun z => br_t rfl (nm_r (nI_1 x) (zf_lp hm hn hw hf k d (x + 1) (by omega) b (zf_B_n hB z)))
    refine br_c (fun z => And.intro hx (pk_le (wt x) 0 (fun y => skip ?_) (fun y => zf_38 (by omega) hw hB ?_ (fun b' hb' => zf_lp hm hn hw hf k d (x + 1) (by omega) b' hb')))) (fun z => skip ?_)
    · cases hc : fr x
      · rfl
      · have := (hff.mp hc).2; omega
    · exact hff.mpr ⟨z, y⟩
    · cases hc : fr x
      · rfl
      · exact absurd (hff.mp hc).1 z
theorem zf_rarest {post : Int32 → Prop} {fr : Nat → Bool} {wt : Nat → Nat} {m : Nat} (hm : m ≤ 8) (hn : f_nodes = nI m) (hw : ∀ y, y < 16 → a_weight y = nI (wt y) ∧ wt y < 1000) (hf : ∀ y, y < 8 + m → (fr y = true ↔ a_joined y = 0 ∧ 0 < wt y)) (k : ∀ b, zf_B fr wt (8 + m) b → post b) : wpX_rarest post (f_n, f_isPacked, f_runCount, f_nodes, f_codeSum, a_letters, a_countOf, a_sorted, a_parted, a_rowBits, a_wordSum, a_byteSum, a_zerosOf, a_lowWidth, a_firstPlace, a_lowPart, a_highBits, a_blockClass, a_blockNumber, a_blockSum, a_choices, a_runStart, a_runLetter, a_runBefore, a_runSame, a_lastRun, a_nodeLeft, a_nodeRight, a_weight, a_joined, a_codeLength, a_codeBits) := ⟨8 + m + 1, zf_lp hm hn hw hf k (8 + m) 0 (by omega) (-1) (zf_B0 fr wt)⟩
end
section
variable {f_size : Int32} {a_list a_sorts : Nat → Int32}
theorem zf_Y29 {post : Int32 → Prop} {J : _} {x1 : Int32} {fr : Nat → Bool} {wt : Nat → Nat} {x : Nat} {b : Int32} (hx : x < 8) (hw : ∀ y, y < 8 → a_sorts y = nI (wt y) ∧ wt y < 1000) (hB : zf_B fr wt x b) (hf : fr x = true) (k : ∀ b', zf_B fr wt (x + 1) b' → J b' (nI (x + 1))) : wY_rarest_29 post J x1 b (nI x) 1 f_size a_list a_sorts := by
  refine br_f (by decide) ?_
  rcases hB with ⟨a, c⟩ | ⟨q, a, c, d, e⟩
  · subst a
    exact br_t (by decide) (nm_r (nI_1 x) (k _ (zf_B_1 c hf)))
  · subst c
    refine br_f (nI_pos (by omega)) (And.intro (vp_in_nI hx (by omega)) (And.intro (vp_in_nI (by omega) (by omega)) ?_))
    rw [nI_clamp (by omega), nI_clamp (by omega), (hw q (by omega)).1, (hw x hx).1]
    have h1 := (hw q (by omega)).2
    have h2 := (hw x hx).2
    exact pk_le (wt q) (wt x) (fun z => nm_r (nI_1 x) (k _ (zf_B_k a d e z))) (fun z => nm_r (nI_1 x) (k _ (zf_B_s e z hf)))
theorem zf_Ylp {post : Int32 → Prop} {x1 : Int32} {fr : Nat → Bool} {wt : Nat → Nat} (hw : ∀ y, y < 8 → a_sorts y = nI (wt y) ∧ wt y < 1000) (hf : ∀ y, y < 8 → (fr y = true ↔ 0 < wt y ∧ nI y ≠ x1)) (k : ∀ b, zf_B fr wt 8 b → post b) : ∀ (d x : Nat), x + d = 8 → ∀ (b : Int32), zf_B fr wt x b → wY_rarest_4 post x1 f_size a_list a_sorts (d + 1) b (nI x)
  | 0, x, hd, b, hB => by
    have e : x = 8 := by omega
    subst e
    exact pk_le 8 8 (fun _ => k b hB) (fun h => absurd h (by omega))
  | d + 1, x, hd, b, hB => by
    have hff := hf x (by omega)
    refine pk_le 8 x (fun h => absurd h (by omega)) (fun _ => And.intro (vp_in_nI (by omega) (by omega)) ?_)
    rw [nI_clamp (by omega), (hw x (by omega)).1]
    have h2 := (hw x (by omega)).2
    have skip : fr x = false → wY_rarest_28 post (wY_rarest_4 post x1 f_size a_list a_sorts (d + 1)) x1 b (nI x) f_size a_list a_sorts := fun z => br_t rfl (nm_r (nI_1 x) (zf_Ylp hw hf k d (x + 1) (by omega) b (zf_B_n hB z)))
    refine pk_le (wt x) 0 (fun y => skip ?_) (fun y => br_c (fun z => skip ?_) (fun z => zf_Y29 (by omega) hw hB (hff.mpr ⟨y, z⟩) (fun b' hb' => zf_Ylp hw hf k d (x + 1) (by omega) b' hb')))
    · cases hc : fr x
      · rfl
      · have := (hff.mp hc).1; omega
    · cases hc : fr x
      · rfl
      · exact absurd z (hff.mp hc).2
theorem zf_Yrarest {post : Int32 → Prop} {x1 : Int32} {fr : Nat → Bool} {wt : Nat → Nat} (hw : ∀ y, y < 8 → a_sorts y = nI (wt y) ∧ wt y < 1000) (hf : ∀ y, y < 8 → (fr y = true ↔ 0 < wt y ∧ nI y ≠ x1)) (k : ∀ b, zf_B fr wt 8 b → post b) : wpY_rarest post (f_size, a_list, a_sorts) x1 := ⟨8 + 1, zf_Ylp hw hf k 8 0 (by omega) (-1) (zf_B0 fr wt)⟩
end
/-! the cost: the two least are joined, again and again -/
def zf_C : Nat → List Nat → Nat → Prop
  | 0, _, s => s = 0
  | k + 1, l, s => (l.length ≤ 1 ∧ s = 0) ∨ ∃ x y r s', l.Perm (x :: y :: r) ∧ x ≤ y ∧ (∀ z, z ∈ r → y ≤ z) ∧ zf_C k ((x + y) :: r) s' ∧ s = x + y + s'
theorem zf_C_1 : ∀ (k : Nat) {l : List Nat}, l.length ≤ 1 → zf_C k l 0
  | 0, _, _ => rfl
  | _ + 1, _, h => Or.inl ⟨h, rfl⟩
theorem zf_C_u : ∀ (k : Nat) {l l' : List Nat} {s s' : Nat}, l.Perm l' → zf_C k l s → zf_C k l' s' → s = s'
  | 0, _, _, _, _, _, h, h' => by
    have a : _ = 0 := h
    have b : _ = 0 := h'
    omega
  | k + 1, l, l', s, s', hp, h, h' => by
    have hl := hp.length_eq
    rcases h with ⟨h1, h2⟩ | ⟨x, y, r, t, h1, h2, h3, h4, h5⟩
    · rcases h' with ⟨g1, g2⟩ | ⟨x', y', r', t', g1, g2, g3, g4, g5⟩
      · omega
      · have := g1.length_eq
        simp at this
        omega
    · rcases h' with ⟨g1, g2⟩ | ⟨x', y', r', t', g1, g2, g3, g4, g5⟩
      · have := h1.length_eq
        simp at this
        omega
      · have hq : (x :: y :: r).Perm (x' :: y' :: r') := h1.symm.trans (hp.trans g1)
        have m1 : ∀ z, z ∈ x :: y :: r → x ≤ z := by
          intro z hz
          rcases List.mem_cons.mp hz with e | hz
          · omega
          · rcases List.mem_cons.mp hz with e | hz
            · omega
            · have := h3 z hz; omega
        have m2 : ∀ z, z ∈ x' :: y' :: r' → x' ≤ z := by
          intro z hz
          rcases List.mem_cons.mp hz with e | hz
          · omega
          · rcases List.mem_cons.mp hz with e | hz
            · omega
            · have := g3 z hz; omega
        have ex : x = x' := Nat.le_antisymm (m1 _ (hq.mem_iff.mpr (List.mem_cons_self))) (m2 _ (hq.mem_iff.mp (List.mem_cons_self)))
        subst ex
        have hq2 : (y :: r).Perm (y' :: r') := (List.perm_cons x).mp hq
        have n1 : ∀ z, z ∈ y :: r → y ≤ z := by
          intro z hz
          rcases List.mem_cons.mp hz with e | hz
          · omega
          · exact h3 z hz
        have n2 : ∀ z, z ∈ y' :: r' → y' ≤ z := by
          intro z hz
          rcases List.mem_cons.mp hz with e | hz
          · omega
          · exact g3 z hz
        have ey : y = y' := Nat.le_antisymm (n1 _ (hq2.mem_iff.mpr (List.mem_cons_self))) (n2 _ (hq2.mem_iff.mp (List.mem_cons_self)))
        subst ey
        have hr : r.Perm r' := (List.perm_cons y).mp hq2
        have := zf_C_u k (hr.cons (x + y)) h4 g4
        omega
def zf_sum : List Nat → Nat
  | [] => 0
  | x :: l => x + zf_sum l
theorem zf_sum_p {l l' : List Nat} (h : l.Perm l') : zf_sum l = zf_sum l' := by
  induction h with
  | nil => rfl
  | cons x _ ih => simp only [zf_sum, ih]
  | swap x y l => simp only [zf_sum]; omega
  | trans _ _ ih1 ih2 => exact ih1.trans ih2
theorem zf_sum_a (l l' : List Nat) : zf_sum (l ++ l') = zf_sum l + zf_sum l' := by
  induction l with
  | nil => simp [zf_sum]
  | cons x l ih => simp only [List.cons_append, zf_sum, ih]; omega
theorem zf_sum_m {l : List Nat} {x : Nat} (h : x ∈ l) : x ≤ zf_sum l := by
  induction l with
  | nil => exact absurd h (by simp)
  | cons y l ih =>
    rcases List.mem_cons.mp h with e | h
    · subst e; simp only [zf_sum]; omega
    · have := ih h; simp only [zf_sum]; omega
/-- items a, b out of the list: what remains -/
theorem zf_two {l : List Nat} (hd : l.Nodup) {a b : Nat} (ha : a ∈ l) (hb : b ∈ l) (hab : a ≠ b) : l.Perm (a :: b :: (l.erase a).erase b) ∧ ((l.erase a).erase b).Nodup ∧ ∀ y, y ∈ (l.erase a).erase b ↔ y ∈ l ∧ y ≠ a ∧ y ≠ b := by
  have hb' : b ∈ l.erase a := (List.Nodup.mem_erase_iff hd).mpr ⟨fun e => hab e.symm, hb⟩
  have hd1 : (l.erase a).Nodup := hd.erase a
  refine ⟨(List.perm_cons_erase ha).trans ((List.perm_cons_erase hb').cons a), hd1.erase b, fun y => ?_⟩
  rw [List.Nodup.mem_erase_iff hd1, List.Nodup.mem_erase_iff hd]
  exact ⟨fun h => ⟨h.2.2, h.2.1, h.1⟩, fun h => ⟨h.2.2, h.2.1, h.1⟩⟩
/-- a step of joining, for the cost -/
theorem zf_C_step {k : Nat} {l : List Nat} (hd : l.Nodup) {a b v : Nat} {wt wt' : Nat → Nat} (ha : a ∈ l) (hb : b ∈ l) (hab : a ≠ b) (h1 : ∀ y, y ∈ l → wt a ≤ wt y) (h2 : ∀ y, y ∈ l → y ≠ a → wt b ≤ wt y) (hv : wt' v = wt a + wt b) (hw : ∀ y, y ∈ (l.erase a).erase b → wt' y = wt y) {s : Nat} (h : zf_C k ((v :: (l.erase a).erase b).map wt') s) : zf_C (k + 1) (l.map wt) (wt a + wt b + s) := by
  obtain ⟨p, -, q⟩ := zf_two hd ha hb hab
  refine Or.inr ⟨wt a, wt b, ((l.erase a).erase b).map wt, s, p.map wt, h1 b hb, ?_, ?_, rfl⟩
  · intro z hz
    obtain ⟨y, hy, rfl⟩ := List.mem_map.mp hz
    have := (q y).mp hy
    exact h2 y this.1 this.2.1
  · have e : (v :: (l.erase a).erase b).map wt' = (wt a + wt b) :: ((l.erase a).erase b).map wt := by
      rw [List.map_cons, hv, List.map_congr_left hw]
    rw [e] at h
    exact h
theorem zf_sum_step {l : List Nat} (hd : l.Nodup) {a b v : Nat} {wt wt' : Nat → Nat} (ha : a ∈ l) (hb : b ∈ l) (hab : a ≠ b) (hv : wt' v = wt a + wt b) (hw : ∀ y, y ∈ (l.erase a).erase b → wt' y = wt y) : zf_sum ((v :: (l.erase a).erase b).map wt') = zf_sum (l.map wt) := by
  obtain ⟨p, -, -⟩ := zf_two hd ha hb hab
  rw [zf_sum_p (p.map wt), List.map_cons, hv, List.map_congr_left hw]
  simp only [List.map_cons, zf_sum]
  omega
/-- the letters that are there -/
def zf_i0 (w : Nat → Nat) (k : Nat) : List Nat := (List.range k).filter (fun c => decide (0 < w c))
theorem zf_i0_m (w : Nat → Nat) (k y : Nat) : y ∈ zf_i0 w k ↔ y < k ∧ 0 < w y := by
  unfold zf_i0
  rw [List.mem_filter, List.mem_range, decide_eq_true_eq]
theorem zf_i0_d (w : Nat → Nat) (k : Nat) : (zf_i0 w k).Nodup := List.Pairwise.filter _ List.nodup_range
theorem zf_i0_l (w : Nat → Nat) (k : Nat) : (zf_i0 w k).length ≤ k := by
  have := List.length_filter_le (fun c => decide (0 < w c)) (List.range k)
  rw [List.length_range] at this
  exact this
theorem zf_i0_s (w : Nat → Nat) : ∀ k, zf_sum ((zf_i0 w (k + 1)).map w) = zf_sum ((zf_i0 w k).map w) + w k := by
  intro k
  unfold zf_i0
  rw [List.range_succ, List.filter_append, List.map_append, zf_sum_a]
  rcases Nat.decEq (w k) 0 with z | z
  · rw [show [k].filter (fun c => decide (0 < w c)) = [k] by simp; omega]
    simp [zf_sum]
  · rw [show [k].filter (fun c => decide (0 < w c)) = [] by simp; omega]
    simp [zf_sum, z]
end
section
/-! engine 6: joining -/
def zf_I (n : Nat) (ct : Nat → Nat) (m cs : Nat) (l : List Nat) (wt lc rc : Nat → Nat) (D : Nat → Nat → Bool) : Prop :=
  l.Nodup ∧ (∀ y, y ∈ l → y < 8 + m ∧ 0 < wt y) ∧ zf_sum (l.map wt) = n ∧ l.length + m = (zf_i0 ct 8).length ∧
  (∀ s, zf_C (8 - m) (l.map wt) s → zf_C 8 ((zf_i0 ct 8).map ct) (cs + s)) ∧
  (∀ y, y < 8 → ∀ c, D y c = decide (c = y)) ∧
  (∀ x, x < m → lc x < 8 + x ∧ rc x < 8 + x ∧ lc x ≠ rc x ∧ lc x ∉ l ∧ rc x ∉ l ∧ ∀ c, D (8 + x) c = (D (lc x) c || D (rc x) c)) ∧
  (∀ x x', x < x' → x' < m → lc x ≠ lc x' ∧ lc x ≠ rc x' ∧ rc x ≠ lc x' ∧ rc x ≠ rc x') ∧
  (∀ c, c < 8 → 0 < ct c → ∃ y, y ∈ l ∧ D y c = true) ∧ (0 < m → 8 + (m - 1) ∈ l) ∧
  (∀ x, x < m → 8 + x ∈ l ∨ ∃ x', x' < m ∧ (lc x' = 8 + x ∨ rc x' = 8 + x))
def zf_Dn (D : Nat → Nat → Bool) (a b v : Nat) : Nat → Nat → Bool := fun y c => if y = v then D a c || D b c else D y c
theorem zf_Dn_s (D : Nat → Nat → Bool) (a b v c : Nat) : zf_Dn D a b v v c = (D a c || D b c) := if_pos rfl
theorem zf_Dn_n (D : Nat → Nat → Bool) {a b v y : Nat} (c : Nat) (h : y ≠ v) : zf_Dn D a b v y c = D y c := if_neg h
theorem zf_merge {n : Nat} {ct : Nat → Nat} {m cs : Nat} {l : List Nat} {wt lc rc : Nat → Nat} {D : Nat → Nat → Bool} (h : zf_I n ct m cs l wt lc rc D) {a b : Nat} (ha : a ∈ l) (hb : b ∈ l) (hab : a ≠ b) (h1 : ∀ y, y ∈ l → wt a ≤ wt y) (h2 : ∀ y, y ∈ l → y ≠ a → wt b ≤ wt y) : m ≤ 6 ∧ ((8 + m) :: (l.erase a).erase b).length + 1 = l.length ∧ zf_I n ct (m + 1) (cs + (wt a + wt b)) ((8 + m) :: (l.erase a).erase b) (zq_st wt (8 + m) (wt a + wt b)) (zq_st lc m a) (zq_st rc m b) (zf_Dn D a b (8 + m)) := by
  obtain ⟨A1, A2, A3, A4, A5, A6, A7, A8, A9, A10, A11⟩ := h
  obtain ⟨p, pd, pm⟩ := zf_two A1 ha hb hab
  have hlen := p.length_eq
  simp only [List.length_cons] at hlen
  have hK := zf_i0_l ct 8
  have hm : m ≤ 6 := by omega
  have hnew : ∀ y, y ∈ (l.erase a).erase b → y ≠ 8 + m := fun y hy e => by
    have := (A2 y ((pm y).mp hy).1).1
    omega
  have hv : zq_st wt (8 + m) (wt a + wt b) (8 + m) = wt a + wt b := zq_st_s _ _ _
  have hw : ∀ y, y ∈ (l.erase a).erase b → zq_st wt (8 + m) (wt a + wt b) y = wt y := fun y hy => zq_st_n wt (hnew y hy)
  have h8a := (A2 a ha).1
  have h8b := (A2 b hb).1
  refine ⟨hm, by simp only [List.length_cons]; omega, ?_, ?_, ?_, ?_, ?_, ?_, ?_, ?_, ?_, ?_, ?_⟩
  · exact List.nodup_cons.mpr ⟨fun hy => hnew _ hy rfl, pd⟩
  · intro y hy
    rcases List.mem_cons.mp hy with e | hy
    · subst e
      rw [hv]
      have := (A2 a ha).2
      omega
    · rw [hw y hy]
      have := A2 y ((pm y).mp hy).1
      omega
  · rw [zf_sum_step A1 ha hb hab hv hw]; exact A3
  · simp only [List.length_cons]; omega
  · intro s hs
    have := A5 (wt a + wt b + s) (by
      rw [show 8 - m = (8 - (m + 1)) + 1 by omega]
      exact zf_C_step A1 ha hb hab h1 h2 hv hw hs)
    rw [show cs + (wt a + wt b) + s = cs + (wt a + wt b + s) by omega]
    exact this
  · intro y hy c
    rw [zf_Dn_n D c (by omega)]; exact A6 y hy c
  · intro x hx
    rcases Nat.decEq x m with z | z
    · obtain ⟨b1, b2, b3, b4, b5, b6⟩ := A7 x (by omega)
      rw [zq_st_n lc z, zq_st_n rc z]
      refine ⟨b1, b2, b3, ?_, ?_, ?_⟩
      · intro hy
        rcases List.mem_cons.mp hy with e | hy
        · omega
        · exact b4 ((pm _).mp hy).1
      · intro hy
        rcases List.mem_cons.mp hy with e | hy
        · omega
        · exact b5 ((pm _).mp hy).1
      · intro c
        rw [zf_Dn_n D c (by omega), zf_Dn_n D c (by omega), zf_Dn_n D c (by omega)]
        exact b6 c
    · subst z
      rw [zq_st_s, zq_st_s]
      refine ⟨h8a, h8b, hab, ?_, ?_, ?_⟩
      · intro hy
        rcases List.mem_cons.mp hy with e | hy
        · omega
        · exact ((pm _).mp hy).2.1 rfl
      · intro hy
        rcases List.mem_cons.mp hy with e | hy
        · omega
        · exact ((pm _).mp hy).2.2 rfl
      · intro c
        rw [zf_Dn_s, zf_Dn_n D c (by omega), zf_Dn_n D c (by omega)]
  · intro x x' hx hx'
    rw [zq_st_n lc (show x ≠ m by omega), zq_st_n rc (show x ≠ m by omega)]
    rcases Nat.decEq x' m with z | z
    · rw [zq_st_n lc z, zq_st_n rc z]; exact A8 x x' hx (by omega)
    · subst z
      rw [zq_st_s, zq_st_s]
      obtain ⟨b1, b2, b3, b4, b5, b6⟩ := A7 x hx
      exact ⟨fun e => b4 (e ▸ ha), fun e => b4 (e ▸ hb), fun e => b5 (e ▸ ha), fun e => b5 (e ▸ hb)⟩
  · intro c hc hct
    obtain ⟨y, hy, hD⟩ := A9 c hc hct
    rcases Nat.decEq y a with z | z
    · rcases Nat.decEq y b with w | w
      · refine ⟨y, List.mem_cons_of_mem _ ((pm y).mpr ⟨hy, z, w⟩), ?_⟩
        rw [zf_Dn_n D c (by have := (A2 y hy).1; omega)]; exact hD
      · subst w
        exact ⟨8 + m, List.mem_cons_self, by rw [zf_Dn_s, hD, Bool.or_true]⟩
    · subst z
      exact ⟨8 + m, List.mem_cons_self, by rw [zf_Dn_s, hD, Bool.true_or]⟩
  · intro _
    rw [Nat.add_sub_cancel]
    exact List.mem_cons_self
  · intro x hx
    rcases Nat.decEq x m with z | z
    · rcases A11 x (by omega) with hy | ⟨x', g1, g2⟩
      · rcases Nat.decEq (8 + x) a with w | w
        · rcases Nat.decEq (8 + x) b with w' | w'
          · exact Or.inl (List.mem_cons_of_mem _ ((pm _).mpr ⟨hy, w, w'⟩))
          · exact Or.inr ⟨m, by omega, Or.inr (by rw [zq_st_s]; exact w'.symm)⟩
        · exact Or.inr ⟨m, by omega, Or.inl (by rw [zq_st_s]; exact w.symm)⟩
      · refine Or.inr ⟨x', by omega, ?_⟩
        rw [zq_st_n lc (by omega), zq_st_n rc (by omega)]
        exact g2
    · subst z
      exact Or.inl List.mem_cons_self
theorem zf_init {n : Nat} {ct : Nat → Nat} (hs : zf_sum ((zf_i0 ct 8).map ct) = n) : zf_I n ct 0 0 (zf_i0 ct 8) ct (fun _ => 0) (fun _ => 0) (fun y c => decide (c = y)) := by
  refine ⟨zf_i0_d ct 8, fun y hy => (zf_i0_m ct 8 y).mp hy, hs, by omega, fun s h => by rw [Nat.zero_add]; exact h, fun y _ c => rfl, fun x h => absurd h (Nat.not_lt_zero _), fun x x' _ h => absurd h (Nat.not_lt_zero _), fun c hc h => ⟨c, (zf_i0_m ct 8 c).mpr ⟨hc, h⟩, decide_eq_true rfl⟩, fun h => absurd h (Nat.lt_irrefl _), fun x h => absurd h (Nat.not_lt_zero _)⟩
theorem zf_m7 {n : Nat} {ct : Nat → Nat} {m cs : Nat} {l : List Nat} {wt lc rc : Nat → Nat} {D : Nat → Nat → Bool} (h : zf_I n ct m cs l wt lc rc D) : m ≤ 7 := by
  obtain ⟨A1, A2, A3, A4, A5, A6, A7, A8, A9, A10, A11⟩ := h
  have hK := zf_i0_l ct 8
  rcases Nat.decEq m 0 with z | z
  · have := List.length_pos_of_mem (A10 (by omega))
    omega
  · omega
/-- the arrays while joining -/
def zf_A (m : Nat) (l : List Nat) (wt lc rc : Nat → Nat) (nl nr w j : Nat → Int32) : Prop :=
  (∀ y, y < 16 → w y = nI (wt y) ∧ wt y < 1000) ∧ (∀ y, y < 8 + m → (y ∈ l ↔ j y = 0 ∧ 0 < wt y)) ∧ (∀ y, 8 + m ≤ y → y < 16 → j y = 0) ∧ (∀ x, x < m → nl x = nI (lc x) ∧ nr x = nI (rc x))
theorem zf_bool1 : vp_nar .boolean 1 = 1 := rfl
theorem zf_bool0 : vp_nar .boolean 0 = 0 := rfl
theorem zf_none {l : List Nat} {N : Nat} (h : ∀ y, y ∈ l → y < N) (h0 : ∀ y, y < N → decide (y ∈ l) = false) : l.length ≤ 0 := by
  cases l with
  | nil => exact Nat.le_refl _
  | cons x r =>
    have := of_decide_eq_false (h0 x (h x List.mem_cons_self))
    exact absurd List.mem_cons_self this
theorem zf_one {l : List Nat} {N a : Nat} (hd : l.Nodup) (h : ∀ y, y ∈ l → y < N) (h0 : ∀ y, y < N → decide (y ∈ l ∧ y ≠ a) = false) : l.length ≤ 1 := by
  have key : ∀ y, y ∈ l → y = a := fun y hy => by
    have := of_decide_eq_false (h0 y (h y hy))
    rcases Nat.decEq y a with z | z
    · exact absurd ⟨hy, z⟩ this
    · exact z
  cases l with
  | nil => exact Nat.zero_le _
  | cons x r =>
    cases r with
    | nil => exact Nat.le_refl _
    | cons y r =>
      have e1 := key x List.mem_cons_self
      have e2 := key y (List.mem_cons_of_mem _ List.mem_cons_self)
      have := (List.nodup_cons.mp hd).1
      rw [e1, e2] at this
      exact absurd List.mem_cons_self this
section
variable {f_n f_isPacked f_runCount f_nodes f_codeSum : Int32} {a_letters a_countOf a_sorted a_parted a_rowBits a_wordSum a_byteSum a_zerosOf a_lowWidth a_firstPlace a_lowPart a_highBits a_blockClass a_blockNumber a_blockSum a_choices a_runStart a_runLetter a_runBefore a_runSame a_lastRun a_nodeLeft a_nodeRight a_weight a_joined a_codeLength a_codeBits : Nat → Int32} {n : Nat}
theorem zf_mg {post : SX → Prop} (hn : n ≤ 200) {ct : Nat → Nat} (k : ∀ (N m cs : Nat) (l : List Nat) (wt lc rc : Nat → Nat) (D : Nat → Nat → Bool) (nl nr w j : Nat → Int32), zf_I n ct m cs l wt lc rc D → l.length ≤ 1 → (∀ x, x < m → nl x = nI (lc x) ∧ nr x = nI (rc x)) → wX_packCodes_69 post f_n f_isPacked f_runCount (N + 1) 0 (nI m) (nI cs) a_letters a_countOf a_sorted a_parted a_rowBits a_wordSum a_byteSum a_zerosOf a_lowWidth a_firstPlace a_lowPart a_highBits a_blockClass a_blockNumber a_blockSum a_choices a_runStart a_runLetter a_runBefore a_runSame a_lastRun nl nr w j a_codeLength a_codeBits) : ∀ (N m cs : Nat) (l : List Nat) (wt lc rc : Nat → Nat) (D : Nat → Nat → Bool) (nl nr w j : Nat → Int32), l.length ≤ N → zf_I n ct m cs l wt lc rc D → zf_A m l wt lc rc nl nr w j → wX_packCodes_69 post f_n f_isPacked f_runCount (N + 1 + 1) 1 (nI m) (nI cs) a_letters a_countOf a_sorted a_parted a_rowBits a_wordSum a_byteSum a_zerosOf a_lowWidth a_firstPlace a_lowPart a_highBits a_blockClass a_blockNumber a_blockSum a_choices a_runStart a_runLetter a_runBefore a_runSame a_lastRun nl nr w j a_codeLength a_codeBits := by
  intro N
  induction N with
  | zero =>
    intro m cs l wt lc rc D nl nr w j hN hI hA
    have hm7 := zf_m7 hI
    obtain ⟨B1, B2, B3, B4⟩ := hA
    have hl : l = [] := List.length_eq_zero_iff.mp (by omega)
    subst hl
    have hfr : ∀ y, y < 8 + m → ((fun _ : Nat => false) y = true ↔ j y = 0 ∧ 0 < wt y) := fun y hy => by
      rw [← B2 y hy]; simp
    refine br_f (by decide) (zf_rarest (m := m) (fr := fun _ => false) (wt := wt) (by omega) rfl B1 hfr (fun b hb => ?_))
    rcases hb with ⟨rfl, -⟩ | ⟨q, -, -, h, -⟩
    · refine br_t (by decide) (zf_rarest (m := m) (fr := fun _ => false) (wt := wt) (by omega) rfl B1 hfr (fun b hb => ?_))
      rcases hb with ⟨rfl, -⟩ | ⟨q, -, -, h, -⟩
      · exact br_t (by decide) (br_t rfl (k 0 m cs [] wt lc rc D nl nr w j hI (by simp) B4))
      · exact absurd h (by simp)
    · exact absurd h (by simp)
  | succ N ih =>
    intro m cs l wt lc rc D nl nr w j hN hI hA
    have hm7 := zf_m7 hI
    obtain ⟨B1, B2, B3, B4⟩ := hA
    have hI' := hI
    obtain ⟨A1, A2, A3, -⟩ := hI'
    have hlt : ∀ y, y ∈ l → y < 8 + m := fun y hy => (A2 y hy).1
    refine br_f (by decide) (zf_rarest (m := m) (fr := fun y => decide (y ∈ l)) (wt := wt) (by omega) rfl B1 (fun y hy => by rw [decide_eq_true_eq]; exact B2 y hy) (fun b hb => ?_))
    rcases hb with ⟨rfl, h0⟩ | ⟨a, a1, rfl, a2, a3⟩
    · have hl := zf_none hlt h0
      have hl : l = [] := List.length_eq_zero_iff.mp (by omega)
      subst hl
      have hfr : ∀ y, y < 8 + m → ((fun _ : Nat => false) y = true ↔ j y = 0 ∧ 0 < wt y) := fun y hy => by
        rw [← B2 y hy]; simp
      refine br_t (by decide) (zf_rarest (m := m) (fr := fun _ => false) (wt := wt) (by omega) rfl B1 hfr (fun b hb => ?_))
      rcases hb with ⟨rfl, -⟩ | ⟨q, -, -, h, -⟩
      · exact br_t (by decide) (br_t rfl (k (N + 1) m cs [] wt lc rc D nl nr w j hI (by simp) B4))
      · exact absurd h (by simp)
    · have ha : a ∈ l := of_decide_eq_true a2
      have hj : ∀ y, y < 8 + m → (decide (y ∈ l ∧ y ≠ a) = true ↔ upd j a 1 y = 0 ∧ 0 < wt y) := fun y hy => by
        rw [decide_eq_true_eq, B2 y hy]
        rcases Nat.decEq y a with z | z
        · rw [pk_un z]
          exact ⟨fun h => h.1, fun h => ⟨h, z⟩⟩
        · subst z
          rw [pk_us]
          exact ⟨fun h => absurd rfl h.2, fun h => absurd h.1 (by decide)⟩
      refine br_f (nI_pos (by omega)) (And.intro (vp_in_nI (by omega) (by omega)) (nm_r (e' := upd j a 1) ?_ (zf_rarest (m := m) (fr := fun y => decide (y ∈ l ∧ y ≠ a)) (wt := wt) (by omega) rfl B1 hj (fun b hb => ?_))))
      · rw [nI_clamp (by omega), zf_bool1]
      · rcases hb with ⟨rfl, h0⟩ | ⟨b, b1, rfl, b2, b3⟩
        · exact br_t (by decide) (br_t rfl (k (N + 1) m cs l wt lc rc D nl nr w _ hI (zf_one A1 hlt h0) B4))
        · have hb' : b ∈ l ∧ b ≠ a := of_decide_eq_true b2
          have hb := hb'.1
          have hab : a ≠ b := fun e => hb'.2 e.symm
          obtain ⟨m6, hlen, hI2⟩ := zf_merge hI ha hb hab (fun y hy => a3 y (hlt y hy) (decide_eq_true hy)) (fun y hy hy' => b3 y (hlt y hy) (decide_eq_true ⟨hy, hy'⟩))
          have hwa := B1 a (by omega)
          have hwb := B1 b (by omega)
          have hsum : wt a + wt b ≤ 200 := by
            have p := (zf_two A1 ha hb hab).1
            have := zf_sum_p (p.map wt)
            simp only [List.map_cons, zf_sum] at this
            omega
          have e8 : (8 : Int32) + nI m = nI (8 + m) := nI_add 8 m
          refine br_f (nI_pos (by omega)) (br_f (by decide) (And.intro (vp_in_nI (by omega) (by omega)) (nm_r (e' := upd (upd j a 1) b 1) ?_ (And.intro (vp_in_nI (by omega) (by omega)) (nm_r (e' := upd nl m (nI a)) ?_ (And.intro (vp_in_nI (by omega) (by omega)) (nm_r (e' := upd nr m (nI b)) ?_ (And.intro (vp_in_nI (by omega) (by omega)) (And.intro (vp_in_nI (by omega) (by omega)) (And.intro (pk_in (8 + m) 16 (by omega) e8) (nm_r (e' := upd w (8 + m) (nI (wt a + wt b))) ?_ (And.intro (vp_in_nI (by omega) (by omega)) (And.intro (vp_in_nI (by omega) (by omega)) (nm_r (e' := nI (cs + (wt a + wt b))) ?_ (nm_r (nI_1 m) ?_)))))))))))))))
          · rw [nI_clamp (by omega), zf_bool1]
          · rw [nI_clamp (by omega), zn_vbb (by omega)]
          · rw [nI_clamp (by omega), zn_vbb (by omega)]
          · rw [e8, nI_clamp (by omega), nI_clamp (by omega), nI_clamp (by omega), hwa.1, hwb.1, nI_add, zn_vss (by omega)]
          · rw [nI_clamp (n := a) (by omega), nI_clamp (n := b) (by omega), pk_un (by omega), pk_un (by omega), hwa.1, hwb.1, nI_add, nI_add]
          · refine ih (m + 1) _ _ _ _ _ _ (upd nl m (nI a)) (upd nr m (nI b)) (upd w (8 + m) (nI (wt a + wt b))) (upd (upd j a 1) b 1) (by omega) hI2 ⟨?_, ?_, ?_, ?_⟩
            · intro y hy
              rcases Nat.decEq y (8 + m) with z | z
              · rw [pk_un z, zq_st_n wt z]; exact B1 y hy
              · subst z; rw [pk_us, zq_st_s]; exact ⟨rfl, by omega⟩
            · intro y hy
              rw [List.mem_cons, (zf_two A1 ha hb hab).2.2 y]
              rcases Nat.decEq y (8 + m) with z | z
              · rw [zq_st_n wt z]
                have hB := B2 y (by omega)
                rcases Nat.decEq y b with w1 | w1
                · rw [pk_un w1]
                  rcases Nat.decEq y a with w2 | w2
                  · rw [pk_un w2, ← hB]
                    exact ⟨fun h => h.elim (fun e => absurd e z) (fun h => h.1), fun h => Or.inr ⟨h, w2, w1⟩⟩
                  · subst w2
                    rw [pk_us]
                    exact ⟨fun h => h.elim (fun e => absurd e z) (fun h => absurd rfl h.2.1), fun h => absurd h.1 (by decide)⟩
                · subst w1
                  rw [pk_us]
                  exact ⟨fun h => h.elim (fun e => absurd e z) (fun h => absurd rfl h.2.2), fun h => absurd h.1 (by decide)⟩
              · subst z
                rw [zq_st_s, pk_un (by omega), pk_un (by omega), B3 (8 + m) (Nat.le_refl _) (by omega)]
                have := (A2 a ha).2
                exact ⟨fun _ => ⟨rfl, by omega⟩, fun _ => Or.inl rfl⟩
            · intro y h1 h2
              rw [pk_un (by omega), pk_un (by omega)]; exact B3 y (by omega) h2
            · intro x hx
              rcases Nat.decEq x m with z | z
              · rw [pk_un z, pk_un z, zq_st_n lc z, zq_st_n rc z]; exact B4 x (by omega)
              · subst z; rw [pk_us, pk_us, zq_st_s, zq_st_s]; exact ⟨rfl, rfl⟩
/-! the codes, from the top down -/
def zf_N (m : Nat) (lc rc : Nat → Nat) (x : Nat) (ln bi : Nat → Nat) : Prop :=
  (∀ y, y < 16 → bi y < 2 ^ ln y ∧ ln y + x ≤ m) ∧ (0 < m → ln (8 + (m - 1)) = 0) ∧
  (∀ x', x ≤ x' → x' < m → ln (lc x') = ln (8 + x') + 1 ∧ bi (lc x') = bi (8 + x') ∧ ln (rc x') = ln (8 + x') + 1 ∧ bi (rc x') = bi (8 + x') + 2 ^ ln (8 + x'))
def zf_CL (cl cb : Nat → Int32) (ln bi : Nat → Nat) : Prop := ∀ y, y < 16 → cl y = nI (ln y) ∧ cb y = nI (bi y)
theorem zf_CL_u {cl cb : Nat → Int32} {ln bi : Nat → Nat} (h : zf_CL cl cb ln bi) (a u v : Nat) : zf_CL (upd cl a (nI u)) (upd cb a (nI v)) (zq_st ln a u) (zq_st bi a v) := by
  intro y hy
  rcases Nat.decEq y a with z | z
  · rw [pk_un z, pk_un z, zq_st_n ln z, zq_st_n bi z]; exact h y hy
  · subst z; rw [pk_us, pk_us, zq_st_s, zq_st_s]; exact ⟨rfl, rfl⟩
theorem zf_N_step {n : Nat} {ct : Nat → Nat} {m cs : Nat} {l : List Nat} {wt lc rc : Nat → Nat} {D : Nat → Nat → Bool} (hI : zf_I n ct m cs l wt lc rc D) {z : Nat} (hz : z < m) {ln bi : Nat → Nat} (h : zf_N m lc rc (z + 1) ln bi) : zf_N m lc rc z (zq_st (zq_st ln (lc z) (ln (8 + z) + 1)) (rc z) (ln (8 + z) + 1)) (zq_st (zq_st bi (lc z) (bi (8 + z))) (rc z) (bi (8 + z) + 2 ^ ln (8 + z))) := by
  have hm7 := zf_m7 hI
  obtain ⟨A1, A2, A3, A4, A5, A6, A7, A8, A9, A10, A11⟩ := hI
  obtain ⟨h1, h2, h3⟩ := h
  obtain ⟨c1, c2, c3, -⟩ := A7 z hz
  have hp : 2 ^ (ln (8 + z) + 1) = 2 ^ ln (8 + z) + 2 ^ ln (8 + z) := by rw [Nat.pow_succ]; omega
  have hzz := h1 (8 + z) (by omega)
  refine ⟨?_, ?_, ?_⟩
  · intro y hy
    rcases Nat.decEq y (rc z) with w1 | w1
    · rw [zq_st_n _ w1, zq_st_n _ w1]
      rcases Nat.decEq y (lc z) with w2 | w2
      · rw [zq_st_n _ w2, zq_st_n _ w2]
        have := h1 y hy
        exact ⟨this.1, by omega⟩
      · subst w2
        rw [zq_st_s, zq_st_s, hp]
        omega
    · subst w1
      rw [zq_st_s, zq_st_s, hp]
      omega
  · intro hm
    rw [zq_st_n _ (by omega), zq_st_n _ (by omega)]
    exact h2 hm
  · intro x' g1 g2
    have e1 : zq_st (zq_st ln (lc z) (ln (8 + z) + 1)) (rc z) (ln (8 + z) + 1) (8 + x') = ln (8 + x') := by rw [zq_st_n _ (by omega), zq_st_n _ (by omega)]
    have e2 : zq_st (zq_st bi (lc z) (bi (8 + z))) (rc z) (bi (8 + z) + 2 ^ ln (8 + z)) (8 + x') = bi (8 + x') := by rw [zq_st_n _ (by omega), zq_st_n _ (by omega)]
    rw [e1, e2]
    rcases Nat.decEq x' z with w | w
    · obtain ⟨d1, d2, d3, d4⟩ := A8 z x' (by omega) g2
      rw [zq_st_n _ (fun e => d3 e.symm), zq_st_n _ (fun e => d1 e.symm), zq_st_n _ (fun e => d3 e.symm), zq_st_n _ (fun e => d1 e.symm), zq_st_n _ (fun e => d4 e.symm), zq_st_n _ (fun e => d2 e.symm), zq_st_n _ (fun e => d4 e.symm), zq_st_n _ (fun e => d2 e.symm)]
      exact h3 x' (by omega) g2
    · subst w
      rw [zq_st_n _ c3, zq_st_s, zq_st_n _ c3, zq_st_s, zq_st_s, zq_st_s]
      exact ⟨rfl, rfl, rfl, rfl⟩
theorem zf_nm {post : SX → Prop} {ct : Nat → Nat} {m cs : Nat} {l : List Nat} {wt lc rc : Nat → Nat} {D : Nat → Nat → Bool} (hI : zf_I n ct m cs l wt lc rc D) (hA : ∀ x, x < m → a_nodeLeft x = nI (lc x) ∧ a_nodeRight x = nI (rc x)) (k : ∀ cl cb ln bi, zf_CL cl cb ln bi → zf_N m lc rc 0 ln bi → post (f_n, f_isPacked, f_runCount, f_nodes, f_codeSum, a_letters, a_countOf, a_sorted, a_parted, a_rowBits, a_wordSum, a_byteSum, a_zerosOf, a_lowWidth, a_firstPlace, a_lowPart, a_highBits, a_blockClass, a_blockNumber, a_blockSum, a_choices, a_runStart, a_runLetter, a_runBefore, a_runSame, a_lastRun, a_nodeLeft, a_nodeRight, a_weight, a_joined, cl, cb)) : ∀ (x : Nat), x ≤ m → ∀ (x1 : Int32), x1 = nI x - 1 → ∀ (cl cb : Nat → Int32) (ln bi : Nat → Nat), zf_CL cl cb ln bi → zf_N m lc rc x ln bi → wX_nameCodes_7 post f_n f_isPacked f_runCount f_nodes f_codeSum (x + 1) x1 a_letters a_countOf a_sorted a_parted a_rowBits a_wordSum a_byteSum a_zerosOf a_lowWidth a_firstPlace a_lowPart a_highBits a_blockClass a_blockNumber a_blockSum a_choices a_runStart a_runLetter a_runBefore a_runSame a_lastRun a_nodeLeft a_nodeRight a_weight a_joined cl cb := by
  have hm7 := zf_m7 hI
  intro x
  induction x with
  | zero =>
    intro _ x1 hx cl cb ln bi h1 h2
    subst hx
    exact br_t (by decide) (k cl cb ln bi h1 h2)
  | succ z ih =>
    intro hz x1 hx cl cb ln bi h1 h2
    rw [nI_pred] at hx
    subst hx
    have hc := hA z (by omega)
    obtain ⟨c1, c2, c3, -⟩ := hI.2.2.2.2.2.2.1 z (by omega)
    have hzz := h2.1 (8 + z) (by omega)
    have hcz := h1 (8 + z) (by omega)
    have e8 : (8 : Int32) + nI z = nI (8 + z) := nI_add 8 z
    have hb64 : bi (8 + z) < 64 := Nat.lt_of_lt_of_le hzz.1 (Nat.le_trans (Nat.pow_le_pow_right (by omega) (show ln (8 + z) ≤ 6 by omega)) (by decide))
    have hbo := zk_or (ln (8 + z)) (by omega) (bi (8 + z)) hb64 hzz.1
    have hpw : 2 ^ ln (8 + z) ≤ 64 := Nat.le_trans (Nat.pow_le_pow_right (by omega) (show ln (8 + z) ≤ 6 by omega)) (by decide)
    have v8 : vp_in (8 + nI z) 16 := pk_in (8 + z) 16 (by omega) e8
    have vz : vp_in (nI z) 8 := vp_in_nI (by omega) (by omega)
    have vl : vp_in (a_nodeLeft (nI z).toNatClampNeg) 16 := by rw [nI_clamp (by omega), hc.1]; exact vp_in_nI (by omega) (by omega)
    have vr : vp_in (a_nodeRight (nI z).toNatClampNeg) 16 := by rw [nI_clamp (by omega), hc.2]; exact vp_in_nI (by omega) (by omega)
    refine br_f (nI_pos (by omega)) (And.intro v8 (nm_r (e' := nI (ln (8 + z))) (by rw [e8, nI_clamp (by omega)]; exact hcz.1) (And.intro v8 (nm_r (e' := nI (bi (8 + z))) (by rw [e8, nI_clamp (by omega)]; exact hcz.2) (And.intro vz (And.intro vl (nm_r (e' := upd cl (lc z) (nI (ln (8 + z) + 1))) ?_ (And.intro vz (And.intro vl (nm_r (e' := upd cb (lc z) (nI (bi (8 + z)))) ?_ (And.intro vz (And.intro vr (nm_r (e' := upd (upd cl (lc z) (nI (ln (8 + z) + 1))) (rc z) (nI (ln (8 + z) + 1))) ?_ (And.intro vz (And.intro vr (nm_r (e' := upd (upd cb (lc z) (nI (bi (8 + z)))) (rc z) (nI (bi (8 + z) + 2 ^ ln (8 + z)))) ?_ (nm_r (e' := nI z - 1) (by rw [Int32.sub_eq_add_neg]) (ih (by omega) _ rfl _ _ _ _ (zf_CL_u (zf_CL_u h1 _ _ _) _ _ _) (zf_N_step hI (by omega) h2)))))))))))))))))))
    · rw [nI_clamp (n := z) (by omega), hc.1, nI_clamp (by omega), nI_1, zn_vbb (by omega)]
    · rw [nI_clamp (n := z) (by omega), hc.1, nI_clamp (by omega), zn_vbb (by omega)]
    · rw [nI_clamp (n := z) (by omega), hc.2, nI_clamp (by omega), nI_1, zn_vbb (by omega)]
    · rw [nI_clamp (n := z) (by omega), hc.2, nI_clamp (by omega), hbo, zn_vbb (by omega)]
theorem zf_nameCodes {post : SX → Prop} {ct : Nat → Nat} {m cs : Nat} {l : List Nat} {wt lc rc : Nat → Nat} {D : Nat → Nat → Bool} (hI : zf_I n ct m cs l wt lc rc D) (hf : f_nodes = nI m) (hA : ∀ x, x < m → a_nodeLeft x = nI (lc x) ∧ a_nodeRight x = nI (rc x)) (h0 : ∀ y, y < 16 → a_codeLength y = 0 ∧ a_codeBits y = 0) (k : ∀ cl cb ln bi, zf_CL cl cb ln bi → zf_N m lc rc 0 ln bi → post (f_n, f_isPacked, f_runCount, f_nodes, f_codeSum, a_letters, a_countOf, a_sorted, a_parted, a_rowBits, a_wordSum, a_byteSum, a_zerosOf, a_lowWidth, a_firstPlace, a_lowPart, a_highBits, a_blockClass, a_blockNumber, a_blockSum, a_choices, a_runStart, a_runLetter, a_runBefore, a_runSame, a_lastRun, a_nodeLeft, a_nodeRight, a_weight, a_joined, cl, cb)) : wpX_nameCodes post (f_n, f_isPacked, f_runCount, f_nodes, f_codeSum, a_letters, a_countOf, a_sorted, a_parted, a_rowBits, a_wordSum, a_byteSum, a_zerosOf, a_lowWidth, a_firstPlace, a_lowPart, a_highBits, a_blockClass, a_blockNumber, a_blockSum, a_choices, a_runStart, a_runLetter, a_runBefore, a_runSame, a_lastRun, a_nodeLeft, a_nodeRight, a_weight, a_joined, a_codeLength, a_codeBits) := by
  refine nm_r (e' := nI m - 1) (by rw [hf]) ⟨m + 1, zf_nm hI hA k m (Nat.le_refl _) _ rfl a_codeLength a_codeBits (fun _ => 0) (fun _ => 0) h0 ⟨fun y _ => ⟨by show 0 < 2 ^ 0; decide, by show 0 + m ≤ m; omega⟩, fun _ => rfl, fun x' h1 h2 => absurd h1 (by omega)⟩⟩
end
end
section
/-! engine 6: what the codes say of the tree; the rows of the nodes -/
theorem zf_half {a b k : Nat} (hb : b < 2 ^ k) : (a % 2 ^ (k + 1) = b → a % 2 ^ k = b ∧ a / 2 ^ k % 2 = 0) ∧ (a % 2 ^ (k + 1) = b + 2 ^ k → a % 2 ^ k = b ∧ a / 2 ^ k % 2 = 1) := by
  have e := Nat.mod_pow_succ (x := a) (b := 2) (k := k)
  have h1 : a % 2 ^ k < 2 ^ k := Nat.mod_lt _ (Nat.two_pow_pos k)
  rcases Nat.mod_two_eq_zero_or_one (a / 2 ^ k) with z | z
  · rw [z, Nat.mul_zero] at e
    exact ⟨fun h => ⟨by omega, z⟩, fun h => by omega⟩
  · rw [z, Nat.mul_one] at e
    exact ⟨fun h => by omega, fun h => ⟨by omega, z⟩⟩
section
variable {n : Nat} {ct : Nat → Nat} {m cs : Nat} {l : List Nat} {wt lc rc : Nat → Nat} {D : Nat → Nat → Bool} {ln bi : Nat → Nat}
theorem zf_desc (hI : zf_I n ct m cs l wt lc rc D) (hN : zf_N m lc rc 0 ln bi) (c : Nat) : ∀ (N y : Nat), y < N → y < 8 + m → D y c = true → c < 8 ∧ ln y ≤ ln c ∧ bi c % 2 ^ ln y = bi y
  | 0, y, h, _, _ => absurd h (Nat.not_lt_zero _)
  | N + 1, y, h, hy, hD => by
    have hm7 := zf_m7 hI
    obtain ⟨A1, A2, A3, A4, A5, A6, A7, -⟩ := id hI
    rcases Nat.lt_or_ge y 8 with z | z
    · rw [A6 y z c] at hD
      have e : c = y := of_decide_eq_true hD
      subst e
      exact ⟨z, Nat.le_refl _, Nat.mod_eq_of_lt (hN.1 c (by omega)).1⟩
    · obtain ⟨x, rfl⟩ : ∃ x, y = 8 + x := ⟨y - 8, by omega⟩
      obtain ⟨c1, c2, -, -, -, c6⟩ := A7 x (by omega)
      obtain ⟨d1, d2, d3, d4⟩ := hN.2.2 x (by omega) (by omega)
      have hb := (hN.1 (8 + x) (by omega)).1
      rw [c6 c, Bool.or_eq_true] at hD
      rcases hD with hD | hD
      · obtain ⟨g0, g1, g2⟩ := zf_desc hI hN c N (lc x) (by omega) (by omega) hD
        rw [d1] at g1 g2
        rw [d2] at g2
        exact ⟨g0, by omega, ((zf_half hb).1 g2).1⟩
      · obtain ⟨g0, g1, g2⟩ := zf_desc hI hN c N (rc x) (by omega) (by omega) hD
        rw [d3] at g1 g2
        rw [d4] at g2
        exact ⟨g0, by omega, ((zf_half hb).2 g2).1⟩
theorem zf_node (hI : zf_I n ct m cs l wt lc rc D) (hN : zf_N m lc rc 0 ln bi) {c x : Nat} (hx : x < m) : (D (lc x) c = true → c < 8 ∧ ln (8 + x) < ln c ∧ bi c % 2 ^ ln (8 + x) = bi (8 + x) ∧ bi c / 2 ^ ln (8 + x) % 2 = 0) ∧ (D (rc x) c = true → c < 8 ∧ ln (8 + x) < ln c ∧ bi c % 2 ^ ln (8 + x) = bi (8 + x) ∧ bi c / 2 ^ ln (8 + x) % 2 = 1) := by
  have hm7 := zf_m7 hI
  obtain ⟨c1, c2, -, -, -, c6⟩ := hI.2.2.2.2.2.2.1 x hx
  obtain ⟨d1, d2, d3, d4⟩ := hN.2.2 x (by omega) (by omega)
  have hb := (hN.1 (8 + x) (by omega)).1
  constructor
  · intro hD
    obtain ⟨g0, g1, g2⟩ := zf_desc hI hN c _ (lc x) (Nat.lt_succ_self _) (by omega) hD
    rw [d1] at g1 g2
    rw [d2] at g2
    exact ⟨g0, by omega, (zf_half hb).1 g2⟩
  · intro hD
    obtain ⟨g0, g1, g2⟩ := zf_desc hI hN c _ (rc x) (Nat.lt_succ_self _) (by omega) hD
    rw [d3] at g1 g2
    rw [d4] at g2
    exact ⟨g0, by omega, (zf_half hb).2 g2⟩
theorem zf_conv (hI : zf_I n ct m cs l wt lc rc D) (hl : l.length ≤ 1) (hN : zf_N m lc rc 0 ln bi) {c : Nat} (hc : c < 8) (hct : 0 < ct c) : ∀ (d x : Nat), m - x ≤ d → x < m → ln (8 + x) < ln c → bi c % 2 ^ ln (8 + x) = bi (8 + x) → D (8 + x) c = true
  | 0, x, h, hx, _, _ => absurd hx (by omega)
  | d + 1, x, h, hx, h1, h2 => by
    have hm7 := zf_m7 hI
    obtain ⟨A1, A2, A3, A4, A5, A6, A7, A8, A9, A10, A11⟩ := id hI
    have hroot := A10 (by omega)
    have huniq : ∀ y, y ∈ l → y = 8 + (m - 1) := fun y hy => by
      match l, hl, hy, hroot with
      | [z], _, hy, hroot => rw [List.mem_singleton] at hy hroot; omega
      | _ :: _ :: _, hl, _, _ => simp at hl
    rcases A11 x hx with hy | ⟨x', g1, g2⟩
    · obtain ⟨y, hy', hD⟩ := A9 c hc hct
      rw [huniq y hy', ← huniq _ hy] at hD
      exact hD
    · obtain ⟨c1, c2, -, -, -, c6⟩ := A7 x' g1
      obtain ⟨d1, d2, d3, d4⟩ := hN.2.2 x' (by omega) g1
      have hb := (hN.1 (8 + x') (by omega)).1
      rcases g2 with g2 | g2
      · rw [g2] at d1 d2
        rw [d1] at h1 h2
        rw [d2] at h2
        obtain ⟨q1, q2⟩ := (zf_half hb).1 h2
        have hD := zf_conv hI hl hN hc hct d x' (by omega) g1 (by omega) q1
        rw [c6 c, Bool.or_eq_true] at hD
        rcases hD with hD | hD
        · rw [g2] at hD; exact hD
        · have := ((zf_node hI hN g1).2 hD).2.2.2; omega
      · rw [g2] at d3 d4
        rw [d3] at h1 h2
        rw [d4] at h2
        obtain ⟨q1, q2⟩ := (zf_half hb).2 h2
        have hD := zf_conv hI hl hN hc hct d x' (by omega) g1 (by omega) q1
        rw [c6 c, Bool.or_eq_true] at hD
        rcases hD with hD | hD
        · have := ((zf_node hI hN g1).1 hD).2.2.2; omega
        · rw [g2] at hD; exact hD
end
/-- the tree of codes as the answers need it -/
def zf_T (n : Nat) (L : Nat → Nat) (R : Nat → Nat → Bool) (m : Nat) (lc rc : Nat → Nat) (D : Nat → Nat → Bool) : Prop :=
  (∀ y, y < 8 → ∀ c, D y c = decide (c = y)) ∧
  (∀ x, x < m → lc x < 8 + x ∧ rc x < 8 + x ∧ ∀ j, j < n → (D (8 + x) (L j) = (D (lc x) (L j) || D (rc x) (L j))) ∧ ¬ (D (lc x) (L j) = true ∧ D (rc x) (L j) = true)) ∧
  (∀ x, x < m → ∀ j, j < n → D (8 + x) (L j) = true → R (14 + x) (zc (fun i => D (8 + x) (L i)) j) = D (rc x) (L j)) ∧
  (0 < m → ∀ j, j < n → D (8 + (m - 1)) (L j) = true)
def zf_K (n : Nat) (L : Nat → Nat) (m : Nat) (lc rc : Nat → Nat) (D : Nat → Nat → Bool) (ln bi : Nat → Nat) : Prop :=
  (∀ x, x < m → ∀ j, j < n → D (8 + x) (L j) = true → ln (8 + x) < ln (L j) ∧ (bi (L j) / 2 ^ ln (8 + x) % 2 = 1 ↔ D (rc x) (L j) = true)) ∧
  (∀ x, x < m → ln (lc x) = ln (8 + x) + 1 ∧ ln (rc x) = ln (8 + x) + 1) ∧ (0 < m → ln (8 + (m - 1)) = 0) ∧ (∀ y, y < 16 → ln y ≤ m ∧ bi y < 128)
def zf_P (n : Nat) (L : Nat → Nat) (ct : Nat → Nat) (R : Nat → Nat → Bool) (nd cs : Int32) (nl nr cl cb : Nat → Int32) : Prop :=
  ∃ m lc rc D ln bi, m ≤ 7 ∧ nd = nI m ∧ zf_T n L R m lc rc D ∧ zf_K n L m lc rc D ln bi ∧ (∀ x, x < m → nl x = nI (lc x) ∧ nr x = nI (rc x)) ∧ zf_CL cl cb ln bi ∧ (∃ v, cs = nI v ∧ zf_C 8 ((zf_i0 ct 8).map ct) v) ∧ (m = 0 ↔ (zf_i0 ct 8).length ≤ 1)
section
variable {f_n f_isPacked f_runCount f_nodes f_codeSum : Int32} {a_letters a_countOf a_sorted a_parted a_rowBits a_wordSum a_byteSum a_zerosOf a_lowWidth a_firstPlace a_lowPart a_highBits a_blockClass a_blockNumber a_blockSum a_choices a_runStart a_runLetter a_runBefore a_runSame a_lastRun a_nodeLeft a_nodeRight a_weight a_joined a_codeLength a_codeBits : Nat → Int32} {n : Nat} {L : Nat → Nat}
theorem zf_pn {post : SX → Prop} (H : zl_H f_n a_letters n L) {ln bi : Nat → Nat} (hC : zf_CL a_codeLength a_codeBits ln bi) (h7 : ∀ y, y < 16 → ln y ≤ 7 ∧ bi y < 128) {x len : Nat} (hx : x < 7) (hl7 : len < 7) {bits : Nat} (hbits : bits < 128) {g v : Nat → Bool} (hU : ∀ i, i < n → (len < ln (L i) ∧ bi (L i) % 2 ^ len = bits ↔ g i = true)) (hV : ∀ i, i < n → g i = true → (bi (L i) / 2 ^ len % 2 = 1 ↔ v i = true)) {R0 : Nat → Nat → Bool} (k : ∀ rb R', zr_RB rb R' → (∀ r, r ≠ 14 + x → R' r = R0 r) → (∀ j, j < n → g j = true → R' (14 + x) (zc g j) = v j) → post (f_n, f_isPacked, f_runCount, f_nodes, f_codeSum, a_letters, a_countOf, a_sorted, a_parted, rb, a_wordSum, a_byteSum, a_zerosOf, a_lowWidth, a_firstPlace, a_lowPart, a_highBits, a_blockClass, a_blockNumber, a_blockSum, a_choices, a_runStart, a_runLetter, a_runBefore, a_runSame, a_lastRun, a_nodeLeft, a_nodeRight, a_weight, a_joined, a_codeLength, a_codeBits)) : ∀ (d i : Nat), i + d = n → ∀ (rb : Nat → Int32) (R' : Nat → Nat → Bool), zr_RB rb R' → (∀ r, r ≠ 14 + x → R' r = R0 r) → (∀ j, j < i → g j = true → R' (14 + x) (zc g j) = v j) → (∀ q, zc g i ≤ q → R' (14 + x) q = false) → wX_packNode_26 post (nI x) (nI len) (nI bits) (d + 1) (nI (zc g i)) (nI i) f_n f_isPacked f_runCount f_nodes f_codeSum a_letters a_countOf a_sorted a_parted rb a_wordSum a_byteSum a_zerosOf a_lowWidth a_firstPlace a_lowPart a_highBits a_blockClass a_blockNumber a_blockSum a_choices a_runStart a_runLetter a_runBefore a_runSame a_lastRun a_nodeLeft a_nodeRight a_weight a_joined a_codeLength a_codeBits
  | 0, i, hd, rb, R', hR, h1, h2, h3 => by
    have hn := H.1
    have e : i = n := by omega
    subst e
    exact pk_le i i (fun _ => k rb R' hR h1 h2) (fun h => absurd h (by omega)) H.2.2.1 rfl
  | d + 1, i, hd, rb, R', hR, h1, h2, h3 => by
    have hn := H.1
    have hL := H.2.1 i
    have hc := hC (L i) (by omega)
    have h7i := h7 (L i) (by omega)
    have hg := zc_le g i
    have e1 : a_letters (nI i).toNatClampNeg = nI (L i) := by rw [nI_clamp (by omega)]; exact H.2.2.2 i
    have v16 : vp_in (nI (L i)) 16 := vp_in_nI (by omega) (by omega)
    have ih := zf_pn (post := post) H hC h7 hx hl7 hbits hU hV k d (i + 1) (by omega)
    have skip : g i = false → wX_packNode_76 post (wX_packNode_26 post (nI x) (nI len) (nI bits) (d + 1)) (nI x) (nI len) (nI bits) (nI (zc g i)) (nI i) (nI (L i)) f_n f_isPacked f_runCount f_nodes f_codeSum a_letters a_countOf a_sorted a_parted rb a_wordSum a_byteSum a_zerosOf a_lowWidth a_firstPlace a_lowPart a_highBits a_blockClass a_blockNumber a_blockSum a_choices a_runStart a_runLetter a_runBefore a_runSame a_lastRun a_nodeLeft a_nodeRight a_weight a_joined a_codeLength a_codeBits := fun z => by
      refine br_t rfl (nm_r (nI_1 i) ?_)
      have q := ih rb R' hR h1 (fun j hj hgj => ?_) (fun q hq => h3 q (by rw [zc_f z] at hq; exact hq))
      · rw [zc_f z] at q; exact q
      · rcases Nat.decEq j i with y | y
        · exact h2 j (by omega) hgj
        · rw [y, z] at hgj; exact absurd hgj (by simp)
    refine pk_le n i (fun h => absurd h (by omega)) (fun _ => And.intro (vp_in_nI (by omega) (by omega)) (nm_r e1 (And.intro v16 ?_))) H.2.2.1 rfl
    rw [nI_clamp (by omega), hc.1, hc.2]
    refine pk_le (ln (L i)) len (fun z => skip ?_) (fun z => And.intro v16 ?_)
    · cases hgi : g i
      · rfl
      · have := ((hU i (by omega)).mpr hgi).1; omega
    · rw [pk_andN (by omega) len (zb_pw len (by omega))]
      have hmod : bi (L i) % 2 ^ len ≤ bi (L i) := Nat.mod_le _ _
      refine pk_eq (bi (L i) % 2 ^ len) bits (fun y => br_f (by decide) (And.intro v16 ?_)) (fun y => skip ?_)
      · have hgi := (hU i (by omega)).mp ⟨z, y⟩
        have hvi := hV i (by omega) hgi
        rw [nI_clamp (by omega), hc.2, zk_bitn h7i.2 hl7]
        have hb2 : bi (L i) / 2 ^ len % 2 < 2 := Nat.mod_lt _ (by decide)
        refine pk_eq (bi (L i) / 2 ^ len % 2) 0 (fun w => nm_r (nI_1 _) (nm_r (nI_1 i) ?_)) (fun w => ?_)
        · have hv0 : v i = false := by
            cases hv : v i
            · rfl
            · have := hvi.mpr hv; omega
          have q := ih rb R' hR h1 (fun j hj hgj => ?_) (fun q hq => h3 q (by rw [zc_t hgi] at hq; omega))
          · rw [zc_t hgi] at q; exact q
          · rcases Nat.decEq j i with y' | y'
            · exact h2 j (by omega) hgj
            · rw [y', h3 _ (Nat.le_refl _), hv0]
        · have hv1 : v i = true := hvi.mp (by omega)
          refine zr_setBit hR (r := 14 + x) (i := zc g i) (by omega) (by omega) (nI_add 14 x) rfl (fun rb' hR' => nm_r (nI_1 _) (nm_r (nI_1 i) ?_))
          have q := ih rb' _ hR' (fun r hr => ?_) (fun j hj hgj => ?_) (fun q hq => ?_)
          · rw [zc_t hgi] at q; exact q
          · rw [zr_set_r R' hr]; exact h1 r hr
          · rcases Nat.decEq j i with y' | y'
            · have := zc_lt (p := g) (j := j) (n := i) (by omega) hgj
              rw [zr_set_n R' (by omega)]
              exact h2 j (by omega) hgj
            · rw [y', zr_set_s, hv1]
          · rw [zc_t hgi] at hq
            rw [zr_set_n R' (by omega)]; exact h3 q (by omega)
      · cases hgi : g i
        · rfl
        · have := ((hU i (by omega)).mpr hgi).2; omega
/-- all nodes' rows -/
theorem zf_204 {post : SX → Prop} (H : zl_H f_n a_letters n L) {ct : Nat → Nat} {m cs : Nat} {l : List Nat} {wt lc rc : Nat → Nat} {D : Nat → Nat → Bool} {ln bi : Nat → Nat} (hct : ∀ j, j < n → 0 < ct (L j)) (hI : zf_I n ct m cs l wt lc rc D) (hl : l.length ≤ 1) (hN : zf_N m lc rc 0 ln bi) (hf : f_nodes = nI m) (hC : zf_CL a_codeLength a_codeBits ln bi) (h7 : ∀ y, y < 16 → ln y ≤ 7 ∧ bi y < 128) {R0 : Nat → Nat → Bool} (k : ∀ rb R', zr_RB rb R' → (∀ r, r < 14 → R' r = R0 r) → (∀ x, x < m → ∀ j, j < n → D (8 + x) (L j) = true → R' (14 + x) (zc (fun i => D (8 + x) (L i)) j) = D (rc x) (L j)) → post (f_n, f_isPacked, f_runCount, f_nodes, f_codeSum, a_letters, a_countOf, a_sorted, a_parted, rb, a_wordSum, a_byteSum, a_zerosOf, a_lowWidth, a_firstPlace, a_lowPart, a_highBits, a_blockClass, a_blockNumber, a_blockSum, a_choices, a_runStart, a_runLetter, a_runBefore, a_runSame, a_lastRun, a_nodeLeft, a_nodeRight, a_weight, a_joined, a_codeLength, a_codeBits)) : ∀ (d x : Nat), x + d = m → ∀ (rb : Nat → Int32) (R' : Nat → Nat → Bool), zr_RB rb R' → (∀ r, r < 14 → R' r = R0 r) → (∀ x', x' < x → ∀ j, j < n → D (8 + x') (L j) = true → R' (14 + x') (zc (fun i => D (8 + x') (L i)) j) = D (rc x') (L j)) → (∀ x', x ≤ x' → x' < 7 → ∀ q, R' (14 + x') q = false) → wX_packCodes_204 post (d + 1) (nI x) f_n f_isPacked f_runCount f_nodes f_codeSum a_letters a_countOf a_sorted a_parted rb a_wordSum a_byteSum a_zerosOf a_lowWidth a_firstPlace a_lowPart a_highBits a_blockClass a_blockNumber a_blockSum a_choices a_runStart a_runLetter a_runBefore a_runSame a_lastRun a_nodeLeft a_nodeRight a_weight a_joined a_codeLength a_codeBits
  | 0, x, hd, rb, R', hR, h1, h2, h3 => by
    have hm7 := zf_m7 hI
    have e : x = m := by omega
    subst e
    exact pk_le x x (fun _ => k rb R' hR h1 h2) (fun h => absurd h (by omega)) hf rfl
  | d + 1, x, hd, rb, R', hR, h1, h2, h3 => by
    have hm7 := zf_m7 hI
    have hx : x < m := by omega
    have hcz := hC (8 + x) (by omega)
    have e8 : (8 : Int32) + nI x = nI (8 + x) := nI_add 8 x
    have v8 : vp_in (8 + nI x) 16 := pk_in (8 + x) 16 (by omega) e8
    have hlen := (hN.1 (8 + x) (by omega)).2
    obtain ⟨d1, d2, d3, d4⟩ := hN.2.2 x (by omega) hx
    obtain ⟨c1, c2, -, -, -, c6⟩ := hI.2.2.2.2.2.2.1 x hx
    have hlen7 : ln (8 + x) < 7 := by
      have := (h7 (lc x) (by omega)).1
      omega
    refine pk_le m x (fun h => absurd h (by omega)) (fun _ => And.intro v8 (nm_r (e' := nI (ln (8 + x))) (by rw [e8, nI_clamp (by omega)]; exact hcz.1) (And.intro v8 (nm_r (e' := nI (bi (8 + x))) (by rw [e8, nI_clamp (by omega)]; exact hcz.2) ⟨n + 1, ?_⟩)))) hf rfl
    refine zf_pn H hC h7 (by omega) hlen7 (h7 (8 + x) (by omega)).2 (g := fun i => D (8 + x) (L i)) (v := fun i => D (rc x) (L i)) ?_ ?_ (R0 := R') (fun rb' R2 hR2 g1 g2 => nm_r (nI_1 x) (zf_204 H hct hI hl hN hf hC h7 k d (x + 1) (by omega) rb' R2 hR2 ?_ ?_ ?_)) n 0 (by omega) rb R' hR (fun r _ => rfl) (fun j h => absurd h (Nat.not_lt_zero _)) (fun q _ => h3 x (Nat.le_refl _) (by omega) q)
    · intro i hi
      constructor
      · intro h
        exact zf_conv hI hl hN (H.2.1 i) (hct i hi) m x (by omega) hx h.1 h.2
      · intro h
        have h : D (8 + x) (L i) = true := h
        rw [c6, Bool.or_eq_true] at h
        rcases h with h | h
        · have := (zf_node hI hN hx).1 h
          exact ⟨this.2.1, this.2.2.1⟩
        · have := (zf_node hI hN hx).2 h
          exact ⟨this.2.1, this.2.2.1⟩
    · intro i hi h
      have h : D (8 + x) (L i) = true := h
      rw [c6, Bool.or_eq_true] at h
      constructor
      · intro hb
        rcases h with h | h
        · have := ((zf_node hI hN hx).1 h).2.2.2; omega
        · exact h
      · intro hb
        exact ((zf_node hI hN hx).2 hb).2.2.2
    · intro r hr
      rw [g1 r (by omega)]; exact h1 r hr
    · intro x' hx'
      rcases Nat.decEq x' x with y | y
      · rw [g1 _ (by omega)]; exact h2 x' (by omega)
      · subst y; exact g2
    · intro x' y1 y2 q
      rw [g1 _ (by omega)]; exact h3 x' (by omega) y2 q
theorem zf_set {post : SX → Prop} {ct : Nat → Nat} (hct : ∀ c, c < 8 → a_countOf c = nI (ct c) ∧ ct c ≤ 200) (k : ∀ w j cl cb, (∀ y, y < 16 → w y = nI (if y < 8 then ct y else 0)) → (∀ y, y < 16 → j y = 0) → (∀ y, y < 16 → cl y = 0) → (∀ y, y < 16 → cb y = 0) → ∃ N, wX_packCodes_69 post f_n f_isPacked f_runCount N 1 f_nodes f_codeSum a_letters a_countOf a_sorted a_parted a_rowBits a_wordSum a_byteSum a_zerosOf a_lowWidth a_firstPlace a_lowPart a_highBits a_blockClass a_blockNumber a_blockSum a_choices a_runStart a_runLetter a_runBefore a_runSame a_lastRun a_nodeLeft a_nodeRight w j cl cb) : ∀ (d i : Nat), i + d = 16 → ∀ (w j cl cb : Nat → Int32), (∀ y, y < i → w y = nI (if y < 8 then ct y else 0)) → (∀ y, y < i → j y = 0) → (∀ y, y < i → cl y = 0) → (∀ y, y < i → cb y = 0) → wX_packCodes_12 post f_n f_isPacked f_runCount f_nodes f_codeSum (d + 1) (nI i) a_letters a_countOf a_sorted a_parted a_rowBits a_wordSum a_byteSum a_zerosOf a_lowWidth a_firstPlace a_lowPart a_highBits a_blockClass a_blockNumber a_blockSum a_choices a_runStart a_runLetter a_runBefore a_runSame a_lastRun a_nodeLeft a_nodeRight w j cl cb
  | 0, i, hd, w, j, cl, cb, h1, h2, h3, h4 => by
    have e : i = 16 := by omega
    subst e
    exact pk_le 16 16 (fun _ => k w j cl cb h1 h2 h3 h4) (fun h => absurd h (by omega))
  | d + 1, i, hd, w, j, cl, cb, h1, h2, h3, h4 => by
    have vi : vp_in (nI i) 16 := vp_in_nI (by omega) (by omega)
    have key : ∀ z0, z0 = nI (if i < 8 then ct i else 0) → (if i < 8 then ct i else 0) ≤ 200 → wX_packCodes_39 post (wX_packCodes_12 post f_n f_isPacked f_runCount f_nodes f_codeSum (d + 1)) (nI i) z0 (nI i) f_n f_isPacked f_runCount f_nodes f_codeSum a_letters a_countOf a_sorted a_parted a_rowBits a_wordSum a_byteSum a_zerosOf a_lowWidth a_firstPlace a_lowPart a_highBits a_blockClass a_blockNumber a_blockSum a_choices a_runStart a_runLetter a_runBefore a_runSame a_lastRun a_nodeLeft a_nodeRight w j cl cb := by
      intro z0 hz hz2
      subst hz
      refine And.intro vi (nm_r (e' := upd w i (nI (if i < 8 then ct i else 0))) ?_ (And.intro vi (nm_r (e' := upd j i 0) ?_ (And.intro vi (nm_r (e' := upd cl i 0) ?_ (And.intro vi (nm_r (e' := upd cb i 0) ?_ (nm_r (nI_1 i) (zf_set hct k d (i + 1) (by omega) _ _ _ _ (zu_ext (C := fun y => nI (if y < 8 then ct y else 0)) h1 rfl) (zu_ext (C := fun _ => 0) h2 rfl) (zu_ext (C := fun _ => 0) h3 rfl) (zu_ext (C := fun _ => 0) h4 rfl))))))))))
      · rw [nI_clamp (by omega), zn_vs (by omega)]
      · rw [nI_clamp (by omega), zf_bool0]
      · rw [nI_clamp (by omega)]; exact congrArg (upd cl i) (zn_vb (k := 0) (by decide))
      · rw [nI_clamp (by omega)]; exact congrArg (upd cb i) (zn_vb (k := 0) (by decide))
    refine pk_le 16 i (fun h => absurd h (by omega)) (fun _ => pk_le 8 i (fun h => key 0 ?_ ?_) (fun h => And.intro (vp_in_nI (by omega) (by omega)) (key _ ?_ ?_)))
    · rw [if_neg (by omega)]; rfl
    · rw [if_neg (by omega)]; omega
    · rw [if_pos h, nI_clamp (by omega)]; exact (hct i h).1
    · rw [if_pos h]; exact (hct i h).2
theorem zf_sumF (L : Nat → Nat) (n : Nat) : ∀ k, zf_sum ((zf_i0 (fun c => zc (zl_c L c) n) k).map (fun c => zc (zl_c L c) n)) = zh_F L n k
  | 0 => by
    show 0 = _
    exact (zt_b00 L 3 n).symm
  | k + 1 => by
    rw [zf_i0_s, zf_sumF L n k, zh_F_s]
theorem zf_sum8 (hL : ∀ i, L i < 8) : zh_F L n 8 = n := zc_all fun k _ => decide_eq_true (by rw [zt_p3]; exact hL k)
theorem zf_pack {post : SX → Prop} (H : zl_H f_n a_letters n L) (hct : ∀ c, c < 8 → a_countOf c = nI (zc (zl_c L c) n)) {R0 : Nat → Nat → Bool} (hR : zr_RB a_rowBits R0) (h0 : ∀ x, x < 7 → ∀ q, R0 (14 + x) q = false) (k : ∀ nd cs nl nr w j cl cb rb R', zr_RB rb R' → (∀ r, r < 14 → R' r = R0 r) → zf_P n L (fun c => zc (zl_c L c) n) R' nd cs nl nr cl cb → post (f_n, f_isPacked, f_runCount, nd, cs, a_letters, a_countOf, a_sorted, a_parted, rb, a_wordSum, a_byteSum, a_zerosOf, a_lowWidth, a_firstPlace, a_lowPart, a_highBits, a_blockClass, a_blockNumber, a_blockSum, a_choices, a_runStart, a_runLetter, a_runBefore, a_runSame, a_lastRun, nl, nr, w, j, cl, cb)) : wpX_packCodes post (f_n, f_isPacked, f_runCount, f_nodes, f_codeSum, a_letters, a_countOf, a_sorted, a_parted, a_rowBits, a_wordSum, a_byteSum, a_zerosOf, a_lowWidth, a_firstPlace, a_lowPart, a_highBits, a_blockClass, a_blockNumber, a_blockSum, a_choices, a_runStart, a_runLetter, a_runBefore, a_runSame, a_lastRun, a_nodeLeft, a_nodeRight, a_weight, a_joined, a_codeLength, a_codeBits) := by
  have hn := H.1
  have hle : ∀ c, zc (zl_c L c) n ≤ 200 := fun c => Nat.le_trans (zc_le _ _) hn
  refine ⟨16 + 1, zf_set (ct := fun c => zc (zl_c L c) n) (fun c hc => ⟨hct c hc, hle c⟩) (fun w j cl cb h1 h2 h3 h4 => ⟨8 + 1 + 1, ?_⟩) 16 0 rfl _ _ _ _ (fun y h => absurd h (Nat.not_lt_zero _)) (fun y h => absurd h (Nat.not_lt_zero _)) (fun y h => absurd h (Nat.not_lt_zero _)) (fun y h => absurd h (Nat.not_lt_zero _))⟩
  have hs : zf_sum ((zf_i0 (fun c => zc (zl_c L c) n) 8).map (fun c => zc (zl_c L c) n)) = n := by rw [zf_sumF, zf_sum8 H.2.1]
  have hI := zf_init hs
  refine zf_mg hn (ct := fun c => zc (zl_c L c) n) ?_ 8 0 0 (zf_i0 (fun c => zc (zl_c L c) n) 8) (fun y => if y < 8 then zc (zl_c L y) n else 0) (fun _ => 0) (fun _ => 0) (fun y c => decide (c = y)) a_nodeLeft a_nodeRight w j (zf_i0_l _ 8) ?_ ⟨?_, ?_, fun y _ hy => h2 y hy, fun x h => absurd h (Nat.not_lt_zero _)⟩
  · intro N m cs l wt lc rc D nl nr w' j' hI' hl hA
    have hm7 := zf_m7 hI'
    refine br_t rfl (zf_nameCodes hI' rfl hA (fun y hy => ⟨h3 y hy, h4 y hy⟩) (fun cl' cb' ln bi hC hN => ⟨m + 1, ?_⟩))
    have h7 : ∀ y, y < 16 → ln y ≤ 7 ∧ bi y < 128 := fun y hy => by
      obtain ⟨q1, q2⟩ := hN.1 y hy
      have : 2 ^ ln y ≤ 2 ^ 7 := Nat.pow_le_pow_right (by omega) (by omega)
      omega
    have hpos : ∀ i, i < n → 0 < zc (zl_c L (L i)) n := fun i hi => Nat.lt_of_le_of_lt (Nat.zero_le _) (zc_lt hi (decide_eq_true rfl))
    refine zf_204 H hpos hI' hl hN rfl hC h7 (R0 := R0) (fun rb R' hR' g1 g2 => ?_) m 0 (by omega) a_rowBits R0 hR (fun r _ => rfl) (fun x' h => absurd h (Nat.not_lt_zero _)) (fun x' _ h => h0 x' h)
    refine k _ _ nl nr w' j' cl' cb' rb R' hR' g1 ⟨m, lc, rc, D, ln, bi, hm7, rfl, ⟨hI'.2.2.2.2.2.1, ?_, g2, ?_⟩, ⟨?_, ?_, hN.2.1, fun y hy => ⟨by have := (hN.1 y hy).2; omega, (h7 y hy).2⟩⟩, hA, hC, ⟨cs, rfl, ?_⟩, ?_⟩
    · intro x hx
      obtain ⟨c1, c2, -, -, -, c6⟩ := hI'.2.2.2.2.2.2.1 x hx
      refine ⟨c1, c2, fun jj _ => ⟨c6 _, fun hb => ?_⟩⟩
      have q1 := ((zf_node hI' hN hx).1 hb.1).2.2.2
      have q2 := ((zf_node hI' hN hx).2 hb.2).2.2.2
      omega
    · intro hm jj hjj
      obtain ⟨y, hy, hD⟩ := hI'.2.2.2.2.2.2.2.2.1 (L jj) (H.2.1 jj) (hpos jj hjj)
      have hroot := hI'.2.2.2.2.2.2.2.2.2.1 hm
      have : y = 8 + (m - 1) := by
        match l, hl, hy, hroot with
        | [z], _, hy, hroot => rw [List.mem_singleton] at hy hroot; omega
        | _ :: _ :: _, hl, _, _ => simp at hl
      rw [this] at hD
      exact hD
    · intro x hx jj _ hD
      obtain ⟨c1, c2, -, -, -, c6⟩ := hI'.2.2.2.2.2.2.1 x hx
      rw [c6, Bool.or_eq_true] at hD
      rcases hD with hD | hD
      · have q1 := (zf_node hI' hN hx).1 hD
        refine ⟨q1.2.1, fun h => by omega, fun h => ?_⟩
        exact ((zf_node hI' hN hx).2 h).2.2.2
      · have q1 := (zf_node hI' hN hx).2 hD
        exact ⟨q1.2.1, fun _ => hD, fun _ => q1.2.2.2⟩
    · intro x hx
      obtain ⟨d1, d2, d3, d4⟩ := hN.2.2 x (by omega) hx
      exact ⟨d1, d3⟩
    · have := hI'.2.2.2.2.1 0 (zf_C_1 _ (by rw [List.length_map]; exact hl))
      exact this
    · have h4' := hI'.2.2.2.1
      constructor
      · intro hm; omega
      · intro hK
        rcases Nat.decEq m 0 with y | y
        · have := List.length_pos_of_mem (hI'.2.2.2.2.2.2.2.2.2.1 (by omega))
          omega
        · exact y
  · have e : (zf_i0 (fun c => zc (zl_c L c) n) 8).map (fun y => if y < 8 then zc (zl_c L y) n else 0) = (zf_i0 (fun c => zc (zl_c L c) n) 8).map (fun c => zc (zl_c L c) n) := List.map_congr_left (fun y hy => if_pos ((zf_i0_m _ 8 y).mp hy).1)
    obtain ⟨A1, A2, A3, A4, A5, A6⟩ := hI
    refine ⟨A1, fun y hy => ?_, by rw [e]; exact A3, A4, by rw [e]; exact A5, A6⟩
    have := A2 y hy
    show y < 8 + 0 ∧ 0 < (if y < 8 then zc (zl_c L y) n else 0)
    rw [if_pos (by omega)]
    exact this
  · intro y hy
    refine ⟨h1 y hy, ?_⟩
    have := hle y
    show (if y < 8 then zc (zl_c L y) n else 0) < 1000
    split <;> omega
  · intro y hy
    show y ∈ zf_i0 (fun c => zc (zl_c L c) n) 8 ↔ j y = 0 ∧ 0 < (if y < 8 then zc (zl_c L y) n else 0)
    rw [zf_i0_m, if_pos (by omega)]
    exact ⟨fun h => ⟨h2 y (by omega), h.2⟩, fun h => ⟨by omega, h.2⟩⟩
end
end
section
/-! answers of engine 6 -/
section
variable {f_n f_isPacked f_runCount f_nodes f_codeSum : Int32} {a_letters a_countOf a_sorted a_parted a_rowBits a_wordSum a_byteSum a_zerosOf a_lowWidth a_firstPlace a_lowPart a_highBits a_blockClass a_blockNumber a_blockSum a_choices a_runStart a_runLetter a_runBefore a_runSame a_lastRun a_nodeLeft a_nodeRight a_weight a_joined a_codeLength a_codeBits : Nat → Int32} {n : Nat} {L : Nat → Nat} {R : Nat → Nat → Bool} {m : Nat} {lc rc : Nat → Nat} {D : Nat → Nat → Bool} {ln bi : Nat → Nat}
theorem zf_cnt (HT : zf_T n L R m lc rc D) {x p : Nat} (hx : x < m) (hp : p ≤ n) : zc (R (14 + x)) (zc (fun i => D (8 + x) (L i)) p) = zc (fun i => D (rc x) (L i)) p ∧ zc (fun i => D (8 + x) (L i)) p = zc (fun i => D (lc x) (L i)) p + zc (fun i => D (rc x) (L i)) p := by
  obtain ⟨-, h2, h3, -⟩ := HT
  obtain ⟨-, -, h2⟩ := h2 x hx
  constructor
  · have q := zc_grp (B := R (14 + x)) (g := fun i => D (8 + x) (L i)) (d := fun i => D (rc x) (L i)) (s := 0) (n := n) (fun j hj hg => by rw [Nat.zero_add]; exact h3 x hx j hj hg) p hp
    rw [Nat.zero_add] at q
    rw [q]
    show 0 + _ = _
    rw [Nat.zero_add]
    exact zc_congr fun k hk => by
      show (D (8 + x) (L k) && D (rc x) (L k)) = D (rc x) (L k)
      rw [(h2 k (by omega)).1]
      cases D (lc x) (L k) <;> cases D (rc x) (L k) <;> rfl
  · exact zc_or fun k hk => h2 k (by omega)
theorem zf_rk {post : Int32 → Prop} (hn : n ≤ 200) (HR : zr_RS a_rowBits a_wordSum a_byteSum R) (HT : zf_T n L R m lc rc D) (HK : zf_K n L m lc rc D ln bi) (hm : m ≤ 7) (hA : ∀ x, x < m → a_nodeLeft x = nI (lc x) ∧ a_nodeRight x = nI (rc x)) (hC : zf_CL a_codeLength a_codeBits ln bi) {j0 p : Nat} (hj : j0 < n) (h8 : L j0 < 8) (hp : p ≤ n) (k : post (nI (zc (zl_c L (L j0)) p))) : ∀ (N y : Nat), y < N → y < 8 + m → D y (L j0) = true → ∀ (x3 : Int32), x3 = nI y - 8 → wX_rankInCodes_24 post (nI (L j0)) f_n f_isPacked f_runCount f_nodes f_codeSum a_letters a_countOf a_sorted a_parted a_rowBits a_wordSum a_byteSum a_zerosOf a_lowWidth a_firstPlace a_lowPart a_highBits a_blockClass a_blockNumber a_blockSum a_choices a_runStart a_runLetter a_runBefore a_runSame a_lastRun a_nodeLeft a_nodeRight a_weight a_joined a_codeLength a_codeBits N x3 (nI (zc (fun i => D y (L i)) p)) (nI (ln y))
  | 0, y, h, _, _, _, _ => absurd h (Nat.not_lt_zero _)
  | N + 1, y, h, hy, hD, x3, hx3 => by
    have hcl := hC (L j0) (by omega)
    have hk4 := HK.2.2.2
    have v16 : vp_in (nI (L j0)) 16 := vp_in_nI (by omega) (by omega)
    have hlc := (hk4 (L j0) (by omega)).1
    have hly := (hk4 y (by omega)).1
    refine And.intro v16 ?_
    rw [nI_clamp (by omega), hcl.1, hcl.2]
    rcases Nat.lt_or_ge y 8 with z | z
    · rw [HT.1 y z] at hD
      have e : L j0 = y := of_decide_eq_true hD
      refine pk_le (ln (L j0)) (ln y) (fun _ => ?_) (fun w => absurd w (by rw [e]; omega))
      rw [show zc (fun i => D y (L i)) p = zc (zl_c L (L j0)) p from zc_congr fun q _ => by rw [HT.1 y z, e]; rfl]
      exact k
    · obtain ⟨x, rfl⟩ : ∃ x, y = 8 + x := ⟨y - 8, by omega⟩
      have hx : x < m := by omega
      have ex : x3 = nI x := by
        rw [hx3, show (8 : Int32) = nI 8 from rfl, pk_sub (by omega), Nat.add_sub_cancel_left]
      subst ex
      obtain ⟨q1, q2⟩ := HK.1 x hx j0 hj hD
      obtain ⟨l1, l2⟩ := HK.2.1 x hx
      obtain ⟨c1, c2⟩ := zf_cnt HT hx hp
      obtain ⟨t1, t2, t3⟩ := HT.2.1 x hx
      obtain ⟨t3, t4⟩ := t3 j0 hj
      have hg := zc_le (fun i => D (8 + x) (L i)) p
      have hbi := (hk4 (L j0) (by omega)).2
      have vx : vp_in (nI x) 8 := vp_in_nI (by omega) (by omega)
      refine pk_le (ln (L j0)) (ln (8 + x)) (fun w => absurd w (by omega)) (fun _ => And.intro v16 ?_)
      rw [zk_bitn hbi (by omega)]
      have hb2 : bi (L j0) / 2 ^ ln (8 + x) % 2 < 2 := Nat.mod_lt _ (by decide)
      refine pk_eq (bi (L j0) / 2 ^ ln (8 + x) % 2) 0 (fun w => ?_) (fun w => ?_)
      · have hr : D (rc x) (L j0) = false := by
          cases hd : D (rc x) (L j0)
          · rfl
          · have := q2.mpr hd; omega
        have hl : D (lc x) (L j0) = true := by rw [t3, hr, Bool.or_false] at hD; exact hD
        refine zr_ones HR (r := 14 + x) (i := zc (fun i => D (8 + x) (L i)) p) (by omega) (by omega) (nI_add 14 x) rfl (br_t rfl (br_t rfl (And.intro vx (nm_r (e' := nI (lc x) - 8) ?_ (nm_r (nI_1 _) ?_)))))
        · rw [nI_clamp (by omega), (hA x hx).1]
        · rw [c1, pk_sub (by omega), show zc (fun i => D (8 + x) (L i)) p - zc (fun i => D (rc x) (L i)) p = zc (fun i => D (lc x) (L i)) p by omega, ← l1]
          exact zf_rk hn HR HT HK hm hA hC hj h8 hp k N (lc x) (by omega) (by omega) hl _ rfl
      · have hr : D (rc x) (L j0) = true := q2.mp (by omega)
        refine zr_ones HR (r := 14 + x) (i := zc (fun i => D (8 + x) (L i)) p) (by omega) (by omega) (nI_add 14 x) rfl (br_f (by decide) (br_f (by decide) (And.intro vx (nm_r (e' := nI (rc x) - 8) ?_ (nm_r (nI_1 _) ?_)))))
        · rw [nI_clamp (by omega), (hA x hx).2]
        · rw [c1, ← l2]
          exact zf_rk hn HR HT HK hm hA hC hj h8 hp k N (rc x) (by omega) (by omega) hr _ rfl
theorem zf_same {ct : Nat → Nat} (h : (zf_i0 ct 8).length ≤ 1) {a b : Nat} (ha : a < 8) (hb : b < 8) (h1 : 0 < ct a) (h2 : 0 < ct b) : a = b := by
  have ma := (zf_i0_m ct 8 a).mpr ⟨ha, h1⟩
  have mb := (zf_i0_m ct 8 b).mpr ⟨hb, h2⟩
  generalize zf_i0 ct 8 = l at h ma mb
  match l, h, ma, mb with
  | [z], _, ma, mb => rw [List.mem_singleton] at ma mb; omega
  | _ :: _ :: _, h, _, _ => simp at h
theorem zf_rank {post : Int32 → Prop} (H : zl_H f_n a_letters n L) (HR : zr_RS a_rowBits a_wordSum a_byteSum R) (HF : zf_P n L (fun c => zc (zl_c L c) n) R f_nodes f_codeSum a_nodeLeft a_nodeRight a_codeLength a_codeBits) (hct : ∀ c, c < 8 → a_countOf c = nI (zc (zl_c L c) n)) {c p : Nat} (hc : c < 8) (hp : p ≤ n) (k : post (nI (zc (zl_c L c) p))) : wpX_rankInCodes post (f_n, f_isPacked, f_runCount, f_nodes, f_codeSum, a_letters, a_countOf, a_sorted, a_parted, a_rowBits, a_wordSum, a_byteSum, a_zerosOf, a_lowWidth, a_firstPlace, a_lowPart, a_highBits, a_blockClass, a_blockNumber, a_blockSum, a_choices, a_runStart, a_runLetter, a_runBefore, a_runSame, a_lastRun, a_nodeLeft, a_nodeRight, a_weight, a_joined, a_codeLength, a_codeBits) (nI c) (nI p) := by
  obtain ⟨m, lc, rc, D, ln, bi, hm, hf, HT, HK, hA, hC, -, hm0⟩ := HF
  have hn := H.1
  have hle := zc_le (zl_c L c) n
  refine And.intro (vp_in_nI hc (by omega)) ?_
  rw [nI_clamp (by omega), hct c hc]
  refine pk_eq (zc (zl_c L c) n) 0 (fun z => ?_) (fun z => nm_e ?_)
  · have := zc_mono (zl_c L c) hp
    rw [show zc (zl_c L c) p = 0 by omega] at k
    exact k
  · obtain ⟨j0, hj, hl, -⟩ := zc_ex (p := zl_c L c) (k := 0) (n := n) (by omega)
    have hl' : L j0 = c := of_decide_eq_true hl
    subst hl'
    rcases Nat.decEq m 0 with y | y
    · refine ⟨8 + m, ?_⟩
      have hroot := HT.2.2.2 (by omega)
      have q := zf_rk (post := post) (f_n := f_n) (f_isPacked := f_isPacked) (f_runCount := f_runCount) (f_nodes := f_nodes) (f_codeSum := f_codeSum) (a_letters := a_letters) (a_countOf := a_countOf) (a_sorted := a_sorted) (a_parted := a_parted) (a_rowBits := a_rowBits) (a_wordSum := a_wordSum) (a_byteSum := a_byteSum) (a_zerosOf := a_zerosOf) (a_lowWidth := a_lowWidth) (a_firstPlace := a_firstPlace) (a_lowPart := a_lowPart) (a_highBits := a_highBits) (a_blockClass := a_blockClass) (a_blockNumber := a_blockNumber) (a_blockSum := a_blockSum) (a_choices := a_choices) (a_runStart := a_runStart) (a_runLetter := a_runLetter) (a_runBefore := a_runBefore) (a_runSame := a_runSame) (a_lastRun := a_lastRun) (a_nodeLeft := a_nodeLeft) (a_nodeRight := a_nodeRight) (a_weight := a_weight) (a_joined := a_joined) (a_codeLength := a_codeLength) (a_codeBits := a_codeBits) hn HR HT HK hm hA hC hj hc hp k (8 + m) (8 + (m - 1)) (by omega) (by omega) (hroot j0 hj) (f_nodes - 1) (by rw [hf, show (8 : Int32) = nI 8 from rfl, pk_sub (by omega), show nI m - 1 = nI (m - 1) from pk_sub (a := m) (b := 1) (by omega)]; exact congrArg nI (by omega))
      rw [HK.2.2.1 (by omega), zc_all (fun i hi => hroot i (by omega))] at q
      exact q
    · subst y
      have hK := hm0.mp rfl
      have hcl := hC (L j0) (by omega)
      have hl0 := (HK.2.2.2 (L j0) (by omega)).1
      refine ⟨1, And.intro (vp_in_nI (by omega) (by omega)) ?_⟩
      rw [nI_clamp (by omega), hcl.1]
      refine pk_le (ln (L j0)) 0 (fun _ => ?_) (fun w => absurd w (by omega))
      rw [zc_all (fun i hi => ?_)] at k
      · exact k
      · have hpos : ∀ q, q < n → 0 < zc (zl_c L (L q)) n := fun q hq => Nat.lt_of_le_of_lt (Nat.zero_le _) (zc_lt hq (decide_eq_true rfl))
        exact decide_eq_true (zf_same (ct := fun c => zc (zl_c L c) n) hK (H.2.1 i) hc (hpos i (by omega)) (hpos j0 hj))
theorem zf_at' {post : Int32 → Prop} (hn : n ≤ 200) (HR : zr_RS a_rowBits a_wordSum a_byteSum R) (HT : zf_T n L R m lc rc D) (hm : m ≤ 7) (hA : ∀ x, x < m → a_nodeLeft x = nI (lc x) ∧ a_nodeRight x = nI (rc x)) {p : Nat} (hp : p < n) (h8 : L p < 8) (k : post (nI (L p))) : ∀ (N x : Nat), x < N → x < m → D (8 + x) (L p) = true → wX_atInCodes_28 post f_n f_isPacked f_runCount f_nodes f_codeSum a_letters a_countOf a_sorted a_parted a_rowBits a_wordSum a_byteSum a_zerosOf a_lowWidth a_firstPlace a_lowPart a_highBits a_blockClass a_blockNumber a_blockSum a_choices a_runStart a_runLetter a_runBefore a_runSame a_lastRun a_nodeLeft a_nodeRight a_weight a_joined a_codeLength a_codeBits (N + 1) (nI x) (nI (zc (fun i => D (8 + x) (L i)) p)) (-1)
  | 0, x, h, _, _ => absurd h (Nat.not_lt_zero _)
  | N + 1, x, h, hx, hD => by
    obtain ⟨c1, c2⟩ := zf_cnt HT hx (Nat.le_of_lt hp)
    obtain ⟨t1, t2, t3⟩ := HT.2.1 x hx
    obtain ⟨t3, t4⟩ := t3 p hp
    have hrow := HT.2.2.1 x hx p hp hD
    have hg := zc_le (fun i => D (8 + x) (L i)) p
    have vx : vp_in (nI x) 8 := vp_in_nI (by omega) (by omega)
    have fin : ∀ y, y < 8 + x → D y (L p) = true → wX_atInCodes_91 post (wX_atInCodes_28 post f_n f_isPacked f_runCount f_nodes f_codeSum a_letters a_countOf a_sorted a_parted a_rowBits a_wordSum a_byteSum a_zerosOf a_lowWidth a_firstPlace a_lowPart a_highBits a_blockClass a_blockNumber a_blockSum a_choices a_runStart a_runLetter a_runBefore a_runSame a_lastRun a_nodeLeft a_nodeRight a_weight a_joined a_codeLength a_codeBits (N + 1)) (nI y) (nI (zc (fun i => D y (L i)) p)) f_n f_isPacked f_runCount f_nodes f_codeSum a_letters a_countOf a_sorted a_parted a_rowBits a_wordSum a_byteSum a_zerosOf a_lowWidth a_firstPlace a_lowPart a_highBits a_blockClass a_blockNumber a_blockSum a_choices a_runStart a_runLetter a_runBefore a_runSame a_lastRun a_nodeLeft a_nodeRight a_weight a_joined a_codeLength a_codeBits := by
      intro y hy hDy
      refine pk_le 8 y (fun w => nm_r (e' := nI (y - 8)) (pk_sub (a := y) (b := 8) w) ?_) (fun w => nm_e ?_)
      · have q := zf_at' (post := post) hn HR HT hm hA hp h8 k N (y - 8) (by omega) (by omega) (by rw [show 8 + (y - 8) = y by omega]; exact hDy)
        rw [show 8 + (y - 8) = y by omega] at q
        exact q
      · rw [HT.1 y w] at hDy
        have e : L p = y := of_decide_eq_true hDy
        subst e
        exact br_t (nI_pos' (by omega)) k
    refine br_f (by decide) (zr_bitAt HR.1 (r := 14 + x) (i := zc (fun i => D (8 + x) (L i)) p) (by omega) (by omega) (nI_add 14 x) rfl (fun w => zr_ones HR (r := 14 + x) (i := zc (fun i => D (8 + x) (L i)) p) (by omega) (by omega) (nI_add 14 x) rfl (br_f (by decide) (And.intro vx (br_f (by decide) ?_)))) (fun w => zr_ones HR (r := 14 + x) (i := zc (fun i => D (8 + x) (L i)) p) (by omega) (by omega) (nI_add 14 x) rfl (br_t rfl (And.intro vx (br_t rfl ?_)))))
    · rw [nI_clamp (by omega), (hA x hx).2, c1]
      rw [hrow] at w
      exact fin (rc x) (by omega) w
    · rw [nI_clamp (by omega), (hA x hx).1, c1, pk_sub (by omega), show zc (fun i => D (8 + x) (L i)) p - zc (fun i => D (rc x) (L i)) p = zc (fun i => D (lc x) (L i)) p by omega]
      rw [hrow] at w
      exact fin (lc x) (by omega) (by rw [t3, w, Bool.or_false] at hD; exact hD)
theorem zf_at {post : Int32 → Prop} (H : zl_H f_n a_letters n L) (HR : zr_RS a_rowBits a_wordSum a_byteSum R) {ct : Nat → Nat} (HF : zf_P n L ct R f_nodes f_codeSum a_nodeLeft a_nodeRight a_codeLength a_codeBits) {p : Nat} (hp : p < n) (k : post (nI (L p))) : wpX_atInCodes post (f_n, f_isPacked, f_runCount, f_nodes, f_codeSum, a_letters, a_countOf, a_sorted, a_parted, a_rowBits, a_wordSum, a_byteSum, a_zerosOf, a_lowWidth, a_firstPlace, a_lowPart, a_highBits, a_blockClass, a_blockNumber, a_blockSum, a_choices, a_runStart, a_runLetter, a_runBefore, a_runSame, a_lastRun, a_nodeLeft, a_nodeRight, a_weight, a_joined, a_codeLength, a_codeBits) (nI p) := by
  obtain ⟨m, lc, rc, D, ln, bi, hm, hf, HT, HK, hA, hC, -, hm0⟩ := HF
  have hn := H.1
  have h8 := H.2.1 p
  refine nm_r (e' := nI m - 1) (by rw [hf]) (pk_eq m 0 (fun z => And.intro (vp_in_nI (by omega) (by omega)) (nm_r (e' := nI (L p)) (by rw [nI_clamp (by omega)]; exact H.2.2.2 p) ⟨1, br_t (nI_pos' (by omega)) k⟩)) (fun z => ⟨m + 1, ?_⟩) hf rfl)
  have hroot := HT.2.2.2 (by omega)
  have q := zf_at' (post := post) (f_n := f_n) (f_isPacked := f_isPacked) (f_runCount := f_runCount) (f_nodes := f_nodes) (f_codeSum := f_codeSum) (a_letters := a_letters) (a_countOf := a_countOf) (a_sorted := a_sorted) (a_parted := a_parted) (a_rowBits := a_rowBits) (a_wordSum := a_wordSum) (a_byteSum := a_byteSum) (a_zerosOf := a_zerosOf) (a_lowWidth := a_lowWidth) (a_firstPlace := a_firstPlace) (a_lowPart := a_lowPart) (a_highBits := a_highBits) (a_blockClass := a_blockClass) (a_blockNumber := a_blockNumber) (a_blockSum := a_blockSum) (a_choices := a_choices) (a_runStart := a_runStart) (a_runLetter := a_runLetter) (a_runBefore := a_runBefore) (a_runSame := a_runSame) (a_lastRun := a_lastRun) (a_nodeLeft := a_nodeLeft) (a_nodeRight := a_nodeRight) (a_weight := a_weight) (a_joined := a_joined) (a_codeLength := a_codeLength) (a_codeBits := a_codeBits) hn HR HT hm hA hp h8 k m (m - 1) (by omega) (by omega) (hroot p hp)
  rw [zc_all (fun i hi => hroot i (by omega))] at q
  rw [show nI m - 1 = nI (m - 1) from pk_sub (a := m) (b := 1) (by omega)]
  exact q
end
end
section
/-! packing as a whole -/
/-- what the packed tables hold -/
def zz_P (n : Nat) (L : Nat → Nat) (u : SX) : Prop := match u with
  | (f_n, f_isPacked, f_runCount, f_nodes, f_codeSum, a_letters, a_countOf, a_sorted, a_parted, a_rowBits, a_wordSum, a_byteSum, a_zerosOf, a_lowWidth, a_firstPlace, a_lowPart, a_highBits, a_blockClass, a_blockNumber, a_blockSum, a_choices, a_runStart, a_runLetter, a_runBefore, a_runSame, a_lastRun, a_nodeLeft, a_nodeRight, a_weight, a_joined, a_codeLength, a_codeBits) => ∃ R, zr_RS a_rowBits a_wordSum a_byteSum R ∧ zt_T n L R ∧ zm_M n L R a_zerosOf ∧ zb_M n L R ∧ zf_P n L (fun c => zc (zl_c L c) n) R f_nodes f_codeSum a_nodeLeft a_nodeRight a_codeLength a_codeBits ∧ zh_P n L a_firstPlace a_lowWidth a_lowPart a_highBits ∧ zk_P n L a_blockSum a_blockClass a_blockNumber ∧ zq_P n L f_runCount a_runStart a_runLetter a_runBefore a_runSame a_lastRun ∧ (∀ c, c < 8 → a_countOf c = nI (zc (zl_c L c) n))
section
variable {f_n f_isPacked f_runCount f_nodes f_codeSum : Int32} {a_letters a_countOf a_sorted a_parted a_rowBits a_wordSum a_byteSum a_zerosOf a_lowWidth a_firstPlace a_lowPart a_highBits a_blockClass a_blockNumber a_blockSum a_choices a_runStart a_runLetter a_runBefore a_runSame a_lastRun a_nodeLeft a_nodeRight a_weight a_joined a_codeLength a_codeBits : Nat → Int32} {n : Nat} {L : Nat → Nat}
theorem zz_10 {post : SX → Prop} (k : ∀ rb, (∀ q, q < 147 → rb q = 0) → wX_pack_10 post f_n f_isPacked f_runCount f_nodes f_codeSum 1 147 a_letters a_countOf a_sorted a_parted rb a_wordSum a_byteSum a_zerosOf a_lowWidth a_firstPlace a_lowPart a_highBits a_blockClass a_blockNumber a_blockSum a_choices a_runStart a_runLetter a_runBefore a_runSame a_lastRun a_nodeLeft a_nodeRight a_weight a_joined a_codeLength a_codeBits) : ∀ (d i : Nat), i + d = 147 → ∀ (rb : Nat → Int32), (∀ q, q < i → rb q = 0) → wX_pack_10 post f_n f_isPacked f_runCount f_nodes f_codeSum (d + 1) (nI i) a_letters a_countOf a_sorted a_parted rb a_wordSum a_byteSum a_zerosOf a_lowWidth a_firstPlace a_lowPart a_highBits a_blockClass a_blockNumber a_blockSum a_choices a_runStart a_runLetter a_runBefore a_runSame a_lastRun a_nodeLeft a_nodeRight a_weight a_joined a_codeLength a_codeBits
  | 0, i, hd, rb, h => by
    have e : i = 147 := by omega
    subst e
    exact k rb h
  | d + 1, i, hd, rb, h => by
    refine pk_le 147 i (fun h => absurd h (by omega)) (fun _ => And.intro (vp_in_nI (by omega) (by omega)) (nm_r (e' := upd rb i 0) ?_ (nm_r (nI_1 i) (zz_10 k d (i + 1) (by omega) _ (zu_ext (C := fun _ => 0) h rfl)))))
    rw [nI_clamp (by omega)]
theorem zz_32 {post : SX → Prop} (k : ∀ co, (∀ q, q < 8 → co q = 0) → wX_pack_32 post f_n f_isPacked f_runCount f_nodes f_codeSum 1 8 a_letters co a_sorted a_parted a_rowBits a_wordSum a_byteSum a_zerosOf a_lowWidth a_firstPlace a_lowPart a_highBits a_blockClass a_blockNumber a_blockSum a_choices a_runStart a_runLetter a_runBefore a_runSame a_lastRun a_nodeLeft a_nodeRight a_weight a_joined a_codeLength a_codeBits) : ∀ (d i : Nat), i + d = 8 → ∀ (co : Nat → Int32), (∀ q, q < i → co q = 0) → wX_pack_32 post f_n f_isPacked f_runCount f_nodes f_codeSum (d + 1) (nI i) a_letters co a_sorted a_parted a_rowBits a_wordSum a_byteSum a_zerosOf a_lowWidth a_firstPlace a_lowPart a_highBits a_blockClass a_blockNumber a_blockSum a_choices a_runStart a_runLetter a_runBefore a_runSame a_lastRun a_nodeLeft a_nodeRight a_weight a_joined a_codeLength a_codeBits
  | 0, i, hd, co, h => by
    have e : i = 8 := by omega
    subst e
    exact k co h
  | d + 1, i, hd, co, h => by
    refine pk_le 8 i (fun h => absurd h (by omega)) (fun _ => And.intro (vp_in_nI (by omega) (by omega)) (nm_r (e' := upd co i 0) ?_ (nm_r (nI_1 i) (zz_32 k d (i + 1) (by omega) _ (zu_ext (C := fun _ => 0) h rfl)))))
    rw [nI_clamp (by omega)]
    exact congrArg (upd co i) (zn_vs (k := 0) (by decide))
theorem zz_53 {post : SX → Prop} (H : zl_H f_n a_letters n L) (k : ∀ co, (∀ c, c < 8 → co c = nI (zc (zl_c L c) n)) → wX_pack_53 post f_n f_isPacked f_runCount f_nodes f_codeSum 1 (nI n) a_letters co a_sorted a_parted a_rowBits a_wordSum a_byteSum a_zerosOf a_lowWidth a_firstPlace a_lowPart a_highBits a_blockClass a_blockNumber a_blockSum a_choices a_runStart a_runLetter a_runBefore a_runSame a_lastRun a_nodeLeft a_nodeRight a_weight a_joined a_codeLength a_codeBits) : ∀ (d i : Nat), i + d = n → ∀ (co : Nat → Int32), (∀ c, c < 8 → co c = nI (zc (zl_c L c) i)) → wX_pack_53 post f_n f_isPacked f_runCount f_nodes f_codeSum (d + 1) (nI i) a_letters co a_sorted a_parted a_rowBits a_wordSum a_byteSum a_zerosOf a_lowWidth a_firstPlace a_lowPart a_highBits a_blockClass a_blockNumber a_blockSum a_choices a_runStart a_runLetter a_runBefore a_runSame a_lastRun a_nodeLeft a_nodeRight a_weight a_joined a_codeLength a_codeBits
  | 0, i, hd, co, h => by
    have e : i = n := by omega
    subst e
    exact k co h
  | d + 1, i, hd, co, h => by
    have hn := H.1
    have hL := H.2.1 i
    have hc := zc_le (zl_c L (L i)) i
    have e1 : a_letters (nI i).toNatClampNeg = nI (L i) := by rw [nI_clamp (by omega)]; exact H.2.2.2 i
    have v8 : vp_in (a_letters (nI i).toNatClampNeg) 8 := by rw [e1]; exact vp_in_nI hL (by omega)
    refine pk_le n i (fun h => absurd h (by omega)) (fun _ => And.intro (vp_in_nI (by omega) (by omega)) (And.intro v8 (And.intro v8 (nm_r (e' := upd co (L i) (nI (zc (zl_c L (L i)) i + 1))) ?_ (nm_r (nI_1 i) (zz_53 H k d (i + 1) (by omega) _ ?_)))))) H.2.2.1 rfl
    · rw [e1, nI_clamp (by omega), h _ hL, nI_1, zn_vss (by omega)]
    · intro c hc'
      rcases Nat.decEq c (L i) with z | z
      · rw [pk_un z, zc_f (p := zl_c L c) (decide_eq_false (fun e => z e.symm))]; exact h c hc'
      · subst z
        rw [pk_us, zc_t (p := zl_c L (L i)) (decide_eq_true rfl)]
theorem zz_101 {post : SX → Prop} {R : Nat → Nat → Bool} (hR : zr_RB a_rowBits R) (k : ∀ ws bs, zr_RS a_rowBits ws bs R → wX_pack_101 post 1 21 f_n f_isPacked f_runCount f_nodes f_codeSum a_letters a_countOf a_sorted a_parted a_rowBits ws bs a_zerosOf a_lowWidth a_firstPlace a_lowPart a_highBits a_blockClass a_blockNumber a_blockSum a_choices a_runStart a_runLetter a_runBefore a_runSame a_lastRun a_nodeLeft a_nodeRight a_weight a_joined a_codeLength a_codeBits) : ∀ (d r : Nat), r + d = 21 → ∀ (ws bs : Nat → Int32), (∀ k, k < r * 8 → ws k = zs_W R k) → (∀ k, k < r * 28 → bs k = zs_B R k) → wX_pack_101 post (d + 1) (nI r) f_n f_isPacked f_runCount f_nodes f_codeSum a_letters a_countOf a_sorted a_parted a_rowBits ws bs a_zerosOf a_lowWidth a_firstPlace a_lowPart a_highBits a_blockClass a_blockNumber a_blockSum a_choices a_runStart a_runLetter a_runBefore a_runSame a_lastRun a_nodeLeft a_nodeRight a_weight a_joined a_codeLength a_codeBits
  | 0, r, hd, ws, bs, h1, h2 => by
    have e : r = 21 := by omega
    subst e
    exact k ws bs ⟨hR, h1, h2⟩
  | d + 1, r, hd, ws, bs, h1, h2 =>
    pk_le 21 r (fun h => absurd h (by omega)) (fun _ => zs_row hR (by omega) h1 h2 (fun ws' bs' g1 g2 => nm_r (nI_1 r) (zz_101 hR k d (r + 1) (by omega) ws' bs' g1 g2)))
theorem zz_pack0 {post : SX → Prop} (H : zl_H f_n a_letters n L) (HC : zk_C a_choices) (hp : f_isPacked = 0) (k : ∀ f_runCount f_nodes f_codeSum a_countOf a_sorted a_parted a_rowBits a_wordSum a_byteSum a_zerosOf a_lowWidth a_firstPlace a_lowPart a_highBits a_blockClass a_blockNumber a_blockSum a_runStart a_runLetter a_runBefore a_runSame a_lastRun a_nodeLeft a_nodeRight a_weight a_joined a_codeLength a_codeBits, zz_P n L (f_n, 1, f_runCount, f_nodes, f_codeSum, a_letters, a_countOf, a_sorted, a_parted, a_rowBits, a_wordSum, a_byteSum, a_zerosOf, a_lowWidth, a_firstPlace, a_lowPart, a_highBits, a_blockClass, a_blockNumber, a_blockSum, a_choices, a_runStart, a_runLetter, a_runBefore, a_runSame, a_lastRun, a_nodeLeft, a_nodeRight, a_weight, a_joined, a_codeLength, a_codeBits) → post (f_n, 1, f_runCount, f_nodes, f_codeSum, a_letters, a_countOf, a_sorted, a_parted, a_rowBits, a_wordSum, a_byteSum, a_zerosOf, a_lowWidth, a_firstPlace, a_lowPart, a_highBits, a_blockClass, a_blockNumber, a_blockSum, a_choices, a_runStart, a_runLetter, a_runBefore, a_runSame, a_lastRun, a_nodeLeft, a_nodeRight, a_weight, a_joined, a_codeLength, a_codeBits)) : wpX_pack post (f_n, f_isPacked, f_runCount, f_nodes, f_codeSum, a_letters, a_countOf, a_sorted, a_parted, a_rowBits, a_wordSum, a_byteSum, a_zerosOf, a_lowWidth, a_firstPlace, a_lowPart, a_highBits, a_blockClass, a_blockNumber, a_blockSum, a_choices, a_runStart, a_runLetter, a_runBefore, a_runSame, a_lastRun, a_nodeLeft, a_nodeRight, a_weight, a_joined, a_codeLength, a_codeBits) := by
  refine br_t hp ⟨147 + 1, zz_10 (fun rb hz => ?_) 147 0 rfl _ (fun q h => absurd h (Nat.not_lt_zero _))⟩
  refine pk_le 147 147 (fun _ => ⟨8 + 1, zz_32 (fun co hc => ?_) 8 0 rfl _ (fun q h => absurd h (Nat.not_lt_zero _))⟩) (fun h => absurd h (by omega))
  refine pk_le 8 8 (fun _ => ⟨n + 1, zz_53 H (fun co hc => ?_) n 0 (by omega) _ hc⟩) (fun h => absurd h (by omega))
  have hn := H.1
  have h0 : zr_RB rb (fun _ _ => false) := fun r j hr hj => by rw [hz _ (by omega), b_0]
  refine pk_le n n (fun _ => ?_) (fun h => absurd h (by omega)) H.2.2.1 rfl
  refine zt_pack H h0 (fun _ _ _ => rfl) (fun rb1 R1 hR1 hT1 hF1 => ?_)
  refine zm_pack H hR1 (fun l hl q => by rw [hF1 _ (by omega)]) (fun so pa rb2 zo R2 hR2 hM2 hF2 => ?_)
  refine zb_pack H hR2 (fun c hc q => by rw [hF2 _ (by omega), hF1 _ (by omega)]) (fun rb3 R3 hR3 hB3 hF3 => ?_)
  refine zf_pack H hc hR3 (fun x hx q => by rw [hF3 _ (by omega), hF2 _ (by omega), hF1 _ (by omega)]) (fun nd cs nl nr w j cl cb rb4 R4 hR4 hF4 hP4 => ⟨21 + 1, ?_⟩)
  refine zz_101 hR4 (fun ws bs hS => ?_) 21 0 rfl _ _ (fun k h => absurd h (by omega)) (fun k h => absurd h (by omega))
  refine pk_le 21 21 (fun _ => ?_) (fun h => absurd h (by omega))
  refine zh_pack H hc (fun fp lw lp hb hH => ?_)
  refine zk_pack H HC (fun bs' bc bn hK => ?_)
  refine zq_pack H (fun x rs rl rbf rsm lr hQ => ?_)
  refine k _ _ _ _ _ _ _ _ _ _ _ _ _ _ _ _ _ _ _ _ _ _ _ _ _ _ _ _ ⟨R4, hS, ?_, ?_, ?_, hP4, hH, hK, hQ, hc⟩
  · intro l hl j hj
    rw [hF4 _ (by omega), hF3 _ (by omega), hF2 _ (by omega)]
    exact hT1 l hl j hj
  · have e : ∀ l, l < 3 → R4 (3 + l) = R2 (3 + l) := fun l hl => by rw [hF4 _ (by omega), hF3 _ (by omega)]
    refine ⟨fun l h1 h2 j hj => ?_, fun l hl => ?_⟩
    · unfold zm_pos
      rw [zm_s_congr (R := R2) (fun l' h' => e l' (by omega)), e l h2]
      exact hM2.1 l h1 h2 j hj
    · rw [e l hl]; exact hM2.2 l hl
  · intro c hc j hj
    rw [hF4 _ (by omega)]; exact hB3 c hc j hj
theorem zz_pack {post : SX → Prop} (H : zl_H f_n a_letters n L) (HC : zk_C a_choices) (hp : f_isPacked = 0 ∨ (f_isPacked = 1 ∧ zz_P n L (f_n, f_isPacked, f_runCount, f_nodes, f_codeSum, a_letters, a_countOf, a_sorted, a_parted, a_rowBits, a_wordSum, a_byteSum, a_zerosOf, a_lowWidth, a_firstPlace, a_lowPart, a_highBits, a_blockClass, a_blockNumber, a_blockSum, a_choices, a_runStart, a_runLetter, a_runBefore, a_runSame, a_lastRun, a_nodeLeft, a_nodeRight, a_weight, a_joined, a_codeLength, a_codeBits))) (k : ∀ f_runCount f_nodes f_codeSum a_countOf a_sorted a_parted a_rowBits a_wordSum a_byteSum a_zerosOf a_lowWidth a_firstPlace a_lowPart a_highBits a_blockClass a_blockNumber a_blockSum a_runStart a_runLetter a_runBefore a_runSame a_lastRun a_nodeLeft a_nodeRight a_weight a_joined a_codeLength a_codeBits, zz_P n L (f_n, 1, f_runCount, f_nodes, f_codeSum, a_letters, a_countOf, a_sorted, a_parted, a_rowBits, a_wordSum, a_byteSum, a_zerosOf, a_lowWidth, a_firstPlace, a_lowPart, a_highBits, a_blockClass, a_blockNumber, a_blockSum, a_choices, a_runStart, a_runLetter, a_runBefore, a_runSame, a_lastRun, a_nodeLeft, a_nodeRight, a_weight, a_joined, a_codeLength, a_codeBits) → post (f_n, 1, f_runCount, f_nodes, f_codeSum, a_letters, a_countOf, a_sorted, a_parted, a_rowBits, a_wordSum, a_byteSum, a_zerosOf, a_lowWidth, a_firstPlace, a_lowPart, a_highBits, a_blockClass, a_blockNumber, a_blockSum, a_choices, a_runStart, a_runLetter, a_runBefore, a_runSame, a_lastRun, a_nodeLeft, a_nodeRight, a_weight, a_joined, a_codeLength, a_codeBits)) : wpX_pack post (f_n, f_isPacked, f_runCount, f_nodes, f_codeSum, a_letters, a_countOf, a_sorted, a_parted, a_rowBits, a_wordSum, a_byteSum, a_zerosOf, a_lowWidth, a_firstPlace, a_lowPart, a_highBits, a_blockClass, a_blockNumber, a_blockSum, a_choices, a_runStart, a_runLetter, a_runBefore, a_runSame, a_lastRun, a_nodeLeft, a_nodeRight, a_weight, a_joined, a_codeLength, a_codeBits) := by
  rcases hp with hp | ⟨hp, hP⟩
  · exact zz_pack0 H HC hp k
  · subst hp
    exact br_f (by decide) (k _ _ _ _ _ _ _ _ _ _ _ _ _ _ _ _ _ _ _ _ _ _ _ _ _ _ _ _ hP)
end
end
section
/-! answers by engine -/
def zz_V (L : Nat → Nat) (i j c : Nat) : Nat := zc (zt_b L 3 c) j - zc (zt_b L 3 c) i
def zz_W (L : Nat → Nat) (i j c : Nat) : Nat := zc (zl_c L c) j - zc (zl_c L c) i
theorem zz_V_s (L : Nat → Nat) {i j : Nat} (hij : i ≤ j) (c : Nat) : zz_V L i j (c + 1) = zz_V L i j c + zz_W L i j c := by
  unfold zz_V zz_W
  rw [zt_bn, zt_bn, zt_g3']
  have a := zc_mono (zt_b L 3 c) hij
  have b := zc_mono (zl_c L c) hij
  omega
theorem zz_V_0 (L : Nat → Nat) (i j : Nat) : zz_V L i j 0 = 0 := by
  unfold zz_V
  rw [zt_b00, zt_b00]
theorem zz_V_8 {L : Nat → Nat} (hL : ∀ i, L i < 8) (i j : Nat) : zz_V L i j 8 = j - i := by
  have key : ∀ p, zc (zt_b L 3 8) p = p := fun p => zc_all fun k _ => decide_eq_true (by rw [zt_p3]; exact hL k)
  unfold zz_V
  rw [key, key]
theorem zz_V_le (L : Nat → Nat) (i j c : Nat) : zz_V L i j c ≤ j := Nat.le_trans (Nat.sub_le _ _) (zc_le _ _)
theorem zz_W_le (L : Nat → Nat) (i j c : Nat) : zz_W L i j c ≤ j := Nat.le_trans (Nat.sub_le _ _) (zc_le _ _)
theorem zz_V_m (L : Nat → Nat) {i j : Nat} (hij : i ≤ j) {c c' : Nat} (h : c ≤ c') : zz_V L i j c ≤ zz_V L i j c' := by
  obtain ⟨d, rfl⟩ : ∃ d, c' = c + d := ⟨c' - c, by omega⟩
  clear h
  induction d with
  | zero => exact Nat.le_refl _
  | succ d ih =>
    have := zz_V_s L hij (c + d)
    show _ ≤ zz_V L i j (c + d + 1)
    omega
def zz_am (W : Nat → Nat) : Nat → Nat
  | 0 => 0
  | c + 1 => if W (zz_am W c) < W (c + 1) then c + 1 else zz_am W c
theorem zz_am_le (W : Nat → Nat) : ∀ c, zz_am W c ≤ c
  | 0 => Nat.le_refl _
  | c + 1 => by
    have := zz_am_le W c
    rw [zz_am]
    split <;> omega
section
variable {f_n f_isPacked f_runCount f_nodes f_codeSum : Int32} {a_letters a_countOf a_sorted a_parted a_rowBits a_wordSum a_byteSum a_zerosOf a_lowWidth a_firstPlace a_lowPart a_highBits a_blockClass a_blockNumber a_blockSum a_choices a_runStart a_runLetter a_runBefore a_runSame a_lastRun a_nodeLeft a_nodeRight a_weight a_joined a_codeLength a_codeBits : Nat → Int32} {n : Nat} {L : Nat → Nat}
theorem zz_rankBy {post : Int32 → Prop} (H : zl_H f_n a_letters n L) (HC : zk_C a_choices) (HP : zz_P n L (f_n, f_isPacked, f_runCount, f_nodes, f_codeSum, a_letters, a_countOf, a_sorted, a_parted, a_rowBits, a_wordSum, a_byteSum, a_zerosOf, a_lowWidth, a_firstPlace, a_lowPart, a_highBits, a_blockClass, a_blockNumber, a_blockSum, a_choices, a_runStart, a_runLetter, a_runBefore, a_runSame, a_lastRun, a_nodeLeft, a_nodeRight, a_weight, a_joined, a_codeLength, a_codeBits)) {e c p : Nat} (he : e < 7) (hc : c < 8) (hp : p ≤ n) {x y z : Int32} (hx : x = nI e) (hy : y = nI c) (hz : z = nI p) (k : post (nI (zc (zl_c L c) p))) : wpX_rankBy post (f_n, f_isPacked, f_runCount, f_nodes, f_codeSum, a_letters, a_countOf, a_sorted, a_parted, a_rowBits, a_wordSum, a_byteSum, a_zerosOf, a_lowWidth, a_firstPlace, a_lowPart, a_highBits, a_blockClass, a_blockNumber, a_blockSum, a_choices, a_runStart, a_runLetter, a_runBefore, a_runSame, a_lastRun, a_nodeLeft, a_nodeRight, a_weight, a_joined, a_codeLength, a_codeBits) x y z := by
  subst hx hy hz
  obtain ⟨R, h1, h2, h3, h4, h5, h6, h7, h8, h9⟩ := HP
  have he' : e = 0 ∨ e = 1 ∨ e = 2 ∨ e = 3 ∨ e = 4 ∨ e = 5 ∨ e = 6 := by omega
  rcases he' with rfl | rfl | rfl | rfl | rfl | rfl | rfl
  · exact br_f (by decide) (br_f (by decide) (br_t rfl (zt_rank H h1 h2 hc hp k)))
  · exact br_f (by decide) (br_f (by decide) (br_f (by decide) (br_t rfl (zm_rank H h1 h3 hc hp k))))
  · exact br_f (by decide) (br_f (by decide) (br_f (by decide) (br_f (by decide) (br_t rfl (zb_rank H.1 h1 h4 hc hp k)))))
  · exact br_f (by decide) (br_f (by decide) (br_f (by decide) (br_f (by decide) (br_f (by decide) (br_t rfl (zh_rank H h6 h9 hc hp k))))))
  · exact br_f (by decide) (br_f (by decide) (br_f (by decide) (br_f (by decide) (br_f (by decide) (br_f (by decide) (br_t rfl (zk_rank H.1 HC h7 hc hp k)))))))
  · exact br_f (by decide) (br_f (by decide) (br_f (by decide) (br_f (by decide) (br_f (by decide) (br_f (by decide) (br_f (by decide) (br_t rfl (zq_rank H h8 hc hp k))))))))
  · exact br_f (by decide) (br_t (by decide) (zf_rank H h1 h5 h9 hc hp k))
theorem zz_abr {post : Int32 → Prop} (H : zl_H f_n a_letters n L) (HC : zk_C a_choices) (HP : zz_P n L (f_n, f_isPacked, f_runCount, f_nodes, f_codeSum, a_letters, a_countOf, a_sorted, a_parted, a_rowBits, a_wordSum, a_byteSum, a_zerosOf, a_lowWidth, a_firstPlace, a_lowPart, a_highBits, a_blockClass, a_blockNumber, a_blockSum, a_choices, a_runStart, a_runLetter, a_runBefore, a_runSame, a_lastRun, a_nodeLeft, a_nodeRight, a_weight, a_joined, a_codeLength, a_codeBits)) {e p : Nat} (he : e < 7) (hp : p < n) (k : post (nI (L p))) : ∀ (d c : Nat), c + d = 8 → wX_atByRanks_5 post (nI e) (nI p) f_n f_isPacked f_runCount f_nodes f_codeSum a_letters a_countOf a_sorted a_parted a_rowBits a_wordSum a_byteSum a_zerosOf a_lowWidth a_firstPlace a_lowPart a_highBits a_blockClass a_blockNumber a_blockSum a_choices a_runStart a_runLetter a_runBefore a_runSame a_lastRun a_nodeLeft a_nodeRight a_weight a_joined a_codeLength a_codeBits (d + 1) (nI (if L p < c then L p else 0)) (nI c)
  | 0, c, hd => by
    have e1 : c = 8 := by omega
    subst e1
    rw [if_pos (H.2.1 p)]
    exact pk_le 8 8 (fun _ => k) (fun h => absurd h (by omega))
  | d + 1, c, hd => by
    have hn := H.1
    have q := zz_abr H HC HP he hp k d (c + 1) (by omega)
    have g1 := zc_le (zl_c L c) p
    have g2 := zc_le (zl_c L c) (p + 1)
    refine pk_le 8 c (fun h => absurd h (by omega)) (fun _ => zz_rankBy H HC HP he (c := c) (by omega) (Nat.le_of_lt hp) rfl rfl rfl (zz_rankBy H HC HP he (c := c) (p := p + 1) (by omega) hp rfl rfl (nI_1 p) (pk_le (zc (zl_c L c) (p + 1)) (zc (zl_c L c) p) (fun w => nm_r (nI_1 c) ?_) (fun w => nm_r (nI_1 c) ?_))))
    · have hl : ¬ L p = c := fun z => by
        rw [zc_t (p := zl_c L c) (decide_eq_true z)] at w
        omega
      rw [show (if L p < c then L p else 0) = (if L p < c + 1 then L p else 0) by split <;> split <;> omega]
      exact q
    · have hl : L p = c := by
        rcases Nat.decEq (L p) c with z | z
        · rw [zc_f (p := zl_c L c) (decide_eq_false z)] at w
          omega
        · exact z
      rw [if_pos (by omega)] at q
      rw [hl] at q
      exact q
theorem zz_atBy {post : Int32 → Prop} (H : zl_H f_n a_letters n L) (HC : zk_C a_choices) (HP : zz_P n L (f_n, f_isPacked, f_runCount, f_nodes, f_codeSum, a_letters, a_countOf, a_sorted, a_parted, a_rowBits, a_wordSum, a_byteSum, a_zerosOf, a_lowWidth, a_firstPlace, a_lowPart, a_highBits, a_blockClass, a_blockNumber, a_blockSum, a_choices, a_runStart, a_runLetter, a_runBefore, a_runSame, a_lastRun, a_nodeLeft, a_nodeRight, a_weight, a_joined, a_codeLength, a_codeBits)) {e p : Nat} (he : e < 7) (hp : p < n) (k : post (nI (L p))) : wpX_atBy post (f_n, f_isPacked, f_runCount, f_nodes, f_codeSum, a_letters, a_countOf, a_sorted, a_parted, a_rowBits, a_wordSum, a_byteSum, a_zerosOf, a_lowWidth, a_firstPlace, a_lowPart, a_highBits, a_blockClass, a_blockNumber, a_blockSum, a_choices, a_runStart, a_runLetter, a_runBefore, a_runSame, a_lastRun, a_nodeLeft, a_nodeRight, a_weight, a_joined, a_codeLength, a_codeBits) (nI e) (nI p) := by
  have hP := HP
  obtain ⟨R, h1, h2, h3, h4, h5, h6, h7, h8, h9⟩ := hP
  have he' : e = 0 ∨ e = 1 ∨ e = 6 ∨ e = 5 ∨ (e ≠ 0 ∧ e ≠ 1 ∧ e ≠ 6 ∧ e ≠ 5) := by omega
  rcases he' with rfl | rfl | rfl | rfl | ⟨n0, n1, n6, n5⟩
  · exact br_t rfl (zt_at H h1 h2 hp k)
  · exact br_f (by decide) (br_t rfl (zm_at H h1 h3 hp k))
  · exact br_f (by decide) (br_f (by decide) (br_t rfl (zf_at H h1 h5 hp k)))
  · exact br_f (by decide) (br_f (by decide) (br_f (by decide) (br_t rfl (zq_at H h8 hp k))))
  · exact pk_eq e 0 (fun z => absurd z n0) (fun _ => pk_eq e 1 (fun z => absurd z n1) (fun _ => pk_eq e 6 (fun z => absurd z n6) (fun _ => pk_eq e 5 (fun z => absurd z n5) (fun _ => ⟨8 + 1, zz_abr H HC HP he hp k 8 0 rfl⟩))))
theorem zz_sbr {post : Int32 → Prop} (H : zl_H f_n a_letters n L) (HC : zk_C a_choices) (HP : zz_P n L (f_n, f_isPacked, f_runCount, f_nodes, f_codeSum, a_letters, a_countOf, a_sorted, a_parted, a_rowBits, a_wordSum, a_byteSum, a_zerosOf, a_lowWidth, a_firstPlace, a_lowPart, a_highBits, a_blockClass, a_blockNumber, a_blockSum, a_choices, a_runStart, a_runLetter, a_runBefore, a_runSame, a_lastRun, a_nodeLeft, a_nodeRight, a_weight, a_joined, a_codeLength, a_codeBits)) {e j : Nat} (he : e < 7) (hj : j < n) (k : post (nI j)) : ∀ (N lo hi : Nat), lo ≤ j → j ≤ hi → hi ≤ n → hi - lo < N → wX_selectByRanks_9 post (nI e) (nI (L j)) (nI (zc (zl_c L (L j)) j)) f_n f_isPacked f_runCount f_nodes f_codeSum a_letters a_countOf a_sorted a_parted a_rowBits a_wordSum a_byteSum a_zerosOf a_lowWidth a_firstPlace a_lowPart a_highBits a_blockClass a_blockNumber a_blockSum a_choices a_runStart a_runLetter a_runBefore a_runSame a_lastRun a_nodeLeft a_nodeRight a_weight a_joined a_codeLength a_codeBits N (nI lo) (nI hi)
  | 0, lo, hi, _, _, _, h => absurd h (Nat.not_lt_zero _)
  | N + 1, lo, hi, h1, h2, h3, h4 => by
    have hn := H.1
    have g1 := zc_le (zl_c L (L j)) j
    have g2 := zc_le (zl_c L (L j)) ((lo + hi) / 2 + 1)
    refine pk_le hi lo (fun h => ?_) (fun h => And.intro (by decide) (nm_r (e' := nI ((lo + hi) / 2)) ?_ (zz_rankBy H HC HP he (c := L j) (p := (lo + hi) / 2 + 1) (H.2.1 j) (by omega) rfl rfl (nI_1 _) (pk_lt (zc (zl_c L (L j)) j) (zc (zl_c L (L j)) ((lo + hi) / 2 + 1)) (fun w => br_t rfl (br_t rfl ?_)) (fun w => br_f (by decide) (br_f (by decide) ?_))))))
    · rw [show lo = j by omega]; exact k
    · rw [nI_add]; exact pk_div (d := 2) (by omega) (by decide) (by decide)
    · have hz : j ≤ (lo + hi) / 2 := by
        rcases Nat.lt_or_ge ((lo + hi) / 2) j with y | y
        · have := zc_mono (zl_c L (L j)) (i := (lo + hi) / 2 + 1) (j := j) (by omega); omega
        · exact y
      exact zz_sbr H HC HP he hj k N lo _ h1 hz (by omega) (by omega)
    · have hz : (lo + hi) / 2 < j := by
        rcases Nat.lt_or_ge ((lo + hi) / 2) j with y | y
        · exact y
        · have := zc_mono (zl_c L (L j)) (i := j + 1) (j := (lo + hi) / 2 + 1) (by omega)
          rw [zc_t (p := zl_c L (L j)) (decide_eq_true rfl)] at this
          omega
      rw [nI_1]
      exact zz_sbr H HC HP he hj k N _ hi (by omega) h2 h3 (by omega)
theorem zz_sby {post : Int32 → Prop} (H : zl_H f_n a_letters n L) (HC : zk_C a_choices) (HP : zz_P n L (f_n, f_isPacked, f_runCount, f_nodes, f_codeSum, a_letters, a_countOf, a_sorted, a_parted, a_rowBits, a_wordSum, a_byteSum, a_zerosOf, a_lowWidth, a_firstPlace, a_lowPart, a_highBits, a_blockClass, a_blockNumber, a_blockSum, a_choices, a_runStart, a_runLetter, a_runBefore, a_runSame, a_lastRun, a_nodeLeft, a_nodeRight, a_weight, a_joined, a_codeLength, a_codeBits)) {e j : Nat} (he : e < 7) (hj : j < n) (k : post (nI j)) : wpX_selectByRanks post (f_n, f_isPacked, f_runCount, f_nodes, f_codeSum, a_letters, a_countOf, a_sorted, a_parted, a_rowBits, a_wordSum, a_byteSum, a_zerosOf, a_lowWidth, a_firstPlace, a_lowPart, a_highBits, a_blockClass, a_blockNumber, a_blockSum, a_choices, a_runStart, a_runLetter, a_runBefore, a_runSame, a_lastRun, a_nodeLeft, a_nodeRight, a_weight, a_joined, a_codeLength, a_codeBits) (nI e) (nI (L j)) (nI (zc (zl_c L (L j)) j)) := by
  refine ⟨n + 1, ?_⟩
  have q := zz_sbr H HC HP he hj k (n + 1) 0 n (by omega) (by omega) (by omega) (by omega)
  rw [← H.2.2.1] at q
  exact q
theorem zz_inRange {post : Int32 → Prop} (H : zl_H f_n a_letters n L) (HC : zk_C a_choices) (HP : zz_P n L (f_n, f_isPacked, f_runCount, f_nodes, f_codeSum, a_letters, a_countOf, a_sorted, a_parted, a_rowBits, a_wordSum, a_byteSum, a_zerosOf, a_lowWidth, a_firstPlace, a_lowPart, a_highBits, a_blockClass, a_blockNumber, a_blockSum, a_choices, a_runStart, a_runLetter, a_runBefore, a_runSame, a_lastRun, a_nodeLeft, a_nodeRight, a_weight, a_joined, a_codeLength, a_codeBits)) {e c i j : Nat} (he : e < 7) (hc : c < 8) (hij : i ≤ j) (hj : j ≤ n) {x : Int32} (hx : x = nI e) (k : post (nI (zz_W L i j c))) : wpX_inRange post (f_n, f_isPacked, f_runCount, f_nodes, f_codeSum, a_letters, a_countOf, a_sorted, a_parted, a_rowBits, a_wordSum, a_byteSum, a_zerosOf, a_lowWidth, a_firstPlace, a_lowPart, a_highBits, a_blockClass, a_blockNumber, a_blockSum, a_choices, a_runStart, a_runLetter, a_runBefore, a_runSame, a_lastRun, a_nodeLeft, a_nodeRight, a_weight, a_joined, a_codeLength, a_codeBits) x (nI c) (nI i) (nI j) := by
  unfold wpX_inRange
  refine zz_rankBy H HC HP he hc (Nat.le_trans hij hj) hx rfl rfl (zz_rankBy H HC HP he hc hj hx rfl rfl ?_)
  rw [pk_sub (zc_mono _ hij)]
  exact k
theorem zz_bb {post : Int32 → Prop} (H : zl_H f_n a_letters n L) (HC : zk_C a_choices) (HP : zz_P n L (f_n, f_isPacked, f_runCount, f_nodes, f_codeSum, a_letters, a_countOf, a_sorted, a_parted, a_rowBits, a_wordSum, a_byteSum, a_zerosOf, a_lowWidth, a_firstPlace, a_lowPart, a_highBits, a_blockClass, a_blockNumber, a_blockSum, a_choices, a_runStart, a_runLetter, a_runBefore, a_runSame, a_lastRun, a_nodeLeft, a_nodeRight, a_weight, a_joined, a_codeLength, a_codeBits)) {e i j t : Nat} (he : e < 7) (ht : t ≤ 8) (hij : i ≤ j) (hj : j ≤ n) (k : post (nI (zz_V L i j t))) : ∀ (d c : Nat), c + d = t → wX_belowBy_41 post (nI e) (nI i) (nI j) (nI t) f_n f_isPacked f_runCount f_nodes f_codeSum a_letters a_countOf a_sorted a_parted a_rowBits a_wordSum a_byteSum a_zerosOf a_lowWidth a_firstPlace a_lowPart a_highBits a_blockClass a_blockNumber a_blockSum a_choices a_runStart a_runLetter a_runBefore a_runSame a_lastRun a_nodeLeft a_nodeRight a_weight a_joined a_codeLength a_codeBits (d + 1) (nI (zz_V L i j c)) (nI c)
  | 0, c, hd => by
    have e1 : c = t := by omega
    subst e1
    exact pk_le c c (fun _ => k) (fun h => absurd h (by omega))
  | d + 1, c, hd => by
    have q := zz_bb H HC HP he ht hij hj k d (c + 1) (by omega)
    rw [zz_V_s L hij] at q
    exact pk_le t c (fun h => absurd h (by omega)) (fun _ => zz_inRange H HC HP he (c := c) (by omega) hij hj rfl (nm_r (nI_add _ _) (nm_r (nI_1 c) q)))
theorem zz_belowBy {post : Int32 → Prop} (H : zl_H f_n a_letters n L) (HC : zk_C a_choices) (HP : zz_P n L (f_n, f_isPacked, f_runCount, f_nodes, f_codeSum, a_letters, a_countOf, a_sorted, a_parted, a_rowBits, a_wordSum, a_byteSum, a_zerosOf, a_lowWidth, a_firstPlace, a_lowPart, a_highBits, a_blockClass, a_blockNumber, a_blockSum, a_choices, a_runStart, a_runLetter, a_runBefore, a_runSame, a_lastRun, a_nodeLeft, a_nodeRight, a_weight, a_joined, a_codeLength, a_codeBits)) {e i j t : Nat} (he : e < 7) (ht : t ≤ 8) (hij : i ≤ j) (hj : j ≤ n) {x : Int32} (hx : x = nI t) (k : post (nI (zz_V L i j t))) : wpX_belowBy post (f_n, f_isPacked, f_runCount, f_nodes, f_codeSum, a_letters, a_countOf, a_sorted, a_parted, a_rowBits, a_wordSum, a_byteSum, a_zerosOf, a_lowWidth, a_firstPlace, a_lowPart, a_highBits, a_blockClass, a_blockNumber, a_blockSum, a_choices, a_runStart, a_runLetter, a_runBefore, a_runSame, a_lastRun, a_nodeLeft, a_nodeRight, a_weight, a_joined, a_codeLength, a_codeBits) (nI e) (nI i) (nI j) x := by
  subst hx
  have hP := HP
  obtain ⟨R, h1, h2, h3, h4, h5, h6, h7, h8, h9⟩ := hP
  refine pk_eq t 8 (fun z => ?_) (fun z => pk_eq e 0 (fun w => ?_) (fun w => ⟨t + 1, ?_⟩))
  · subst z
    rw [zz_V_8 H.2.1] at k
    rw [pk_sub hij]
    exact k
  · refine zt_below H h1 h2 (c := t) (by omega) (Nat.le_trans hij hj) (zt_below H h1 h2 (c := t) (by omega) hj ?_)
    rw [pk_sub (zc_mono _ hij)]
    exact k
  · have q := zz_bb H HC HP he ht hij hj k t 0 (by omega)
    rw [zz_V_0] at q
    exact q
theorem zz_ord {post : Int32 → SX → Prop} (H : zl_H f_n a_letters n L) (HC : zk_C a_choices) (HP : zz_P n L (f_n, f_isPacked, f_runCount, f_nodes, f_codeSum, a_letters, a_countOf, a_sorted, a_parted, a_rowBits, a_wordSum, a_byteSum, a_zerosOf, a_lowWidth, a_firstPlace, a_lowPart, a_highBits, a_blockClass, a_blockNumber, a_blockSum, a_choices, a_runStart, a_runLetter, a_runBefore, a_runSame, a_lastRun, a_nodeLeft, a_nodeRight, a_weight, a_joined, a_codeLength, a_codeBits)) {e i j K t : Nat} (he : e < 7) (hij : i ≤ j) (hj : j ≤ n) (hK : K < 1000) (ht : t < 8) (h1 : K < zz_V L i j (t + 1)) (h2 : ∀ c, c < t → zz_V L i j (c + 1) ≤ K) (k : post (nI t) (f_n, f_isPacked, f_runCount, f_nodes, f_codeSum, a_letters, a_countOf, a_sorted, a_parted, a_rowBits, a_wordSum, a_byteSum, a_zerosOf, a_lowWidth, a_firstPlace, a_lowPart, a_highBits, a_blockClass, a_blockNumber, a_blockSum, a_choices, a_runStart, a_runLetter, a_runBefore, a_runSame, a_lastRun, a_nodeLeft, a_nodeRight, a_weight, a_joined, a_codeLength, a_codeBits)) : ∀ (d c : Nat), c + d = t → wX_ordered_52 post (nI e) (nI i) (nI j) (nI K) f_n f_isPacked f_runCount f_nodes f_codeSum a_letters a_countOf a_sorted a_parted a_rowBits a_wordSum a_byteSum a_zerosOf a_lowWidth a_firstPlace a_lowPart a_highBits a_blockClass a_blockNumber a_blockSum a_choices a_runStart a_runLetter a_runBefore a_runSame a_lastRun a_nodeLeft a_nodeRight a_weight a_joined a_codeLength a_codeBits (d + 1) (nI c) := by
  have hn := H.1
  intro d
  induction d with
  | zero =>
    intro c hd
    have e1 : c = t := by omega
    subst e1
    have g := zz_V_le L i j (c + 1)
    exact pk_le 7 c (fun _ => k) (fun _ => zz_belowBy H HC HP he (t := c + 1) (by omega) hij hj (nI_1 c) (pk_lt K (zz_V L i j (c + 1)) (fun _ => k) (fun w => absurd w (by omega))))
  | succ d ih =>
    intro c hd
    have g := zz_V_le L i j (c + 1)
    have g2 := h2 c (by omega)
    exact pk_le 7 c (fun w => absurd w (by omega)) (fun _ => zz_belowBy H HC HP he (t := c + 1) (by omega) hij hj (nI_1 c) (pk_lt K (zz_V L i j (c + 1)) (fun w => absurd w (by omega)) (fun _ => nm_r (nI_1 c) (ih (c + 1) (by omega)))))
theorem zz_most {post : Int32 → SX → Prop} (H : zl_H f_n a_letters n L) (HC : zk_C a_choices) (HP : zz_P n L (f_n, f_isPacked, f_runCount, f_nodes, f_codeSum, a_letters, a_countOf, a_sorted, a_parted, a_rowBits, a_wordSum, a_byteSum, a_zerosOf, a_lowWidth, a_firstPlace, a_lowPart, a_highBits, a_blockClass, a_blockNumber, a_blockSum, a_choices, a_runStart, a_runLetter, a_runBefore, a_runSame, a_lastRun, a_nodeLeft, a_nodeRight, a_weight, a_joined, a_codeLength, a_codeBits)) {e i j : Nat} (he : e < 7) (hij : i ≤ j) (hj : j ≤ n) (k : post (nI (zz_am (zz_W L i j) 7)) (f_n, f_isPacked, f_runCount, f_nodes, f_codeSum, a_letters, a_countOf, a_sorted, a_parted, a_rowBits, a_wordSum, a_byteSum, a_zerosOf, a_lowWidth, a_firstPlace, a_lowPart, a_highBits, a_blockClass, a_blockNumber, a_blockSum, a_choices, a_runStart, a_runLetter, a_runBefore, a_runSame, a_lastRun, a_nodeLeft, a_nodeRight, a_weight, a_joined, a_codeLength, a_codeBits)) : ∀ (d c : Nat), c + d = 7 → wX_most_36 post (nI e) (nI i) (nI j) f_n f_isPacked f_runCount f_nodes f_codeSum a_letters a_countOf a_sorted a_parted a_rowBits a_wordSum a_byteSum a_zerosOf a_lowWidth a_firstPlace a_lowPart a_highBits a_blockClass a_blockNumber a_blockSum a_choices a_runStart a_runLetter a_runBefore a_runSame a_lastRun a_nodeLeft a_nodeRight a_weight a_joined a_codeLength a_codeBits (d + 1) (nI (zz_am (zz_W L i j) c)) (nI (zz_W L i j (zz_am (zz_W L i j) c))) (nI (c + 1))
  | 0, c, hd => by
    have e1 : c = 7 := by omega
    subst e1
    exact pk_le 8 8 (fun _ => k) (fun h => absurd h (by omega))
  | d + 1, c, hd => by
    have hn := H.1
    have q := zz_most H HC HP he hij hj k d (c + 1) (by omega)
    have g1 := zz_W_le L i j (c + 1)
    have g2 := zz_W_le L i j (zz_am (zz_W L i j) c)
    refine pk_le 8 (c + 1) (fun h => absurd h (by omega)) (fun _ => zz_inRange H HC HP he (c := c + 1) (by omega) hij hj rfl (pk_le (zz_W L i j (c + 1)) (zz_W L i j (zz_am (zz_W L i j) c)) (fun w => ?_) (fun w => ?_)))
    · rw [zz_am, if_neg (by omega)] at q
      exact pk_le (zz_W L i j (c + 1)) (zz_W L i j (zz_am (zz_W L i j) c)) (fun _ => nm_r (nI_1 _) q) (fun w' => absurd w' (by omega))
    · rw [zz_am, if_pos w] at q
      exact pk_le (zz_W L i j (c + 1)) (zz_W L i j (zz_am (zz_W L i j) c)) (fun w' => absurd w' (by omega)) (fun _ => nm_r (nI_1 _) q)
theorem zz_most0 {post : Int32 → SX → Prop} (H : zl_H f_n a_letters n L) (HC : zk_C a_choices) (HP : zz_P n L (f_n, f_isPacked, f_runCount, f_nodes, f_codeSum, a_letters, a_countOf, a_sorted, a_parted, a_rowBits, a_wordSum, a_byteSum, a_zerosOf, a_lowWidth, a_firstPlace, a_lowPart, a_highBits, a_blockClass, a_blockNumber, a_blockSum, a_choices, a_runStart, a_runLetter, a_runBefore, a_runSame, a_lastRun, a_nodeLeft, a_nodeRight, a_weight, a_joined, a_codeLength, a_codeBits)) {e i j : Nat} (he : e < 7) (hij : i ≤ j) (hj : j ≤ n) (k : post (nI (zz_am (zz_W L i j) 7)) (f_n, f_isPacked, f_runCount, f_nodes, f_codeSum, a_letters, a_countOf, a_sorted, a_parted, a_rowBits, a_wordSum, a_byteSum, a_zerosOf, a_lowWidth, a_firstPlace, a_lowPart, a_highBits, a_blockClass, a_blockNumber, a_blockSum, a_choices, a_runStart, a_runLetter, a_runBefore, a_runSame, a_lastRun, a_nodeLeft, a_nodeRight, a_weight, a_joined, a_codeLength, a_codeBits)) : wX_most_36 post (nI e) (nI i) (nI j) f_n f_isPacked f_runCount f_nodes f_codeSum a_letters a_countOf a_sorted a_parted a_rowBits a_wordSum a_byteSum a_zerosOf a_lowWidth a_firstPlace a_lowPart a_highBits a_blockClass a_blockNumber a_blockSum a_choices a_runStart a_runLetter a_runBefore a_runSame a_lastRun a_nodeLeft a_nodeRight a_weight a_joined a_codeLength a_codeBits (7 + 1 + 1) 0 0 0 := by
  have hn := H.1
  have q := zz_most H HC HP he hij hj k 7 0 rfl
  have g1 := zz_W_le L i j 0
  refine pk_le 8 0 (fun h => absurd h (by omega)) (fun _ => zz_inRange H HC HP he (c := 0) (by omega) hij hj rfl (pk_le (zz_W L i j 0) 0 (fun w => ?_) (fun w => ?_)))
  · refine pk_le (zz_W L i j 0) 0 (fun _ => nm_r (nI_1 0) ?_) (fun w' => absurd w' (by omega))
    rw [show zz_W L i j (zz_am (zz_W L i j) 0) = 0 by show zz_W L i j 0 = 0; omega] at q
    exact q
  · exact pk_le (zz_W L i j 0) 0 (fun w' => absurd w' (by omega)) (fun _ => nm_r (nI_1 0) q)
theorem zz_diff {post : Int32 → SX → Prop} (H : zl_H f_n a_letters n L) (HC : zk_C a_choices) (HP : zz_P n L (f_n, f_isPacked, f_runCount, f_nodes, f_codeSum, a_letters, a_countOf, a_sorted, a_parted, a_rowBits, a_wordSum, a_byteSum, a_zerosOf, a_lowWidth, a_firstPlace, a_lowPart, a_highBits, a_blockClass, a_blockNumber, a_blockSum, a_choices, a_runStart, a_runLetter, a_runBefore, a_runSame, a_lastRun, a_nodeLeft, a_nodeRight, a_weight, a_joined, a_codeLength, a_codeBits)) {i j : Nat} (hij : i ≤ j) (hj : j ≤ n) (k : post (nI (zc (fun c => decide (0 < zz_W L i j c)) 8)) (f_n, f_isPacked, f_runCount, f_nodes, f_codeSum, a_letters, a_countOf, a_sorted, a_parted, a_rowBits, a_wordSum, a_byteSum, a_zerosOf, a_lowWidth, a_firstPlace, a_lowPart, a_highBits, a_blockClass, a_blockNumber, a_blockSum, a_choices, a_runStart, a_runLetter, a_runBefore, a_runSame, a_lastRun, a_nodeLeft, a_nodeRight, a_weight, a_joined, a_codeLength, a_codeBits)) : ∀ (d c : Nat), c + d = 8 → wX_different_20 post (nI i) (nI j) f_n f_isPacked f_runCount f_nodes f_codeSum a_letters a_countOf a_sorted a_parted a_rowBits a_wordSum a_byteSum a_zerosOf a_lowWidth a_firstPlace a_lowPart a_highBits a_blockClass a_blockNumber a_blockSum a_choices a_runStart a_runLetter a_runBefore a_runSame a_lastRun a_nodeLeft a_nodeRight a_weight a_joined a_codeLength a_codeBits (d + 1) (nI (zc (fun c => decide (0 < zz_W L i j c)) c)) (nI c)
  | 0, c, hd => by
    have e1 : c = 8 := by omega
    subst e1
    exact pk_le 8 8 (fun _ => k) (fun h => absurd h (by omega))
  | d + 1, c, hd => by
    have hn := H.1
    have q := zz_diff H HC HP hij hj k d (c + 1) (by omega)
    have g1 := zz_W_le L i j c
    refine pk_le 8 c (fun h => absurd h (by omega)) (fun _ => zz_inRange H HC HP (e := 4) (by omega) (c := c) (by omega) hij hj rfl (pk_le (zz_W L i j c) 0 (fun w => nm_r (Int32.add_zero _) (nm_r (nI_1 c) ?_)) (fun w => nm_r (nI_1 _) (nm_r (nI_1 c) ?_))))
    · rw [zc_f (p := fun c => decide (0 < zz_W L i j c)) (decide_eq_false (by omega))] at q
      exact q
    · rw [zc_t (p := fun c => decide (0 < zz_W L i j c)) (decide_eq_true w)] at q
      exact q
theorem zz_ag68 {post : Int32 → SX → Prop} {J : _} (H : zl_H f_n a_letters n L) (HC : zk_C a_choices) (HP : zz_P n L (f_n, f_isPacked, f_runCount, f_nodes, f_codeSum, a_letters, a_countOf, a_sorted, a_parted, a_rowBits, a_wordSum, a_byteSum, a_zerosOf, a_lowWidth, a_firstPlace, a_lowPart, a_highBits, a_blockClass, a_blockNumber, a_blockSum, a_choices, a_runStart, a_runLetter, a_runBefore, a_runSame, a_lastRun, a_nodeLeft, a_nodeRight, a_weight, a_joined, a_codeLength, a_codeBits)) {e e' p : Nat} (he : e < 7) (he' : e' < 7) (hp : p < n) (k : J 1 (nI (p + 1))) : ∀ (d c : Nat), c + d = 8 → wX_agree_68 post J (nI e) (nI e') (nI p) f_n f_isPacked f_runCount f_nodes f_codeSum a_letters a_countOf a_sorted a_parted a_rowBits a_wordSum a_byteSum a_zerosOf a_lowWidth a_firstPlace a_lowPart a_highBits a_blockClass a_blockNumber a_blockSum a_choices a_runStart a_runLetter a_runBefore a_runSame a_lastRun a_nodeLeft a_nodeRight a_weight a_joined a_codeLength a_codeBits (d + 1) 1 (nI c)
  | 0, c, hd => by
    have e1 : c = 8 := by omega
    subst e1
    exact pk_le 8 8 (fun _ => nm_r (nI_1 p) k) (fun h => absurd h (by omega))
  | d + 1, c, hd =>
    pk_le 8 c (fun h => absurd h (by omega)) (fun _ => br_f (by decide) (zz_rankBy H HC HP he (c := c) (p := p + 1) (by omega) hp rfl rfl (nI_1 p) (zz_rankBy H HC HP he' (c := c) (p := p + 1) (by omega) hp rfl rfl (nI_1 p) (br_t rfl (nm_r (nI_1 c) (zz_ag68 H HC HP he he' hp k d (c + 1) (by omega)))))))
theorem zz_agree {post : Int32 → SX → Prop} (H : zl_H f_n a_letters n L) (HC : zk_C a_choices) (HP : zz_P n L (f_n, f_isPacked, f_runCount, f_nodes, f_codeSum, a_letters, a_countOf, a_sorted, a_parted, a_rowBits, a_wordSum, a_byteSum, a_zerosOf, a_lowWidth, a_firstPlace, a_lowPart, a_highBits, a_blockClass, a_blockNumber, a_blockSum, a_choices, a_runStart, a_runLetter, a_runBefore, a_runSame, a_lastRun, a_nodeLeft, a_nodeRight, a_weight, a_joined, a_codeLength, a_codeBits)) {e e' : Nat} (he : e < 7) (he' : e' < 7) (k : post 1 (f_n, f_isPacked, f_runCount, f_nodes, f_codeSum, a_letters, a_countOf, a_sorted, a_parted, a_rowBits, a_wordSum, a_byteSum, a_zerosOf, a_lowWidth, a_firstPlace, a_lowPart, a_highBits, a_blockClass, a_blockNumber, a_blockSum, a_choices, a_runStart, a_runLetter, a_runBefore, a_runSame, a_lastRun, a_nodeLeft, a_nodeRight, a_weight, a_joined, a_codeLength, a_codeBits)) : ∀ (d p : Nat), p + d = n → wX_agree_25 post (nI e) (nI e') f_n f_isPacked f_runCount f_nodes f_codeSum a_letters a_countOf a_sorted a_parted a_rowBits a_wordSum a_byteSum a_zerosOf a_lowWidth a_firstPlace a_lowPart a_highBits a_blockClass a_blockNumber a_blockSum a_choices a_runStart a_runLetter a_runBefore a_runSame a_lastRun a_nodeLeft a_nodeRight a_weight a_joined a_codeLength a_codeBits (d + 1) 1 (nI p)
  | 0, p, hd => by
    have hn := H.1
    have e1 : p = n := by omega
    subst e1
    exact pk_le p p (fun _ => And.intro rfl k) (fun h => absurd h (by omega)) H.2.2.1 rfl
  | d + 1, p, hd => by
    have hn := H.1
    exact pk_le n p (fun h => absurd h (by omega)) (fun _ => br_f (by decide) (zz_atBy H HC HP he (p := p) (by omega) (zz_atBy H HC HP he' (p := p) (by omega) (br_t rfl ⟨8 + 1, zz_ag68 H HC HP he he' (p := p) (by omega) (zz_agree H HC HP he he' k d (p + 1) (by omega)) 8 0 rfl⟩)))) H.2.2.1 rfl
end
end
section
/-! the reference -/
def zy_H (f_size : Int32) (a_list : Nat → Int32) (n : Nat) (L : Nat → Nat) : Prop := n ≤ 200 ∧ (∀ i, L i < 8) ∧ f_size = nI n ∧ ∀ i, a_list i = nI (L i)
section
variable {f_size : Int32} {a_list a_sorts : Nat → Int32} {n : Nat} {L : Nat → Nat}
theorem zy_of6 {post : Int32 → Prop} (H : zy_H f_size a_list n L) {l i j : Nat} (hl : l < 1000) (hj : j ≤ n) (k : post (nI (zz_W L i j l))) : ∀ (d q : Nat), q + d = j → i ≤ q → wY_often_6 post (nI l) (nI j) f_size a_list a_sorts (d + 1) (nI (zz_W L i q l)) (nI q)
  | 0, q, hd, hq => by
    have hn := H.1
    have e : q = j := by omega
    subst e
    exact pk_le q q (fun _ => k) (fun h => absurd h (by omega))
  | d + 1, q, hd, hq => by
    have hn := H.1
    have hL := H.2.1 q
    have ih := zy_of6 H hl hj k d (q + 1) (by omega) (by omega)
    have g := zc_mono (zl_c L l) hq
    refine pk_le j q (fun h => absurd h (by omega)) (fun _ => And.intro (vp_in_nI (by omega) (by omega)) ?_)
    rw [nI_clamp (by omega), H.2.2.2 q]
    refine pk_eq (L q) l (fun w => nm_r (nI_1 _) (nm_r (nI_1 q) ?_)) (fun w => nm_r (nI_1 q) ?_)
    · have e : zz_W L i (q + 1) l = zz_W L i q l + 1 := by
        unfold zz_W
        rw [zc_t (p := zl_c L l) (decide_eq_true w)]
        omega
      rw [e] at ih
      exact ih
    · have e : zz_W L i (q + 1) l = zz_W L i q l := by
        unfold zz_W
        rw [zc_f (p := zl_c L l) (decide_eq_false w)]
      rw [e] at ih
      exact ih
theorem zz_W_ii (L : Nat → Nat) (i l : Nat) : zz_W L i i l = 0 := Nat.sub_self _
theorem zy_often {post : Int32 → Prop} (H : zy_H f_size a_list n L) {l i j : Nat} (hl : l < 1000) (hij : i ≤ j) (hj : j ≤ n) {x y z : Int32} (hx : x = nI l) (hy : y = nI i) (hz : z = nI j) (k : post (nI (zz_W L i j l))) : wpY_often post (f_size, a_list, a_sorts) x y z := by
  subst hx hy hz
  refine ⟨j - i + 1, ?_⟩
  have q := zy_of6 (a_sorts := a_sorts) H hl hj k (j - i) i (by omega) (Nat.le_refl _)
  rw [zz_W_ii] at q
  exact q
theorem zy_bl {post : Int32 → Prop} (H : zy_H f_size a_list n L) {t i j : Nat} (ht : t ≤ 8) (hj : j ≤ n) (k : post (nI (zz_V L i j t))) : ∀ (d q : Nat), q + d = j → i ≤ q → wY_below_37 post (nI j) (nI t) f_size a_list a_sorts (d + 1) (nI (zz_V L i q t)) (nI q)
  | 0, q, hd, hq => by
    have hn := H.1
    have e : q = j := by omega
    subst e
    exact pk_le q q (fun _ => k) (fun h => absurd h (by omega))
  | d + 1, q, hd, hq => by
    have hn := H.1
    have hL := H.2.1 q
    have ih := zy_bl H ht hj k d (q + 1) (by omega) (by omega)
    have g := zc_mono (zt_b L 3 t) hq
    refine pk_le j q (fun h => absurd h (by omega)) (fun _ => And.intro (vp_in_nI (by omega) (by omega)) ?_)
    rw [nI_clamp (by omega), H.2.2.2 q]
    refine pk_le t (L q) (fun w => nm_r (nI_1 q) ?_) (fun w => nm_r (nI_1 _) (nm_r (nI_1 q) ?_))
    · have e : zz_V L i (q + 1) t = zz_V L i q t := by
        unfold zz_V
        rw [zc_f (p := zt_b L 3 t) (decide_eq_false (by rw [zt_p3]; omega))]
      rw [e] at ih
      exact ih
    · have e : zz_V L i (q + 1) t = zz_V L i q t + 1 := by
        unfold zz_V
        rw [zc_t (p := zt_b L 3 t) (decide_eq_true (by rw [zt_p3]; exact w))]
        omega
      rw [e] at ih
      exact ih
theorem zy_bl0 {post : Int32 → Prop} (H : zy_H f_size a_list n L) {t i j : Nat} (ht : t ≤ 8) (hij : i ≤ j) (hj : j ≤ n) (k : post (nI (zz_V L i j t))) : wY_below_37 post (nI j) (nI t) f_size a_list a_sorts (j - i + 1) 0 (nI i) := by
  have q := zy_bl (a_sorts := a_sorts) H ht hj k (j - i) i (by omega) (Nat.le_refl _)
  rw [show zz_V L i i t = 0 from Nat.sub_self _] at q
  exact q
/-! its checks -/
theorem zx_nn {x : Int32} {M : Nat} (hM : M < 2 ^ 31) (h : nI M ≤ x) : ∃ e, e < 2 ^ 31 ∧ x = nI e ∧ M ≤ e := by
  obtain ⟨e, he, rfl⟩ := nI_of (x := x) (fun h' => Int32.lt_irrefl (Int32.lt_of_lt_of_le h' (Int32.le_trans (nI_pos' hM) h)))
  exact ⟨e, he, rfl, (nI_leI hM he).mp h⟩
theorem zy_eng1 {post : Int32 → Prop} {v : SY} {e : Nat} (he : e < 7) (k : post 1) : wpY_engine post v (nI e) := br_f (nI_pos (by omega)) (pk_lt 6 e (fun h => absurd h (by omega)) (fun _ => k))
theorem zy_eng0 {post : Int32 → Prop} {v : SY} {x : Int32} (hx : x < 0 ∨ nI 7 ≤ x) (k : post 0) : wpY_engine post v x := by
  rcases hx with h | h
  · exact br_t h k
  · obtain ⟨e, he, rfl, h7⟩ := zx_nn (by omega) h
    exact br_f (nI_pos he) (pk_lt 6 e (fun _ => k) (fun h => absurd h (by omega)))
theorem zy_let1 {post : Int32 → Prop} {v : SY} {e : Nat} (he : e < 8) (k : post 1) : wpY_isLetter post v (nI e) := br_f (nI_pos (by omega)) (pk_lt 7 e (fun h => absurd h (by omega)) (fun _ => k))
theorem zy_let0 {post : Int32 → Prop} {v : SY} {x : Int32} (hx : x < 0 ∨ nI 8 ≤ x) (k : post 0) : wpY_isLetter post v x := by
  rcases hx with h | h
  · exact br_t h k
  · obtain ⟨e, he, rfl, h8⟩ := zx_nn (by omega) h
    exact br_f (nI_pos he) (pk_lt 7 e (fun _ => k) (fun h => absurd h (by omega)))
theorem zx_eng1 {post : Int32 → Prop} {e : Nat} (he : e < 7) (k : post 1) : wpX_isEngine post (nI e) := br_f (nI_pos (by omega)) (pk_le 7 e (fun h => absurd h (by omega)) (fun _ => k))
theorem zx_eng0 {post : Int32 → Prop} {x : Int32} (hx : x < 0 ∨ nI 7 ≤ x) (k : post 0) : wpX_isEngine post x := by
  by_cases h0 : x < 0
  · exact br_t h0 k
  · exact br_f h0 (br_t (hx.resolve_left h0) k)
theorem zx_let1 {post : Int32 → Prop} {e : Nat} (he : e < 8) (k : post 1) : wpX_isLetter post (nI e) := br_f (nI_pos (by omega)) (pk_le 8 e (fun h => absurd h (by omega)) (fun _ => k))
theorem zx_let0 {post : Int32 → Prop} {x : Int32} (hx : x < 0 ∨ nI 8 ≤ x) (k : post 0) : wpX_isLetter post x := by
  by_cases h0 : x < 0
  · exact br_t h0 k
  · exact br_f h0 (br_t (hx.resolve_left h0) k)
/-- a number is below, above, or one of the first M -/
theorem zx_3 (x : Int32) {M : Nat} (hM : M < 2 ^ 31) : (x < 0 ∨ nI M ≤ x) ∨ ∃ e, e < M ∧ x = nI e := by
  rcases pk_ix x hM with h | h | h
  · exact Or.inl (Or.inl h)
  · exact Or.inl (Or.inr h)
  · exact Or.inr h
/-- a range is good, or not -/
theorem zx_r (x y : Int32) {n : Nat} (hn : n < 2 ^ 30) : (∃ i j, i ≤ j ∧ j ≤ n ∧ x = nI i ∧ y = nI j) ∨ (x < 0 ∨ (¬ x < 0 ∧ y < x) ∨ (¬ x < 0 ∧ ¬ y < x ∧ nI n < y)) := by
  by_cases h0 : x < 0
  · exact Or.inr (Or.inl h0)
  · by_cases h1 : y < x
    · exact Or.inr (Or.inr (Or.inl ⟨h0, h1⟩))
    · by_cases h2 : nI n < y
      · exact Or.inr (Or.inr (Or.inr ⟨h0, h1, h2⟩))
      · obtain ⟨i, hi, rfl⟩ := nI_of h0
        have h3 : ¬ y < 0 := fun h => h1 (Int32.lt_of_lt_of_le h (nI_pos' hi))
        obtain ⟨j, hj, rfl⟩ := nI_of h3
        rw [nI_ltI hj hi] at h1
        rw [nI_ltI (by omega) hj] at h2
        exact Or.inl ⟨i, j, by omega, by omega, rfl, rfl⟩
theorem zy_rng1 {post : Int32 → Prop} (hn : n ≤ 200) (hf : f_size = nI n) {i j : Nat} (hij : i ≤ j) (hj : j ≤ n) {x y : Int32} (hx : x = nI i) (hy : y = nI j) (k : post 1) : wpY_range post (f_size, a_list, a_sorts) x y := by
  subst hx hy
  exact br_f (nI_pos (by omega)) (pk_lt j i (fun h => absurd h (by omega)) (fun _ => pk_lt n j (fun h => absurd h (by omega)) (fun _ => k) hf rfl))
theorem zy_rng0 {post : Int32 → Prop} (hf : f_size = nI n) {x y : Int32} (h : x < 0 ∨ (¬ x < 0 ∧ y < x) ∨ (¬ x < 0 ∧ ¬ y < x ∧ nI n < y)) (k : post 0) : wpY_range post (f_size, a_list, a_sorts) x y := by
  rcases h with h | ⟨h, h'⟩ | ⟨h, h', h''⟩
  · exact br_t h k
  · exact br_f h (br_t h' k)
  · exact br_f h (br_f h' (br_t (by rw [hf]; exact h'') k))
end
section
variable {f_n f_isPacked f_runCount f_nodes f_codeSum : Int32} {a_letters a_countOf a_sorted a_parted a_rowBits a_wordSum a_byteSum a_zerosOf a_lowWidth a_firstPlace a_lowPart a_highBits a_blockClass a_blockNumber a_blockSum a_choices a_runStart a_runLetter a_runBefore a_runSame a_lastRun a_nodeLeft a_nodeRight a_weight a_joined a_codeLength a_codeBits : Nat → Int32} {n : Nat}
theorem zx_rng1 {post : Int32 → Prop} (hn : n ≤ 200) (hf : f_n = nI n) {i j : Nat} (hij : i ≤ j) (hj : j ≤ n) {x y : Int32} (hx : x = nI i) (hy : y = nI j) (k : post 1) : wpX_isRange post (f_n, f_isPacked, f_runCount, f_nodes, f_codeSum, a_letters, a_countOf, a_sorted, a_parted, a_rowBits, a_wordSum, a_byteSum, a_zerosOf, a_lowWidth, a_firstPlace, a_lowPart, a_highBits, a_blockClass, a_blockNumber, a_blockSum, a_choices, a_runStart, a_runLetter, a_runBefore, a_runSame, a_lastRun, a_nodeLeft, a_nodeRight, a_weight, a_joined, a_codeLength, a_codeBits) x y := by
  subst hx hy
  exact br_f (nI_pos (by omega)) (pk_lt j i (fun h => absurd h (by omega)) (fun _ => pk_lt n j (fun h => absurd h (by omega)) (fun _ => k) hf rfl))
theorem zx_rng0 {post : Int32 → Prop} (hf : f_n = nI n) {x y : Int32} (h : x < 0 ∨ (¬ x < 0 ∧ y < x) ∨ (¬ x < 0 ∧ ¬ y < x ∧ nI n < y)) (k : post 0) : wpX_isRange post (f_n, f_isPacked, f_runCount, f_nodes, f_codeSum, a_letters, a_countOf, a_sorted, a_parted, a_rowBits, a_wordSum, a_byteSum, a_zerosOf, a_lowWidth, a_firstPlace, a_lowPart, a_highBits, a_blockClass, a_blockNumber, a_blockSum, a_choices, a_runStart, a_runLetter, a_runBefore, a_runSame, a_lastRun, a_nodeLeft, a_nodeRight, a_weight, a_joined, a_codeLength, a_codeBits) x y := by
  rcases h with h | ⟨h, h'⟩ | ⟨h, h', h''⟩
  · exact br_t h k
  · exact br_f h (br_t h' k)
  · exact br_f h (br_f h' (br_t (by rw [hf]; exact h'') k))
end
end
section
/-! the reference's loops -/
section
variable {f_size : Int32} {a_list a_sorts : Nat → Int32} {n : Nat} {L : Nat → Nat}
theorem zy_sel1 {post : Int32 → Prop} (H : zy_H f_size a_list n L) {e j : Nat} (he : e < 7) (hj : j < n) (k : post (nI j)) : ∀ (d q : Nat), q + d = j → wY_select_6 post (nI e) (nI (L j)) (nI (zc (zl_c L (L j)) j)) f_size a_list a_sorts (d + 1) (nI (zc (zl_c L (L j)) q)) (nI q)
  | 0, q, hd => by
    have hn := H.1
    have e1 : q = j := by omega
    subst e1
    refine pk_le n q (fun h => absurd h (by omega)) (fun _ => zy_eng1 he (br_f (by decide) (And.intro (vp_in_nI (by omega) (by omega)) ?_))) H.2.2.1 rfl
    rw [nI_clamp (by omega), H.2.2.2 q]
    exact br_t rfl (br_t rfl k)
  | d + 1, q, hd => by
    have hn := H.1
    have hL := H.2.1 q
    have hL' := H.2.1 j
    have ih := zy_sel1 H he hj k d (q + 1) (by omega)
    have g := zc_le (zl_c L (L j)) j
    refine pk_le n q (fun h => absurd h (by omega)) (fun _ => zy_eng1 he (br_f (by decide) (And.intro (vp_in_nI (by omega) (by omega)) ?_))) H.2.2.1 rfl
    rw [nI_clamp (by omega), H.2.2.2 q]
    refine pk_eq (L q) (L j) (fun w => ?_) (fun w => nm_r (nI_1 q) ?_)
    · have hlt := zc_lt (p := zl_c L (L j)) (j := q) (n := j) (by omega) (decide_eq_true w)
      rw [zc_t (p := zl_c L (L j)) (decide_eq_true w)] at ih
      exact pk_eq (zc (zl_c L (L j)) q) (zc (zl_c L (L j)) j) (fun z => absurd z (by omega)) (fun _ => nm_r (nI_1 _) (nm_r (nI_1 q) ih))
    · rw [zc_f (p := zl_c L (L j)) (decide_eq_false w)] at ih
      exact ih
theorem zy_sel0 {post : Int32 → Prop} (H : zy_H f_size a_list n L) {e : Nat} (he : e < 7) {x2 x3 : Int32} (hno : ∀ q, q < n → nI (L q) = x2 → nI (zc (fun i => decide (nI (L i) = x2)) q) ≠ x3) (k : post (-1)) : ∀ (d q : Nat), q + d = n → wY_select_6 post (nI e) x2 x3 f_size a_list a_sorts (d + 1) (nI (zc (fun i => decide (nI (L i) = x2)) q)) (nI q)
  | 0, q, hd => by
    have hn := H.1
    have e1 : q = n := by omega
    subst e1
    exact pk_le q q (fun _ => k) (fun h => absurd h (by omega)) H.2.2.1 rfl
  | d + 1, q, hd => by
    have hn := H.1
    have ih := zy_sel0 H he hno k d (q + 1) (by omega)
    refine pk_le n q (fun h => absurd h (by omega)) (fun _ => zy_eng1 he (br_f (by decide) (And.intro (vp_in_nI (by omega) (by omega)) ?_))) H.2.2.1 rfl
    rw [nI_clamp (by omega), H.2.2.2 q]
    refine br_c (fun w => br_f (hno q (by omega) w) (nm_r (nI_1 _) (nm_r (nI_1 q) ?_))) (fun w => nm_r (nI_1 q) ?_)
    · rw [zc_t (p := fun i => decide (nI (L i) = x2)) (decide_eq_true w)] at ih
      exact ih
    · rw [zc_f (p := fun i => decide (nI (L i) = x2)) (decide_eq_false w)] at ih
      exact ih
theorem zy_below {post : Int32 → Prop} (H : zy_H f_size a_list n L) {e i j t : Nat} (he : e < 7) (ht : t ≤ 8) (hij : i ≤ j) (hj : j ≤ n) {x : Int32} (hx : x = nI t) (k : post (nI (zz_V L i j t))) : wpY_below post (f_size, a_list, a_sorts) (nI e) (nI i) (nI j) x := by
  subst hx
  unfold wpY_below
  exact zy_eng1 he (br_f (by decide) (zy_rng1 H.1 H.2.2.1 hij hj rfl rfl (br_f (by decide) (br_f (nI_pos (by omega)) (pk_le t 8 (fun _ => ⟨j - i + 1, zy_bl0 H ht hij hj k⟩) (fun h => absurd h (by omega)))))))
theorem zy_ord {post : Int32 → Prop} (H : zy_H f_size a_list n L) {e i j K t : Nat} (he : e < 7) (hij : i ≤ j) (hj : j ≤ n) (hK : K < 1000) (ht : t < 8) (h1 : K < zz_V L i j (t + 1)) (h2 : ∀ c, c < t → zz_V L i j (c + 1) ≤ K) (k : post (nI t)) : ∀ (d c : Nat), c + d = t → wY_ordered_35 post (nI e) (nI i) (nI j) (nI K) f_size a_list a_sorts (d + 1) (nI c) := by
  have hn := H.1
  intro d
  induction d with
  | zero =>
    intro c hd
    have e1 : c = t := by omega
    subst e1
    have g := zz_V_le L i j (c + 1)
    rw [wY_ordered_35]
    exact zy_below H he (t := c + 1) (by omega) hij hj (nI_1 c) (pk_lt K (zz_V L i j (c + 1)) (fun _ => k) (fun w => absurd w (by omega)))
  | succ d ih =>
    intro c hd
    have g := zz_V_le L i j (c + 1)
    have g2 := h2 c (by omega)
    rw [wY_ordered_35]
    exact zy_below H he (t := c + 1) (by omega) hij hj (nI_1 c) (pk_lt K (zz_V L i j (c + 1)) (fun w => absurd w (by omega)) (fun _ => nm_r (nI_1 c) (ih (c + 1) (by omega))))
theorem zy_most {post : Int32 → Prop} (H : zy_H f_size a_list n L) {i j : Nat} (hij : i ≤ j) (hj : j ≤ n) (k : post (nI (zz_am (zz_W L i j) 7))) : ∀ (d c : Nat), c + d = 7 → wY_most_30 post (nI i) (nI j) f_size a_list a_sorts (d + 1) (nI (zz_am (zz_W L i j) c)) (nI (c + 1))
  | 0, c, hd => by
    have e1 : c = 7 := by omega
    subst e1
    exact pk_le 8 8 (fun _ => k) (fun h => absurd h (by omega))
  | d + 1, c, hd => by
    have hn := H.1
    have q := zy_most H hij hj k d (c + 1) (by omega)
    have g1 := zz_W_le L i j (c + 1)
    have g2 := zz_W_le L i j (zz_am (zz_W L i j) c)
    have g3 := zz_am_le (zz_W L i j) c
    refine pk_le 8 (c + 1) (fun h => absurd h (by omega)) (fun _ => zy_often H (l := c + 1) (by omega) hij hj rfl rfl rfl (zy_often H (l := zz_am (zz_W L i j) c) (by omega) hij hj rfl rfl rfl (pk_le (zz_W L i j (c + 1)) (zz_W L i j (zz_am (zz_W L i j) c)) (fun w => nm_r (nI_1 _) ?_) (fun w => nm_r (nI_1 _) ?_))))
    · rw [zz_am, if_neg (by omega)] at q
      exact q
    · rw [zz_am, if_pos w] at q
      exact q
theorem zy_diff {post : Int32 → Prop} (H : zy_H f_size a_list n L) {i j : Nat} (hij : i ≤ j) (hj : j ≤ n) (k : post (nI (zc (fun c => decide (0 < zz_W L i j c)) 8))) : ∀ (d c : Nat), c + d = 8 → wY_different_5 post (nI i) (nI j) f_size a_list a_sorts (d + 1) (nI (zc (fun c => decide (0 < zz_W L i j c)) c)) (nI c)
  | 0, c, hd => by
    have e1 : c = 8 := by omega
    subst e1
    exact pk_le 8 8 (fun _ => zy_rng1 H.1 H.2.2.1 hij hj rfl rfl (br_f (by decide) k)) (fun h => absurd h (by omega))
  | d + 1, c, hd => by
    have hn := H.1
    have q := zy_diff H hij hj k d (c + 1) (by omega)
    have g1 := zz_W_le L i j c
    refine pk_le 8 c (fun h => absurd h (by omega)) (fun _ => zy_rng1 H.1 H.2.2.1 hij hj rfl rfl (br_f (by decide) (zy_often H (l := c) (by omega) hij hj rfl rfl rfl (pk_le (zz_W L i j c) 0 (fun w => nm_r (nI_1 c) ?_) (fun w => nm_r (nI_1 _) (nm_r (nI_1 c) ?_))))))
    · rw [zc_f (p := fun c => decide (0 < zz_W L i j c)) (decide_eq_false (by omega))] at q
      exact q
    · rw [zc_t (p := fun c => decide (0 < zz_W L i j c)) (decide_eq_true w)] at q
      exact q
theorem zy_nx1 {post : Int32 → Prop} (H : zy_H f_size a_list n L) {j : Nat} (hj : j < n) {x1 x2 : Int32} (h1 : nI (L j) = x1) (h2 : ¬ nI j < x2) (hno : ∀ q, q < j → nI q < x2 ∨ nI (L q) ≠ x1) (k : post (nI j)) : ∀ (d q : Nat), q + d = j → wY_next_2 post x1 x2 f_size a_list a_sorts (d + 1) (nI q)
  | 0, q, hd => by
    have hn := H.1
    have e1 : q = j := by omega
    subst e1
    refine pk_le n q (fun h => absurd h (by omega)) (fun _ => br_f h2 (And.intro (vp_in_nI (by omega) (by omega)) ?_)) H.2.2.1 rfl
    rw [nI_clamp (by omega), H.2.2.2 q]
    exact br_t h1 k
  | d + 1, q, hd => by
    have hn := H.1
    have ih := zy_nx1 H hj h1 h2 hno k d (q + 1) (by omega)
    refine pk_le n q (fun h => absurd h (by omega)) (fun _ => br_c (fun _ => nm_r (nI_1 q) ih) (fun w => And.intro (vp_in_nI (by omega) (by omega)) ?_)) H.2.2.1 rfl
    rw [nI_clamp (by omega), H.2.2.2 q]
    exact br_f ((hno q (by omega)).resolve_left w) (nm_r (nI_1 q) ih)
theorem zy_nx0 {post : Int32 → Prop} (H : zy_H f_size a_list n L) {x1 x2 : Int32} (hno : ∀ q, q < n → nI q < x2 ∨ nI (L q) ≠ x1) (k : post (-1)) : ∀ (d q : Nat), q + d = n → wY_next_2 post x1 x2 f_size a_list a_sorts (d + 1) (nI q)
  | 0, q, hd => by
    have hn := H.1
    have e1 : q = n := by omega
    subst e1
    exact pk_le q q (fun _ => k) (fun h => absurd h (by omega)) H.2.2.1 rfl
  | d + 1, q, hd => by
    have hn := H.1
    have ih := zy_nx0 H hno k d (q + 1) (by omega)
    refine pk_le n q (fun h => absurd h (by omega)) (fun _ => br_c (fun _ => nm_r (nI_1 q) ih) (fun w => And.intro (vp_in_nI (by omega) (by omega)) ?_)) H.2.2.1 rfl
    rw [nI_clamp (by omega), H.2.2.2 q]
    exact br_f ((hno q (by omega)).resolve_left w) (nm_r (nI_1 q) ih)
theorem zy_runs {post : Int32 → Prop} (H : zy_H f_size a_list n L) (k : post (nI (zc (zq_new L) n))) : ∀ (d q : Nat), q + d = n → wY_runs_4 post f_size a_list a_sorts (d + 1) (nI (zc (zq_new L) q)) (nI q)
  | 0, q, hd => by
    have hn := H.1
    have e1 : q = n := by omega
    subst e1
    exact pk_le q q (fun _ => k) (fun h => absurd h (by omega)) H.2.2.1 rfl
  | d + 1, q, hd => by
    have hn := H.1
    have ih := zy_runs H k d (q + 1) (by omega)
    refine pk_le n q (fun h => absurd h (by omega)) (fun _ => pk_eq q 0 (fun w => ?_) (fun w => And.intro (vp_in_nI (by omega) (by omega)) ?_)) H.2.2.1 rfl
    · rw [zc_t (p := zq_new L) (by unfold zq_new; rw [decide_eq_true w]; rfl)] at ih
      exact nm_r (nI_1 _) (nm_r (nI_1 q) ih)
    · have e2 : nI q - 1 = nI (q - 1) := pk_sub (a := q) (b := 1) (by omega)
      rw [e2]
      refine And.intro (vp_in_nI (by omega) (by omega)) ?_
      rw [nI_clamp (by omega), nI_clamp (by omega), H.2.2.2, H.2.2.2]
      have h1 := H.2.1 q
      have h2 := H.2.1 (q - 1)
      refine pk_eq (L q) (L (q - 1)) (fun z => nm_r (nI_1 q) ?_) (fun z => nm_r (nI_1 _) (nm_r (nI_1 q) ?_))
      · rw [zc_f (p := zq_new L) (by unfold zq_new; rw [decide_eq_false w, decide_eq_false (by omega)]; rfl)] at ih
        exact ih
      · rw [zc_t (p := zq_new L) (by unfold zq_new; rw [decide_eq_true z, Bool.or_true])] at ih
        exact ih
/-! bits -/
def zy_F (l : List Nat) (wt : Nat → Nat) (x y : Int32) : Prop := (y = -1 ∧ l.length ≤ 1) ∨ ∃ a b, x = nI a ∧ y = nI b ∧ a ∈ l ∧ b ∈ l ∧ a ≠ b ∧ (∀ y, y ∈ l → wt a ≤ wt y) ∧ (∀ y, y ∈ l → y ≠ a → wt b ≤ wt y)
def zy_S (n : Nat) (l : List Nat) (wt : Nat → Nat) (so : Nat → Int32) : Prop := l.Nodup ∧ (∀ y, y ∈ l ↔ y < 8 ∧ 0 < wt y) ∧ zf_sum (l.map wt) = n ∧ ∀ y, y < 8 → so y = nI (wt y)
theorem zy_wt {l : List Nat} {wt : Nat → Nat} (hn : n ≤ 200) (h : zy_S n l wt a_sorts) : ∀ y, y < 8 → a_sorts y = nI (wt y) ∧ wt y < 1000 := by
  intro y hy
  refine ⟨h.2.2.2 y hy, ?_⟩
  rcases Nat.decEq (wt y) 0 with z | z
  · have := zf_sum_m (List.mem_map.mpr ⟨y, (h.2.1 y).mpr ⟨hy, by omega⟩, rfl⟩ : wt y ∈ l.map wt)
    have := h.2.2.1
    omega
  · omega
theorem zy_ne1 {y : Nat} (hy : y < 8) : nI y ≠ -1 := fun e => by
  have := nI_pos (n := y) (by omega)
  rw [e] at this
  exact this (by decide)
theorem zy_two {l : List Nat} {wt : Nat → Nat} (hn : n ≤ 200) (h : zy_S n l wt a_sorts) {P : Int32 → Int32 → Prop} (k : ∀ x y, zy_F l wt x y → P x y) : wpY_rarest (fun r => wpY_rarest (fun r' => P r r') (f_size, a_list, a_sorts) r) (f_size, a_list, a_sorts) (-1) := by
  have hw := zy_wt hn h
  have hlt : ∀ y, y ∈ l → y < 8 := fun y hy => ((h.2.1 y).mp hy).1
  refine zf_Yrarest (fr := fun y => decide (y ∈ l)) (wt := wt) hw (fun y hy => ?_) (fun b hb => ?_)
  · rw [decide_eq_true_eq, h.2.1 y]
    exact ⟨fun z => ⟨z.2, zy_ne1 hy⟩, fun z => ⟨hy, z.1⟩⟩
  · rcases hb with ⟨rfl, h0⟩ | ⟨a, a1, rfl, a2, a3⟩
    · have hl := zf_none hlt h0
      have hl : l = [] := List.length_eq_zero_iff.mp (by omega)
      subst hl
      refine zf_Yrarest (fr := fun _ => false) (wt := wt) hw (fun y hy => ?_) (fun b hb => ?_)
      · have := h.2.1 y
        simp at this
        constructor
        · intro z; exact absurd z (by simp)
        · intro z; have := this hy; omega
      · rcases hb with ⟨rfl, -⟩ | ⟨q, -, -, hq, -⟩
        · exact k _ _ (Or.inl ⟨rfl, by simp⟩)
        · exact absurd hq (by simp)
    · have ha : a ∈ l := of_decide_eq_true a2
      refine zf_Yrarest (fr := fun y => decide (y ∈ l ∧ y ≠ a)) (wt := wt) hw (fun y hy => ?_) (fun b hb => ?_)
      · rw [decide_eq_true_eq, h.2.1 y]
        constructor
        · exact fun z => ⟨z.1.2, fun e => z.2 ((nI_eq (by omega) (by omega)).mp e)⟩
        · exact fun z => ⟨⟨hy, z.1⟩, fun e => z.2 (by rw [e])⟩
      · rcases hb with ⟨rfl, h0⟩ | ⟨b, b1, rfl, b2, b3⟩
        · exact k _ _ (Or.inl ⟨rfl, zf_one h.1 hlt h0⟩)
        · have hb : b ∈ l ∧ b ≠ a := of_decide_eq_true b2
          exact k _ _ (Or.inr ⟨a, b, rfl, rfl, ha, hb.1, fun e => hb.2 e.symm, fun y hy => a3 y (hlt y hy) (decide_eq_true hy), fun y hy hy' => b3 y (hlt y hy) (decide_eq_true ⟨hy, hy'⟩)⟩)
theorem zy_53 {post : Int32 → SY → Prop} (hn : n ≤ 200) {l0 : List Nat} (k : ∀ v so, zf_C 8 l0 v → post (nI v) (f_size, a_list, so)) : ∀ (N m cs : Nat) (l : List Nat) (wt : Nat → Nat) (so : Nat → Int32) (x y : Int32), l.length ≤ N + 1 → l.length + m ≤ 8 → zy_S n l wt so → (∀ s, zf_C (8 - m) (l.map wt) s → zf_C 8 l0 (cs + s)) → zy_F l wt x y → wY_bits_53 post f_size (N + 1) (nI cs) x y a_list so := by
  intro N
  induction N with
  | zero =>
    intro m cs l wt so x y hN hm hS hC hF
    rcases hF with ⟨rfl, hl⟩ | ⟨a, b, rfl, rfl, ha, hb, hab, -, -⟩
    · exact br_t (by decide) (k cs so (hC 0 (zf_C_1 _ (by rw [List.length_map]; exact hl))))
    · have := (zf_two hS.1 ha hb hab).1.length_eq
      simp only [List.length_cons] at this
      omega
  | succ N ih =>
    intro m cs l wt so x y hN hm hS hC hF
    rcases hF with ⟨rfl, hl⟩ | ⟨a, b, rfl, rfl, ha, hb, hab, h1, h2⟩
    · exact br_t (by decide) (k cs so (hC 0 (zf_C_1 _ (by rw [List.length_map]; exact hl))))
    · have h8a := ((hS.2.1 a).mp ha).1
      have h8b := ((hS.2.1 b).mp hb).1
      obtain ⟨p, pd, pm⟩ := zf_two hS.1 ha hb hab
      have hlen := p.length_eq
      simp only [List.length_cons] at hlen
      have va : vp_in (nI a) 8 := vp_in_nI h8a (by omega)
      have vb : vp_in (nI b) 8 := vp_in_nI h8b (by omega)
      have hv : zq_st (zq_st wt a (wt a + wt b)) b 0 a = wt a + wt b := by rw [zq_st_n _ hab, zq_st_s]
      have hw : ∀ y, y ∈ (l.erase a).erase b → zq_st (zq_st wt a (wt a + wt b)) b 0 y = wt y := fun y hy => by
        have := (pm y).mp hy
        rw [zq_st_n _ this.2.2, zq_st_n _ this.2.1]
      have hS' : zy_S n (a :: (l.erase a).erase b) (zq_st (zq_st wt a (wt a + wt b)) b 0) (upd (upd so a (nI (wt a + wt b))) b 0) := by
        refine ⟨List.nodup_cons.mpr ⟨fun hy => ((pm a).mp hy).2.1 rfl, pd⟩, fun y => ?_, ?_, fun y hy => ?_⟩
        · rw [List.mem_cons, pm y]
          rcases Nat.decEq y b with z | z
          · rw [zq_st_n _ z]
            rcases Nat.decEq y a with w | w
            · rw [zq_st_n _ w, hS.2.1 y]
              exact ⟨fun h => h.elim (fun e => absurd e w) (fun h => h.1), fun h => Or.inr ⟨h, w, z⟩⟩
            · subst w
              rw [zq_st_s]
              have := ((hS.2.1 y).mp ha).2
              exact ⟨fun _ => ⟨h8a, by omega⟩, fun _ => Or.inl rfl⟩
          · subst z
            rw [zq_st_s]
            exact ⟨fun h => h.elim (fun e => absurd e.symm hab) (fun h => absurd rfl h.2.2), fun h => absurd h.2 (by omega)⟩
        · rw [zf_sum_step hS.1 ha hb hab hv hw]; exact hS.2.2.1
        · rcases Nat.decEq y b with z | z
          · rw [pk_un z, zq_st_n _ z]
            rcases Nat.decEq y a with w | w
            · rw [pk_un w, zq_st_n _ w]; exact hS.2.2.2 y hy
            · subst w; rw [pk_us, zq_st_s]
          · subst z; rw [pk_us, zq_st_s]; rfl
      refine br_f (nI_pos (by omega)) (And.intro va (And.intro vb (And.intro va (nm_r (e' := upd so a (nI (wt a + wt b))) ?_ (And.intro vb (nm_r (e' := upd (upd so a (nI (wt a + wt b))) b 0) ?_ (And.intro va (nm_r (e' := nI (cs + (wt a + wt b))) ?_ (zy_two hn hS' (fun x y hF => ih (m + 1) _ _ _ _ x y ?_ ?_ hS' ?_ hF))))))))))
      · rw [nI_clamp (by omega), nI_clamp (by omega), hS.2.2.2 a h8a, hS.2.2.2 b h8b, nI_add]
      · rw [nI_clamp (by omega)]
      · rw [nI_clamp (by omega), pk_un hab, pk_us, nI_add]
      · simp only [List.length_cons]; omega
      · simp only [List.length_cons]; omega
      · intro s hs
        have := hC (wt a + wt b + s) (by
          rw [show 8 - m = (8 - (m + 1)) + 1 by omega]
          exact zf_C_step hS.1 ha hb hab h1 h2 hv hw hs)
        rw [show cs + (wt a + wt b) + s = cs + (wt a + wt b + s) by omega]
        exact this
theorem zy_b2 {post : Int32 → SY → Prop} (H : zy_H f_size a_list n L) (k1 : (zf_i0 (fun c => zc (zl_c L c) n) 8).length ≤ 1 → ∀ so, post (nI n) (f_size, a_list, so)) (k2 : 1 < (zf_i0 (fun c => zc (zl_c L c) n) 8).length → ∀ v so, zf_C 8 ((zf_i0 (fun c => zc (zl_c L c) n) 8).map (fun c => zc (zl_c L c) n)) v → post (nI v) (f_size, a_list, so)) : ∀ (d i : Nat), i + d = 8 → ∀ (so : Nat → Int32), (∀ y, y < i → so y = nI (zc (zl_c L y) n)) → wY_bits_2 post f_size (d + 1) (nI i) a_list so
  | 0, i, hd, so, h => by
    have hn := H.1
    have e1 : i = 8 := by omega
    subst e1
    have hS : zy_S n (zf_i0 (fun c => zc (zl_c L c) n) 8) (fun c => zc (zl_c L c) n) so := ⟨zf_i0_d _ 8, fun y => zf_i0_m _ 8 y, by rw [zf_sumF, zf_sum8 H.2.1], h⟩
    refine pk_le 8 8 (fun _ => zy_two hn hS (fun x y hF => ?_)) (fun h => absurd h (by omega))
    have hF' := hF
    rcases hF' with ⟨rfl, hl⟩ | ⟨a, b, rfl, rfl, ha, hb, hab, -, -⟩
    · refine br_f (by decide) ?_
      rw [H.2.2.1]
      have := k1 hl so
      rw [H.2.2.1] at this
      exact this
    · have h8b := ((hS.2.1 b).mp hb).1
      have hlen := (zf_two hS.1 ha hb hab).1.length_eq
      simp only [List.length_cons] at hlen
      exact br_t (nI_pos' (by omega)) ⟨8 + 1, zy_53 hn (fun v so' hv => k2 (by omega) v so' hv) 8 0 0 _ _ so _ _ (Nat.le_trans (zf_i0_l _ 8) (by omega)) (zf_i0_l _ 8) hS (fun s hs => by rw [Nat.zero_add]; exact hs) hF⟩
  | d + 1, i, hd, so, h => by
    refine pk_le 8 i (fun h => absurd h (by omega)) (fun _ => zy_often H (l := i) (i := 0) (by omega) (Nat.zero_le _) (Nat.le_refl n) rfl rfl H.2.2.1 (And.intro (vp_in_nI (by omega) (by omega)) (nm_r (e' := upd so i (nI (zc (zl_c L i) n))) ?_ (nm_r (nI_1 i) (zy_b2 H k1 k2 d (i + 1) (by omega) _ (zu_ext (C := fun y => nI (zc (zl_c L y) n)) h rfl))))))
    rw [nI_clamp (by omega)]
    rfl
theorem zy_bits {post : Int32 → SY → Prop} (H : zy_H f_size a_list n L) (k1 : (zf_i0 (fun c => zc (zl_c L c) n) 8).length ≤ 1 → ∀ so, post (nI n) (f_size, a_list, so)) (k2 : 1 < (zf_i0 (fun c => zc (zl_c L c) n) 8).length → ∀ v so, zf_C 8 ((zf_i0 (fun c => zc (zl_c L c) n) 8).map (fun c => zc (zl_c L c) n)) v → post (nI v) (f_size, a_list, so)) : wpY_bits post (f_size, a_list, a_sorts) :=
  ⟨8 + 1, zy_b2 H k1 k2 8 0 rfl a_sorts (fun y h => absurd h (Nat.not_lt_zero _))⟩
end
end
section
/-! the relation; the constructors -/
def zz_X (n : Nat) (L : Nat → Nat) (u : SX) : Prop := match u with
  | (f_n, f_isPacked, f_runCount, f_nodes, f_codeSum, a_letters, a_countOf, a_sorted, a_parted, a_rowBits, a_wordSum, a_byteSum, a_zerosOf, a_lowWidth, a_firstPlace, a_lowPart, a_highBits, a_blockClass, a_blockNumber, a_blockSum, a_choices, a_runStart, a_runLetter, a_runBefore, a_runSame, a_lastRun, a_nodeLeft, a_nodeRight, a_weight, a_joined, a_codeLength, a_codeBits) => zl_H f_n a_letters n L ∧ zk_C a_choices ∧ (f_isPacked = 0 ∨ (f_isPacked = 1 ∧ zz_P n L (f_n, f_isPacked, f_runCount, f_nodes, f_codeSum, a_letters, a_countOf, a_sorted, a_parted, a_rowBits, a_wordSum, a_byteSum, a_zerosOf, a_lowWidth, a_firstPlace, a_lowPart, a_highBits, a_blockClass, a_blockNumber, a_blockSum, a_choices, a_runStart, a_runLetter, a_runBefore, a_runSame, a_lastRun, a_nodeLeft, a_nodeRight, a_weight, a_joined, a_codeLength, a_codeBits)))
def zz_Y (n : Nat) (L : Nat → Nat) (v : SY) : Prop := match v with
  | (f_size, a_list, a_sorts) => zy_H f_size a_list n L
/-- one list of letters on both sides; if the component is packed, its tables are that list's -/
def i_Rel (k : Nat) (u : SX) (v : SY) : Prop := ∃ n L, zz_X n L u ∧ zz_Y n L v
theorem i_up {k : Nat} {u : SX} {v : SY} (h : i_Rel k u v) : i_Rel (k + 5) u v := h
section
variable {f_n f_isPacked f_runCount f_nodes f_codeSum : Int32} {a_letters a_countOf a_sorted a_parted a_rowBits a_wordSum a_byteSum a_zerosOf a_lowWidth a_firstPlace a_lowPart a_highBits a_blockClass a_blockNumber a_blockSum a_choices a_runStart a_runLetter a_runBefore a_runSame a_lastRun a_nodeLeft a_nodeRight a_weight a_joined a_codeLength a_codeBits : Nat → Int32} {f_size : Int32} {a_list a_sorts : Nat → Int32} {n : Nat} {L : Nat → Nat}
theorem zz_in {k : Nat} (H : zl_H f_n a_letters n L) (HC : zk_C a_choices) (hp : f_isPacked = 0 ∨ (f_isPacked = 1 ∧ zz_P n L (f_n, f_isPacked, f_runCount, f_nodes, f_codeSum, a_letters, a_countOf, a_sorted, a_parted, a_rowBits, a_wordSum, a_byteSum, a_zerosOf, a_lowWidth, a_firstPlace, a_lowPart, a_highBits, a_blockClass, a_blockNumber, a_blockSum, a_choices, a_runStart, a_runLetter, a_runBefore, a_runSame, a_lastRun, a_nodeLeft, a_nodeRight, a_weight, a_joined, a_codeLength, a_codeBits))) (HY : zy_H f_size a_list n L) : i_Rel k (f_n, f_isPacked, f_runCount, f_nodes, f_codeSum, a_letters, a_countOf, a_sorted, a_parted, a_rowBits, a_wordSum, a_byteSum, a_zerosOf, a_lowWidth, a_firstPlace, a_lowPart, a_highBits, a_blockClass, a_blockNumber, a_blockSum, a_choices, a_runStart, a_runLetter, a_runBefore, a_runSame, a_lastRun, a_nodeLeft, a_nodeRight, a_weight, a_joined, a_codeLength, a_codeBits) (f_size, a_list, a_sorts) := ⟨n, L, ⟨H, HC, hp⟩, HY⟩
theorem zz_y (H : zl_H f_n a_letters n L) (hs : f_size = nI n) (hl : ∀ i, a_list i = nI (L i)) : zy_H f_size a_list n L := ⟨H.1, H.2.1, hs, hl⟩
end
theorem zz_el {P : SX → SY → Prop} (h : ∀ f_n f_isPacked f_runCount f_nodes f_codeSum a_letters a_countOf a_sorted a_parted a_rowBits a_wordSum a_byteSum a_zerosOf a_lowWidth a_firstPlace a_lowPart a_highBits a_blockClass a_blockNumber a_blockSum a_choices a_runStart a_runLetter a_runBefore a_runSame a_lastRun a_nodeLeft a_nodeRight a_weight a_joined a_codeLength a_codeBits f_size a_list a_sorts n L, zl_H f_n a_letters n L → zk_C a_choices → (f_isPacked = 0 ∨ (f_isPacked = 1 ∧ zz_P n L (f_n, f_isPacked, f_runCount, f_nodes, f_codeSum, a_letters, a_countOf, a_sorted, a_parted, a_rowBits, a_wordSum, a_byteSum, a_zerosOf, a_lowWidth, a_firstPlace, a_lowPart, a_highBits, a_blockClass, a_blockNumber, a_blockSum, a_choices, a_runStart, a_runLetter, a_runBefore, a_runSame, a_lastRun, a_nodeLeft, a_nodeRight, a_weight, a_joined, a_codeLength, a_codeBits))) → zy_H f_size a_list n L → P (f_n, f_isPacked, f_runCount, f_nodes, f_codeSum, a_letters, a_countOf, a_sorted, a_parted, a_rowBits, a_wordSum, a_byteSum, a_zerosOf, a_lowWidth, a_firstPlace, a_lowPart, a_highBits, a_blockClass, a_blockNumber, a_blockSum, a_choices, a_runStart, a_runLetter, a_runBefore, a_runSame, a_lastRun, a_nodeLeft, a_nodeRight, a_weight, a_joined, a_codeLength, a_codeBits) (f_size, a_list, a_sorts)) {k : Nat} {u : SX} {v : SY} (I : i_Rel k u v) : P u v :=
  match u, v, I with
  | (f_n, f_isPacked, f_runCount, f_nodes, f_codeSum, a_letters, a_countOf, a_sorted, a_parted, a_rowBits, a_wordSum, a_byteSum, a_zerosOf, a_lowWidth, a_firstPlace, a_lowPart, a_highBits, a_blockClass, a_blockNumber, a_blockSum, a_choices, a_runStart, a_runLetter, a_runBefore, a_runSame, a_lastRun, a_nodeLeft, a_nodeRight, a_weight, a_joined, a_codeLength, a_codeBits), (f_size, a_list, a_sorts), ⟨n, L, hX, hY⟩ => h _ _ _ _ _ _ _ _ _ _ _ _ _ _ _ _ _ _ _ _ _ _ _ _ _ _ _ _ _ _ _ _ _ _ _ n L hX.1 hX.2.1 hX.2.2 hY
/-! the constructor's table of choices -/
def zk_T (r c : Nat) (ch : Nat → Int32) : Prop := ∀ r' l, r' < 8 → l < 8 → ch (r' * 8 + l) = nI (if r' < r ∨ (r' = r ∧ l < c) then zk_ch r' l else 0)
theorem zk_T_w {r c : Nat} {ch : Nat → Int32} (h : zk_T r c ch) (hr : r < 8) (hc : c < 8) : zk_T r (c + 1) (upd ch (r * 8 + c) (nI (zk_ch r c))) := by
  intro r' l hr' hl
  rcases Nat.decEq (r' * 8 + l) (r * 8 + c) with z | z
  · rw [pk_un z, h r' l hr' hl]
    have hne : ¬ (r' = r ∧ l = c) := fun e => z (by rw [e.1, e.2])
    by_cases w : r' < r ∨ (r' = r ∧ l < c)
    · rw [if_pos w, if_pos (by omega)]
    · rw [if_neg w, if_neg (by omega)]
  · obtain ⟨e1, e2⟩ := zx_ix (w := 8) hl hc z
    subst e1 e2
    rw [pk_us, if_pos (by omega)]
theorem zk_ch0 : ∀ r, r < 8 → ∀ l, l < 8 → r < l → zk_ch r l = 0 := by decide +kernel
theorem zk_T_n {r : Nat} {ch : Nat → Int32} (h : zk_T r (r + 1) ch) (hr : r < 8) : zk_T (r + 1) 0 ch := by
  intro r' l hr' hl
  rw [h r' l hr' hl]
  by_cases w : r' < r ∨ (r' = r ∧ l < r + 1)
  · rw [if_pos w, if_pos (by omega)]
  · rw [if_neg w]
    by_cases w2 : r' < r + 1 ∨ (r' = r + 1 ∧ l < 0)
    · rw [if_pos w2]
      have e : r' = r := by omega
      subst e
      rw [zk_ch0 r' hr l hl (by omega)]
    · rw [if_neg w2]
section
variable {f_n f_isPacked f_runCount f_nodes f_codeSum : Int32} {a_letters a_countOf a_sorted a_parted a_rowBits a_wordSum a_byteSum a_zerosOf a_lowWidth a_firstPlace a_lowPart a_highBits a_blockClass a_blockNumber a_blockSum a_choices a_runStart a_runLetter a_runBefore a_runSame a_lastRun a_nodeLeft a_nodeRight a_weight a_joined a_codeLength a_codeBits : Nat → Int32}
theorem zi_in {post : SX → Prop} {J : _} {r : Nat} (hr : r < 8) (k : ∀ ch, zk_T r (r + 1) ch → J (nI (r + 1)) a_letters a_countOf a_sorted a_parted a_rowBits a_wordSum a_byteSum a_zerosOf a_lowWidth a_firstPlace a_lowPart a_highBits a_blockClass a_blockNumber a_blockSum ch a_runStart a_runLetter a_runBefore a_runSame a_lastRun a_nodeLeft a_nodeRight a_weight a_joined a_codeLength a_codeBits) : ∀ (d c : Nat), c + d = r + 1 → 0 < c → ∀ (ch : Nat → Int32), zk_T r c ch → wX_init_253 post J (nI r) f_n f_isPacked f_runCount f_nodes f_codeSum (d + 1) (nI c) a_letters a_countOf a_sorted a_parted a_rowBits a_wordSum a_byteSum a_zerosOf a_lowWidth a_firstPlace a_lowPart a_highBits a_blockClass a_blockNumber a_blockSum ch a_runStart a_runLetter a_runBefore a_runSame a_lastRun a_nodeLeft a_nodeRight a_weight a_joined a_codeLength a_codeBits
  | 0, c, hd, hc, ch, h => by
    have e : c = r + 1 := by omega
    subst e
    exact pk_lt r (r + 1) (fun _ => nm_r (nI_1 r) (k ch h)) (fun h => absurd h (by omega))
  | d + 1, c, hd, hc, ch, h => by
    obtain ⟨r0, rfl⟩ : ∃ r0, r = r0 + 1 := ⟨r - 1, by omega⟩
    obtain ⟨c0, rfl⟩ : ∃ c0, c = c0 + 1 := ⟨c - 1, by omega⟩
    have e1 : ((nI (r0 + 1) - 1) * 8) + nI (c0 + 1) = nI (r0 * 8 + (c0 + 1)) := by
      rw [nI_pred, show (8 : Int32) = nI 8 from rfl, pk_mul, nI_add]
    have e2 : (((nI (r0 + 1) - 1) * 8) + nI (c0 + 1)) - 1 = nI (r0 * 8 + c0) := by
      rw [e1]; exact nI_pred _
    have e3 : (nI (r0 + 1) * 8) + nI (c0 + 1) = nI ((r0 + 1) * 8 + (c0 + 1)) := by
      rw [show (8 : Int32) = nI 8 from rfl, pk_mul, nI_add]
    have q1 := h r0 c0 (by omega) (by omega)
    have q2 := h r0 (c0 + 1) (by omega) (by omega)
    rw [if_pos (by omega)] at q1 q2
    have hb := zk_chb (r0 + 1) hr (c0 + 1) (by omega)
    refine pk_lt (r0 + 1) (c0 + 1) (fun h => absurd h (by omega)) (fun _ => And.intro (pk_in (r0 * 8 + c0) 64 (by omega) e2) (And.intro (pk_in (r0 * 8 + (c0 + 1)) 64 (by omega) e1) (And.intro (pk_in ((r0 + 1) * 8 + (c0 + 1)) 64 (by omega) e3) (nm_r (e' := upd ch ((r0 + 1) * 8 + (c0 + 1)) (nI (zk_ch (r0 + 1) (c0 + 1)))) ?_ (nm_r (nI_1 _) (zi_in hr k d (c0 + 1 + 1) (by omega) (by omega) _ (zk_T_w h hr (by omega))))))))
    have e4 : zk_ch r0 c0 + zk_ch r0 (c0 + 1) = zk_ch (r0 + 1) (c0 + 1) := rfl
    rw [e2, e1, e3, nI_clamp (by omega), nI_clamp (by omega), nI_clamp (by omega), q1, q2, nI_add, e4, zn_vbb (by omega)]
theorem zi_out {post : SX → Prop} (k : ∀ ch, zk_T 8 0 ch → post (f_n, f_isPacked, f_runCount, f_nodes, f_codeSum, a_letters, a_countOf, a_sorted, a_parted, a_rowBits, a_wordSum, a_byteSum, a_zerosOf, a_lowWidth, a_firstPlace, a_lowPart, a_highBits, a_blockClass, a_blockNumber, a_blockSum, ch, a_runStart, a_runLetter, a_runBefore, a_runSame, a_lastRun, a_nodeLeft, a_nodeRight, a_weight, a_joined, a_codeLength, a_codeBits)) : ∀ (d r : Nat), r + d = 8 → ∀ (ch : Nat → Int32), zk_T r 0 ch → wX_init_235 post f_n f_isPacked f_runCount f_nodes f_codeSum (d + 1) (nI r) a_letters a_countOf a_sorted a_parted a_rowBits a_wordSum a_byteSum a_zerosOf a_lowWidth a_firstPlace a_lowPart a_highBits a_blockClass a_blockNumber a_blockSum ch a_runStart a_runLetter a_runBefore a_runSame a_lastRun a_nodeLeft a_nodeRight a_weight a_joined a_codeLength a_codeBits
  | 0, r, hd, ch, h => by
    have e : r = 8 := by omega
    subst e
    exact pk_le 8 8 (fun _ => k ch h) (fun h => absurd h (by omega))
  | d + 1, r, hd, ch, h => by
    have e1 : nI r * 8 = nI (r * 8) := by
      rw [show (8 : Int32) = nI 8 from rfl, pk_mul]
    refine pk_le 8 r (fun h => absurd h (by omega)) (fun _ => And.intro (pk_in (r * 8) 64 (by omega) e1) (nm_r (e' := upd ch (r * 8 + 0) (nI (zk_ch r 0))) ?_ ⟨r + 1, zi_in (by omega) (fun ch' h' => zi_out k d (r + 1) (by omega) ch' (zk_T_n h' (by omega))) r 1 (by omega) (by omega) _ (zk_T_w h (by omega) (by omega))⟩))
    rw [e1, nI_clamp (by omega)]
    have : zk_ch r 0 = 1 := by cases r <;> rfl
    rw [this]
    exact congrArg (upd ch (r * 8)) (zn_vb (k := 1) (by decide))
end
theorem i_vc0 : wpX_init (fun u => wpY_init (fun v => i_Rel 0 u v)) := by
  refine ⟨8 + 1, zi_out (fun ch h => ?_) 8 0 rfl _ (fun r' l _ _ => ?_)⟩
  · refine ⟨0, fun _ => 0, ⟨⟨by omega, fun _ => Nat.zero_lt_succ 7, rfl, fun _ => rfl⟩, fun r l hr hl => ?_, Or.inl rfl⟩, ⟨by omega, fun _ => Nat.zero_lt_succ 7, rfl, fun _ => rfl⟩⟩
    rw [h r l hr hl, if_pos (by omega)]
  · rw [if_neg (by omega)]; rfl
end
section
/-! append, again, change, cut -/
def zz_ap (L : Nat → Nat) (n c : Nat) : Nat → Nat → Nat
  | 0 => L
  | i + 1 => zq_st (zz_ap L n c i) (n + i) c
def zz_ag (L : Nat → Nat) (n b : Nat) : Nat → Nat → Nat
  | 0 => L
  | i + 1 => zq_st (zz_ag L n b i) (n + i) (zz_ag L n b i (n + i - b))
theorem zz_ap8 {L : Nat → Nat} (hL : ∀ i, L i < 8) (n : Nat) {c : Nat} (hc : c < 8) : ∀ i q, zz_ap L n c i q < 8
  | 0, q => hL q
  | i + 1, q => by
    show zq_st (zz_ap L n c i) (n + i) c q < 8
    rcases Nat.decEq q (n + i) with z | z
    · rw [zq_st_n _ z]; exact zz_ap8 hL n hc i q
    · rw [z, zq_st_s]; exact hc
theorem zz_ag8 {L : Nat → Nat} (hL : ∀ i, L i < 8) (n b : Nat) : ∀ i q, zz_ag L n b i q < 8
  | 0, q => hL q
  | i + 1, q => by
    show zq_st (zz_ag L n b i) (n + i) (zz_ag L n b i (n + i - b)) q < 8
    rcases Nat.decEq q (n + i) with z | z
    · rw [zq_st_n _ z]; exact zz_ag8 hL n b i q
    · rw [z, zq_st_s]; exact zz_ag8 hL n b i _
theorem zz_put {f : Nat → Int32} {M : Nat → Nat} (h : ∀ q, f q = nI (M q)) (k v : Nat) : ∀ q, upd f k (nI v) q = nI (zq_st M k v q) := by
  intro q
  rcases Nat.decEq q k with z | z
  · rw [pk_un z, zq_st_n _ z]; exact h q
  · rw [z, pk_us, zq_st_s]
section
variable {f_n f_isPacked f_runCount f_nodes f_codeSum : Int32} {a_letters a_countOf a_sorted a_parted a_rowBits a_wordSum a_byteSum a_zerosOf a_lowWidth a_firstPlace a_lowPart a_highBits a_blockClass a_blockNumber a_blockSum a_choices a_runStart a_runLetter a_runBefore a_runSame a_lastRun a_nodeLeft a_nodeRight a_weight a_joined a_codeLength a_codeBits : Nat → Int32} {f_size : Int32} {a_list a_sorts : Nat → Int32} {n : Nat} {L : Nat → Nat}
theorem zx_apl {post : Int32 → SX → Prop} {c t : Nat} (hc : c < 8) (ht : n + t ≤ 200) (k : ∀ le, (∀ q, le q = nI (zz_ap L n c t q)) → post (nI (n + t)) (nI (n + t), 0, f_runCount, f_nodes, f_codeSum, le, a_countOf, a_sorted, a_parted, a_rowBits, a_wordSum, a_byteSum, a_zerosOf, a_lowWidth, a_firstPlace, a_lowPart, a_highBits, a_blockClass, a_blockNumber, a_blockSum, a_choices, a_runStart, a_runLetter, a_runBefore, a_runSame, a_lastRun, a_nodeLeft, a_nodeRight, a_weight, a_joined, a_codeLength, a_codeBits)) : ∀ (d i : Nat), i + d = t → ∀ (le : Nat → Int32), (∀ q, le q = nI (zz_ap L n c i q)) → wX_append_38 post (nI c) (nI t) f_isPacked f_runCount f_nodes f_codeSum (d + 1) (nI i) (nI (n + i)) le a_countOf a_sorted a_parted a_rowBits a_wordSum a_byteSum a_zerosOf a_lowWidth a_firstPlace a_lowPart a_highBits a_blockClass a_blockNumber a_blockSum a_choices a_runStart a_runLetter a_runBefore a_runSame a_lastRun a_nodeLeft a_nodeRight a_weight a_joined a_codeLength a_codeBits
  | 0, i, hd, le, h => by
    have e : i = t := by omega
    subst e
    exact pk_le i i (fun _ => k le h) (fun h => absurd h (by omega))
  | d + 1, i, hd, le, h => by
    refine pk_le t i (fun h => absurd h (by omega)) (fun _ => And.intro (vp_in_nI (by omega) (by omega)) (nm_r (e' := upd le (n + i) (nI c)) ?_ (nm_r (nI_1 _) (nm_r (nI_1 i) (zx_apl hc ht k d (i + 1) (by omega) _ (zz_put h (n + i) c))))))
    rw [nI_clamp (by omega), zn_vbb (by omega)]
theorem zy_apl {post : Int32 → SY → Prop} {c t : Nat} (hc : c < 8) (ht : n + t ≤ 200) (k : ∀ le, (∀ q, le q = nI (zz_ap L n c t q)) → post (nI (n + t)) (nI (n + t), le, a_sorts)) : ∀ (d i : Nat), i + d = t → ∀ (le : Nat → Int32), (∀ q, le q = nI (zz_ap L n c i q)) → wY_append_35 post (nI c) (nI t) (d + 1) (nI i) (nI (n + i)) le a_sorts
  | 0, i, hd, le, h => by
    have e : i = t := by omega
    subst e
    exact pk_le i i (fun _ => k le h) (fun h => absurd h (by omega))
  | d + 1, i, hd, le, h => by
    refine pk_le t i (fun h => absurd h (by omega)) (fun _ => And.intro (vp_in_nI (by omega) (by omega)) (nm_r (e' := upd le (n + i) (nI c)) ?_ (nm_r (nI_1 _) (nm_r (nI_1 i) (zy_apl hc ht k d (i + 1) (by omega) _ (zz_put h (n + i) c))))))
    rw [nI_clamp (by omega)]
theorem zx_agl {post : Int32 → SX → Prop} {b t : Nat} (hL : ∀ i, L i < 8) (hb : b ≤ n) (hb1 : 0 < b) (ht : n + t ≤ 200) (k : ∀ le, (∀ q, le q = nI (zz_ag L n b t q)) → post (nI (n + t)) (nI (n + t), 0, f_runCount, f_nodes, f_codeSum, le, a_countOf, a_sorted, a_parted, a_rowBits, a_wordSum, a_byteSum, a_zerosOf, a_lowWidth, a_firstPlace, a_lowPart, a_highBits, a_blockClass, a_blockNumber, a_blockSum, a_choices, a_runStart, a_runLetter, a_runBefore, a_runSame, a_lastRun, a_nodeLeft, a_nodeRight, a_weight, a_joined, a_codeLength, a_codeBits)) : ∀ (d i : Nat), i + d = t → ∀ (le : Nat → Int32), (∀ q, le q = nI (zz_ag L n b i q)) → wX_again_44 post (nI b) (nI t) f_isPacked f_runCount f_nodes f_codeSum (d + 1) (nI i) (nI (n + i)) le a_countOf a_sorted a_parted a_rowBits a_wordSum a_byteSum a_zerosOf a_lowWidth a_firstPlace a_lowPart a_highBits a_blockClass a_blockNumber a_blockSum a_choices a_runStart a_runLetter a_runBefore a_runSame a_lastRun a_nodeLeft a_nodeRight a_weight a_joined a_codeLength a_codeBits
  | 0, i, hd, le, h => by
    have e : i = t := by omega
    subst e
    exact pk_le i i (fun _ => k le h) (fun h => absurd h (by omega))
  | d + 1, i, hd, le, h => by
    have e1 : nI (n + i) - nI b = nI (n + i - b) := pk_sub (by omega)
    have h8 := zz_ag8 hL n b i (n + i - b)
    refine pk_le t i (fun h => absurd h (by omega)) (fun _ => And.intro (pk_in (n + i - b) 200 (by omega) e1) (And.intro (vp_in_nI (by omega) (by omega)) (nm_r (e' := upd le (n + i) (nI (zz_ag L n b i (n + i - b)))) ?_ (nm_r (nI_1 _) (nm_r (nI_1 i) (zx_agl hL hb hb1 ht k d (i + 1) (by omega) _ (zz_put h (n + i) _)))))))
    rw [e1, nI_clamp (by omega), nI_clamp (by omega), h, zn_vb (by omega)]
theorem zy_agl {post : Int32 → SY → Prop} {b t : Nat} (hb : b ≤ n) (hb1 : 0 < b) (ht : n + t ≤ 200) (k : ∀ le, (∀ q, le q = nI (zz_ag L n b t q)) → post (nI (n + t)) (nI (n + t), le, a_sorts)) : ∀ (d i : Nat), i + d = t → ∀ (le : Nat → Int32), (∀ q, le q = nI (zz_ag L n b i q)) → wY_again_40 post (nI b) (nI t) (d + 1) (nI i) (nI (n + i)) le a_sorts
  | 0, i, hd, le, h => by
    have e : i = t := by omega
    subst e
    exact pk_le i i (fun _ => k le h) (fun h => absurd h (by omega))
  | d + 1, i, hd, le, h => by
    have e1 : nI (n + i) - nI b = nI (n + i - b) := pk_sub (by omega)
    refine pk_le t i (fun h => absurd h (by omega)) (fun _ => And.intro (pk_in (n + i - b) 200 (by omega) e1) (And.intro (vp_in_nI (by omega) (by omega)) (nm_r (e' := upd le (n + i) (nI (zz_ag L n b i (n + i - b)))) ?_ (nm_r (nI_1 _) (nm_r (nI_1 i) (zy_agl hb hb1 ht k d (i + 1) (by omega) _ (zz_put h (n + i) _)))))))
    rw [e1, nI_clamp (by omega), nI_clamp (by omega), h]
/-- how many: from 1 to 200 -/
theorem zx_many (x : Int32) : (x < 1 ∨ (¬ x < 1 ∧ ¬ x ≤ 200)) ∨ ∃ t, 1 ≤ t ∧ t ≤ 200 ∧ x = nI t := by
  by_cases h1 : x < 1
  · exact Or.inl (Or.inl h1)
  · by_cases h2 : x ≤ 200
    · have h0 : ¬ x < 0 := fun h => h1 (Int32.lt_of_lt_of_le h (by decide))
      obtain ⟨t, ht, rfl⟩ := nI_of h0
      refine Or.inr ⟨t, ?_, (nI_leI ht (b := 200) (by omega)).mp h2, rfl⟩
      rcases Nat.lt_or_ge t 1 with z | z
      · exact absurd (nI_lt (b := 1) z (by omega)) h1
      · exact z
    · exact Or.inl (Or.inr ⟨h1, h2⟩)
theorem zy_many0 {post : Int32 → Prop} {v : SY} {x : Int32} (h : x < 1 ∨ (¬ x < 1 ∧ ¬ x ≤ 200)) (k : post 0) : wpY_many post v x := by
  rcases h with h | ⟨h, h'⟩
  · exact br_t h k
  · exact br_f h (br_t (Int32.not_le.mp h') k)
theorem zy_many1 {post : Int32 → Prop} {v : SY} {t : Nat} (h1 : 1 ≤ t) (h2 : t ≤ 200) (k : post 1) : wpY_many post v (nI t) := pk_lt t 1 (fun h => absurd h (by omega)) (fun _ => pk_lt 200 t (fun h => absurd h (by omega)) (fun _ => k))
theorem zz_vappend {k : Nat} (H : zl_H f_n a_letters n L) (HC : zk_C a_choices) (hp : f_isPacked = 0 ∨ (f_isPacked = 1 ∧ zz_P n L (f_n, f_isPacked, f_runCount, f_nodes, f_codeSum, a_letters, a_countOf, a_sorted, a_parted, a_rowBits, a_wordSum, a_byteSum, a_zerosOf, a_lowWidth, a_firstPlace, a_lowPart, a_highBits, a_blockClass, a_blockNumber, a_blockSum, a_choices, a_runStart, a_runLetter, a_runBefore, a_runSame, a_lastRun, a_nodeLeft, a_nodeRight, a_weight, a_joined, a_codeLength, a_codeBits))) (HY : zy_H f_size a_list n L) (v1 v2 : Int32) : wpX_append (fun r u' => wpY_append (fun r' v' => r' = r ∧ i_Rel k u' v') (f_size, a_list, a_sorts) v1 v2) (f_n, f_isPacked, f_runCount, f_nodes, f_codeSum, a_letters, a_countOf, a_sorted, a_parted, a_rowBits, a_wordSum, a_byteSum, a_zerosOf, a_lowWidth, a_firstPlace, a_lowPart, a_highBits, a_blockClass, a_blockNumber, a_blockSum, a_choices, a_runStart, a_runLetter, a_runBefore, a_runSame, a_lastRun, a_nodeLeft, a_nodeRight, a_weight, a_joined, a_codeLength, a_codeBits) v1 v2 := by
  have rel := zz_in (k := k) (f_n := f_n) (f_isPacked := f_isPacked) (f_runCount := f_runCount) (f_nodes := f_nodes) (f_codeSum := f_codeSum) (a_letters := a_letters) (a_countOf := a_countOf) (a_sorted := a_sorted) (a_parted := a_parted) (a_rowBits := a_rowBits) (a_wordSum := a_wordSum) (a_byteSum := a_byteSum) (a_zerosOf := a_zerosOf) (a_lowWidth := a_lowWidth) (a_firstPlace := a_firstPlace) (a_lowPart := a_lowPart) (a_highBits := a_highBits) (a_blockClass := a_blockClass) (a_blockNumber := a_blockNumber) (a_blockSum := a_blockSum) (a_choices := a_choices) (a_runStart := a_runStart) (a_runLetter := a_runLetter) (a_runBefore := a_runBefore) (a_runSame := a_runSame) (a_lastRun := a_lastRun) (a_nodeLeft := a_nodeLeft) (a_nodeRight := a_nodeRight) (a_weight := a_weight) (a_joined := a_joined) (a_codeLength := a_codeLength) (a_codeBits := a_codeBits) (a_sorts := a_sorts) H HC hp HY
  have hn := H.1
  unfold wpX_append
  rcases zx_3 v1 (M := 8) (by omega) with h | ⟨c, hc, rfl⟩
  · refine zx_let0 h (br_t rfl ?_)
    unfold wpY_append
    exact zy_let0 h (br_t rfl ⟨rfl, rel⟩)
  · refine zx_let1 hc (br_f (by decide) ?_)
    rcases zx_many v2 with h | ⟨t, h1, h2, rfl⟩
    · have fin : wpY_append (fun r' v' => r' = -1 ∧ i_Rel k (f_n, f_isPacked, f_runCount, f_nodes, f_codeSum, a_letters, a_countOf, a_sorted, a_parted, a_rowBits, a_wordSum, a_byteSum, a_zerosOf, a_lowWidth, a_firstPlace, a_lowPart, a_highBits, a_blockClass, a_blockNumber, a_blockSum, a_choices, a_runStart, a_runLetter, a_runBefore, a_runSame, a_lastRun, a_nodeLeft, a_nodeRight, a_weight, a_joined, a_codeLength, a_codeBits) v') (f_size, a_list, a_sorts) (nI c) v2 := by
        unfold wpY_append
        exact zy_let1 hc (br_f (by decide) (zy_many0 h (br_t rfl ⟨rfl, rel⟩)))
      rcases h with h | ⟨h, h'⟩
      · exact br_t h fin
      · exact br_f h (br_f h' fin)
    · refine pk_lt t 1 (fun h => absurd h (by omega)) (fun _ => pk_le t 200 (fun _ => ?_) (fun h => absurd h (by omega)))
      rw [H.2.2.1, nI_add]
      refine pk_le (n + t) 200 (fun h => ⟨t + 1, zx_apl hc h (fun le hle => ?_) t 0 (by omega) a_letters H.2.2.2⟩) (fun h => ?_)
      · unfold wpY_append
        refine zy_let1 hc (br_f (by decide) (zy_many1 h1 h2 (br_f (by decide) ?_)))
        rw [HY.2.2.1, nI_add]
        exact pk_le (n + t) 200 (fun _ => ⟨t + 1, zy_apl hc h (fun le' hle' => ⟨rfl, zz_in ⟨h, zz_ap8 H.2.1 n hc t, rfl, hle⟩ HC (Or.inl rfl) ⟨h, zz_ap8 H.2.1 n hc t, rfl, hle'⟩⟩) t 0 (by omega) a_list HY.2.2.2⟩) (fun h => absurd h (by omega))
      · rw [H.2.2.1] at rel
        unfold wpY_append
        refine zy_let1 hc (br_f (by decide) (zy_many1 h1 h2 (br_f (by decide) ?_)))
        rw [HY.2.2.1, nI_add]
        rw [HY.2.2.1] at rel
        exact pk_le (n + t) 200 (fun h => absurd h (by omega)) (fun _ => ⟨rfl, rel⟩)
theorem zz_vagain {k : Nat} (H : zl_H f_n a_letters n L) (HC : zk_C a_choices) (hp : f_isPacked = 0 ∨ (f_isPacked = 1 ∧ zz_P n L (f_n, f_isPacked, f_runCount, f_nodes, f_codeSum, a_letters, a_countOf, a_sorted, a_parted, a_rowBits, a_wordSum, a_byteSum, a_zerosOf, a_lowWidth, a_firstPlace, a_lowPart, a_highBits, a_blockClass, a_blockNumber, a_blockSum, a_choices, a_runStart, a_runLetter, a_runBefore, a_runSame, a_lastRun, a_nodeLeft, a_nodeRight, a_weight, a_joined, a_codeLength, a_codeBits))) (HY : zy_H f_size a_list n L) (v1 v2 : Int32) : wpX_again (fun r u' => wpY_again (fun r' v' => r' = r ∧ i_Rel k u' v') (f_size, a_list, a_sorts) v1 v2) (f_n, f_isPacked, f_runCount, f_nodes, f_codeSum, a_letters, a_countOf, a_sorted, a_parted, a_rowBits, a_wordSum, a_byteSum, a_zerosOf, a_lowWidth, a_firstPlace, a_lowPart, a_highBits, a_blockClass, a_blockNumber, a_blockSum, a_choices, a_runStart, a_runLetter, a_runBefore, a_runSame, a_lastRun, a_nodeLeft, a_nodeRight, a_weight, a_joined, a_codeLength, a_codeBits) v1 v2 := by
  have rel := zz_in (k := k) (f_n := f_n) (f_isPacked := f_isPacked) (f_runCount := f_runCount) (f_nodes := f_nodes) (f_codeSum := f_codeSum) (a_letters := a_letters) (a_countOf := a_countOf) (a_sorted := a_sorted) (a_parted := a_parted) (a_rowBits := a_rowBits) (a_wordSum := a_wordSum) (a_byteSum := a_byteSum) (a_zerosOf := a_zerosOf) (a_lowWidth := a_lowWidth) (a_firstPlace := a_firstPlace) (a_lowPart := a_lowPart) (a_highBits := a_highBits) (a_blockClass := a_blockClass) (a_blockNumber := a_blockNumber) (a_blockSum := a_blockSum) (a_choices := a_choices) (a_runStart := a_runStart) (a_runLetter := a_runLetter) (a_runBefore := a_runBefore) (a_runSame := a_runSame) (a_lastRun := a_lastRun) (a_nodeLeft := a_nodeLeft) (a_nodeRight := a_nodeRight) (a_weight := a_weight) (a_joined := a_joined) (a_codeLength := a_codeLength) (a_codeBits := a_codeBits) (a_sorts := a_sorts) H HC hp HY
  have hn := H.1
  by_cases g1 : v1 < 1
  · exact br_t g1 (br_t g1 ⟨rfl, rel⟩)
  · have g0 : ¬ v1 < 0 := fun h => g1 (Int32.lt_of_lt_of_le h (by decide))
    obtain ⟨b, hb, rfl⟩ := nI_of g0
    have hb1 : 0 < b := by
      rcases Nat.decEq b 0 with z | z
      · omega
      · rw [z] at g1; exact absurd (by decide) g1
    refine br_f g1 (pk_lt n b (fun h => br_f g1 (pk_lt n b (fun _ => ⟨rfl, rel⟩) (fun h' => absurd h' (by omega)) HY.2.2.1 rfl)) (fun g2 => ?_) H.2.2.1 rfl)
    rcases zx_many v2 with h | ⟨t, h1, h2, rfl⟩
    · have fin : wpY_again (fun r' v' => r' = -1 ∧ i_Rel k (f_n, f_isPacked, f_runCount, f_nodes, f_codeSum, a_letters, a_countOf, a_sorted, a_parted, a_rowBits, a_wordSum, a_byteSum, a_zerosOf, a_lowWidth, a_firstPlace, a_lowPart, a_highBits, a_blockClass, a_blockNumber, a_blockSum, a_choices, a_runStart, a_runLetter, a_runBefore, a_runSame, a_lastRun, a_nodeLeft, a_nodeRight, a_weight, a_joined, a_codeLength, a_codeBits) v') (f_size, a_list, a_sorts) (nI b) v2 := br_f g1 (pk_lt n b (fun h' => absurd h' (by omega)) (fun _ => zy_many0 h (br_t rfl ⟨rfl, rel⟩)) HY.2.2.1 rfl)
      rcases h with h | ⟨h, h'⟩
      · exact br_t h fin
      · exact br_f h (br_f h' fin)
    · refine pk_lt t 1 (fun h => absurd h (by omega)) (fun _ => pk_le t 200 (fun _ => ?_) (fun h => absurd h (by omega)))
      rw [H.2.2.1, nI_add]
      refine pk_le (n + t) 200 (fun h => ⟨t + 1, zx_agl H.2.1 g2 hb1 h (fun le hle => ?_) t 0 (by omega) a_letters H.2.2.2⟩) (fun h => ?_)
      · refine br_f g1 (pk_lt n b (fun h' => absurd h' (by omega)) (fun _ => zy_many1 h1 h2 (br_f (by decide) ?_)) HY.2.2.1 rfl)
        rw [HY.2.2.1, nI_add]
        exact pk_le (n + t) 200 (fun _ => ⟨t + 1, zy_agl g2 hb1 h (fun le' hle' => ⟨rfl, zz_in ⟨h, zz_ag8 H.2.1 n b t, rfl, hle⟩ HC (Or.inl rfl) ⟨h, zz_ag8 H.2.1 n b t, rfl, hle'⟩⟩) t 0 (by omega) a_list HY.2.2.2⟩) (fun h => absurd h (by omega))
      · rw [H.2.2.1] at rel
        refine br_f g1 (pk_lt n b (fun h' => absurd h' (by omega)) (fun _ => zy_many1 h1 h2 (br_f (by decide) ?_)) HY.2.2.1 rfl)
        rw [HY.2.2.1, nI_add]
        rw [HY.2.2.1] at rel
        exact pk_le (n + t) 200 (fun h => absurd h (by omega)) (fun _ => ⟨rfl, rel⟩)
theorem zy_pl0 {post : Int32 → Prop} (hf : f_size = nI n) {x : Int32} (h : x < 0 ∨ nI n ≤ x) (k : post 0) : wpY_place post (f_size, a_list, a_sorts) x := by
  by_cases h0 : x < 0
  · exact br_t h0 k
  · exact br_f h0 (br_t (by rw [hf]; exact h.resolve_left h0) k)
theorem zy_pl1 {post : Int32 → Prop} (hn : n ≤ 200) (hf : f_size = nI n) {i : Nat} (h : i < n) (k : post 1) : wpY_place post (f_size, a_list, a_sorts) (nI i) := br_f (nI_pos (by omega)) (pk_le n i (fun h => absurd h (by omega)) (fun _ => k) hf rfl)
theorem zz_vchange {k : Nat} (H : zl_H f_n a_letters n L) (HC : zk_C a_choices) (hp : f_isPacked = 0 ∨ (f_isPacked = 1 ∧ zz_P n L (f_n, f_isPacked, f_runCount, f_nodes, f_codeSum, a_letters, a_countOf, a_sorted, a_parted, a_rowBits, a_wordSum, a_byteSum, a_zerosOf, a_lowWidth, a_firstPlace, a_lowPart, a_highBits, a_blockClass, a_blockNumber, a_blockSum, a_choices, a_runStart, a_runLetter, a_runBefore, a_runSame, a_lastRun, a_nodeLeft, a_nodeRight, a_weight, a_joined, a_codeLength, a_codeBits))) (HY : zy_H f_size a_list n L) (v1 v2 : Int32) : wpX_change (fun r u' => wpY_change (fun r' v' => r' = r ∧ i_Rel k u' v') (f_size, a_list, a_sorts) v1 v2) (f_n, f_isPacked, f_runCount, f_nodes, f_codeSum, a_letters, a_countOf, a_sorted, a_parted, a_rowBits, a_wordSum, a_byteSum, a_zerosOf, a_lowWidth, a_firstPlace, a_lowPart, a_highBits, a_blockClass, a_blockNumber, a_blockSum, a_choices, a_runStart, a_runLetter, a_runBefore, a_runSame, a_lastRun, a_nodeLeft, a_nodeRight, a_weight, a_joined, a_codeLength, a_codeBits) v1 v2 := by
  have rel := zz_in (k := k) (f_n := f_n) (f_isPacked := f_isPacked) (f_runCount := f_runCount) (f_nodes := f_nodes) (f_codeSum := f_codeSum) (a_letters := a_letters) (a_countOf := a_countOf) (a_sorted := a_sorted) (a_parted := a_parted) (a_rowBits := a_rowBits) (a_wordSum := a_wordSum) (a_byteSum := a_byteSum) (a_zerosOf := a_zerosOf) (a_lowWidth := a_lowWidth) (a_firstPlace := a_firstPlace) (a_lowPart := a_lowPart) (a_highBits := a_highBits) (a_blockClass := a_blockClass) (a_blockNumber := a_blockNumber) (a_blockSum := a_blockSum) (a_choices := a_choices) (a_runStart := a_runStart) (a_runLetter := a_runLetter) (a_runBefore := a_runBefore) (a_runSame := a_runSame) (a_lastRun := a_lastRun) (a_nodeLeft := a_nodeLeft) (a_nodeRight := a_nodeRight) (a_weight := a_weight) (a_joined := a_joined) (a_codeLength := a_codeLength) (a_codeBits := a_codeBits) (a_sorts := a_sorts) H HC hp HY
  have hn := H.1
  rcases zx_3 v1 (M := n) (by omega) with h | ⟨i, hi, rfl⟩
  · have fin : wpY_change (fun r' v' => r' = -1 ∧ i_Rel k (f_n, f_isPacked, f_runCount, f_nodes, f_codeSum, a_letters, a_countOf, a_sorted, a_parted, a_rowBits, a_wordSum, a_byteSum, a_zerosOf, a_lowWidth, a_firstPlace, a_lowPart, a_highBits, a_blockClass, a_blockNumber, a_blockSum, a_choices, a_runStart, a_runLetter, a_runBefore, a_runSame, a_lastRun, a_nodeLeft, a_nodeRight, a_weight, a_joined, a_codeLength, a_codeBits) v') (f_size, a_list, a_sorts) v1 v2 := by
      unfold wpY_change
      exact zy_pl0 HY.2.2.1 h (br_t rfl ⟨rfl, rel⟩)
    by_cases h0 : v1 < 0
    · exact br_t h0 fin
    · exact br_f h0 (br_t (by rw [H.2.2.1]; exact h.resolve_left h0) fin)
  · refine br_f (nI_pos (by omega)) (pk_le n i (fun h => absurd h (by omega)) (fun _ => ?_) H.2.2.1 rfl)
    rcases zx_3 v2 (M := 8) (by omega) with h | ⟨c, hc, rfl⟩
    · refine zx_let0 h (br_t rfl ?_)
      unfold wpY_change
      exact zy_pl1 hn HY.2.2.1 hi (br_f (by decide) (zy_let0 h (br_t rfl ⟨rfl, rel⟩)))
    · have vi : vp_in (nI i) 200 := vp_in_nI (by omega) (by omega)
      have h8 : ∀ q, zq_st L i c q < 8 := fun q => by
        rcases Nat.decEq q i with z | z
        · rw [zq_st_n _ z]; exact H.2.1 q
        · rw [z, zq_st_s]; exact hc
      refine zx_let1 hc (br_f (by decide) (And.intro vi (nm_r (e' := nI (L i)) (by rw [nI_clamp (by omega)]; exact H.2.2.2 i) (And.intro vi (nm_r (e' := upd a_letters i (nI c)) (by rw [nI_clamp (by omega), zn_vbb (by omega)]) ?_)))))
      unfold wpY_change
      exact zy_pl1 hn HY.2.2.1 hi (br_f (by decide) (zy_let1 hc (br_f (by decide) (And.intro vi (nm_r (e' := nI (L i)) (by rw [nI_clamp (by omega)]; exact HY.2.2.2 i) (And.intro vi (nm_r (e' := upd a_list i (nI c)) (by rw [nI_clamp (by omega)]) ⟨rfl, zz_in ⟨hn, h8, H.2.2.1, zz_put H.2.2.2 i c⟩ HC (Or.inl rfl) ⟨hn, h8, HY.2.2.1, zz_put HY.2.2.2 i c⟩⟩)))))))
theorem zz_vcut {k : Nat} (H : zl_H f_n a_letters n L) (HC : zk_C a_choices) (hp : f_isPacked = 0 ∨ (f_isPacked = 1 ∧ zz_P n L (f_n, f_isPacked, f_runCount, f_nodes, f_codeSum, a_letters, a_countOf, a_sorted, a_parted, a_rowBits, a_wordSum, a_byteSum, a_zerosOf, a_lowWidth, a_firstPlace, a_lowPart, a_highBits, a_blockClass, a_blockNumber, a_blockSum, a_choices, a_runStart, a_runLetter, a_runBefore, a_runSame, a_lastRun, a_nodeLeft, a_nodeRight, a_weight, a_joined, a_codeLength, a_codeBits))) (HY : zy_H f_size a_list n L) (v1 : Int32) : wpX_cut (fun r u' => wpY_cut (fun r' v' => r' = r ∧ i_Rel k u' v') (f_size, a_list, a_sorts) v1) (f_n, f_isPacked, f_runCount, f_nodes, f_codeSum, a_letters, a_countOf, a_sorted, a_parted, a_rowBits, a_wordSum, a_byteSum, a_zerosOf, a_lowWidth, a_firstPlace, a_lowPart, a_highBits, a_blockClass, a_blockNumber, a_blockSum, a_choices, a_runStart, a_runLetter, a_runBefore, a_runSame, a_lastRun, a_nodeLeft, a_nodeRight, a_weight, a_joined, a_codeLength, a_codeBits) v1 := by
  have rel := zz_in (k := k) (f_n := f_n) (f_isPacked := f_isPacked) (f_runCount := f_runCount) (f_nodes := f_nodes) (f_codeSum := f_codeSum) (a_letters := a_letters) (a_countOf := a_countOf) (a_sorted := a_sorted) (a_parted := a_parted) (a_rowBits := a_rowBits) (a_wordSum := a_wordSum) (a_byteSum := a_byteSum) (a_zerosOf := a_zerosOf) (a_lowWidth := a_lowWidth) (a_firstPlace := a_firstPlace) (a_lowPart := a_lowPart) (a_highBits := a_highBits) (a_blockClass := a_blockClass) (a_blockNumber := a_blockNumber) (a_blockSum := a_blockSum) (a_choices := a_choices) (a_runStart := a_runStart) (a_runLetter := a_runLetter) (a_runBefore := a_runBefore) (a_runSame := a_runSame) (a_lastRun := a_lastRun) (a_nodeLeft := a_nodeLeft) (a_nodeRight := a_nodeRight) (a_weight := a_weight) (a_joined := a_joined) (a_codeLength := a_codeLength) (a_codeBits := a_codeBits) (a_sorts := a_sorts) H HC hp HY
  have hn := H.1
  have cutR : ∀ m, m ≤ n → i_Rel k (nI m, 0, f_runCount, f_nodes, f_codeSum, a_letters, a_countOf, a_sorted, a_parted, a_rowBits, a_wordSum, a_byteSum, a_zerosOf, a_lowWidth, a_firstPlace, a_lowPart, a_highBits, a_blockClass, a_blockNumber, a_blockSum, a_choices, a_runStart, a_runLetter, a_runBefore, a_runSame, a_lastRun, a_nodeLeft, a_nodeRight, a_weight, a_joined, a_codeLength, a_codeBits) (nI m, a_list, a_sorts) := fun m hm => zz_in (n := m) ⟨by omega, H.2.1, rfl, H.2.2.2⟩ HC (Or.inl rfl) ⟨by omega, H.2.1, rfl, HY.2.2.2⟩
  by_cases g0 : v1 < 0
  · exact br_t g0 (br_t g0 ⟨rfl, rel⟩)
  · obtain ⟨q, hq, rfl⟩ := nI_of g0
    refine br_f g0 (pk_le q 200 (fun h => pk_le q n (fun h' => nm_r (e' := nI (n - q)) (by rw [H.2.2.1]; exact pk_sub h') ?_) (fun h' => ?_) rfl H.2.2.1) (fun h => br_f g0 (pk_le q 200 (fun h' => absurd h' (by omega)) (fun _ => ⟨rfl, rel⟩))))
    · refine br_f g0 (pk_le q 200 (fun _ => pk_le n q (fun w => ?_) (fun w => nm_r (e' := nI (n - q)) (by rw [HY.2.2.1]; exact pk_sub h') ⟨rfl, cutR (n - q) (by omega)⟩) HY.2.2.1 rfl) (fun h'' => absurd h (by omega)))
      have e : n - q = 0 := by omega
      rw [e]
      exact ⟨rfl, cutR 0 (by omega)⟩
    · exact br_f g0 (pk_le q 200 (fun _ => pk_le n q (fun w => ⟨rfl, cutR 0 (by omega)⟩) (fun w => absurd w (by omega)) HY.2.2.1 rfl) (fun h'' => absurd h (by omega)))
end
end
section
/-! the answers of both sides -/
section
variable {f_n f_isPacked f_runCount f_nodes f_codeSum : Int32} {a_letters a_countOf a_sorted a_parted a_rowBits a_wordSum a_byteSum a_zerosOf a_lowWidth a_firstPlace a_lowPart a_highBits a_blockClass a_blockNumber a_blockSum a_choices a_runStart a_runLetter a_runBefore a_runSame a_lastRun a_nodeLeft a_nodeRight a_weight a_joined a_codeLength a_codeBits : Nat → Int32} {f_size : Int32} {a_list a_sorts : Nat → Int32} {n : Nat} {L : Nat → Nat} {k : Nat}
theorem zz_vat (H : zl_H f_n a_letters n L) (HC : zk_C a_choices) (hp : f_isPacked = 0 ∨ (f_isPacked = 1 ∧ zz_P n L (f_n, f_isPacked, f_runCount, f_nodes, f_codeSum, a_letters, a_countOf, a_sorted, a_parted, a_rowBits, a_wordSum, a_byteSum, a_zerosOf, a_lowWidth, a_firstPlace, a_lowPart, a_highBits, a_blockClass, a_blockNumber, a_blockSum, a_choices, a_runStart, a_runLetter, a_runBefore, a_runSame, a_lastRun, a_nodeLeft, a_nodeRight, a_weight, a_joined, a_codeLength, a_codeBits))) (HY : zy_H f_size a_list n L) (v1 v2 : Int32) : wpX_at (fun r u' => wpY_at (fun r' => r' = r ∧ i_Rel k u' (f_size, a_list, a_sorts)) (f_size, a_list, a_sorts) v1 v2) (f_n, f_isPacked, f_runCount, f_nodes, f_codeSum, a_letters, a_countOf, a_sorted, a_parted, a_rowBits, a_wordSum, a_byteSum, a_zerosOf, a_lowWidth, a_firstPlace, a_lowPart, a_highBits, a_blockClass, a_blockNumber, a_blockSum, a_choices, a_runStart, a_runLetter, a_runBefore, a_runSame, a_lastRun, a_nodeLeft, a_nodeRight, a_weight, a_joined, a_codeLength, a_codeBits) v1 v2 := by
  have rel := zz_in (k := k) (f_n := f_n) (f_isPacked := f_isPacked) (f_runCount := f_runCount) (f_nodes := f_nodes) (f_codeSum := f_codeSum) (a_letters := a_letters) (a_countOf := a_countOf) (a_sorted := a_sorted) (a_parted := a_parted) (a_rowBits := a_rowBits) (a_wordSum := a_wordSum) (a_byteSum := a_byteSum) (a_zerosOf := a_zerosOf) (a_lowWidth := a_lowWidth) (a_firstPlace := a_firstPlace) (a_lowPart := a_lowPart) (a_highBits := a_highBits) (a_blockClass := a_blockClass) (a_blockNumber := a_blockNumber) (a_blockSum := a_blockSum) (a_choices := a_choices) (a_runStart := a_runStart) (a_runLetter := a_runLetter) (a_runBefore := a_runBefore) (a_runSame := a_runSame) (a_lastRun := a_lastRun) (a_nodeLeft := a_nodeLeft) (a_nodeRight := a_nodeRight) (a_weight := a_weight) (a_joined := a_joined) (a_codeLength := a_codeLength) (a_codeBits := a_codeBits) (a_sorts := a_sorts) H HC hp HY
  have hn := H.1
  unfold wpX_at
  rcases zx_3 v1 (M := 7) (by omega) with h | ⟨e, he, rfl⟩
  · refine zx_eng0 h (br_t rfl ?_)
    unfold wpY_at
    exact zy_eng0 h (br_t rfl ⟨rfl, rel⟩)
  · refine zx_eng1 he (br_f (by decide) ?_)
    rcases zx_3 v2 (M := n) (by omega) with h | ⟨i, hi, rfl⟩
    · have fin : wpY_at (fun r' => r' = -1 ∧ i_Rel k (f_n, f_isPacked, f_runCount, f_nodes, f_codeSum, a_letters, a_countOf, a_sorted, a_parted, a_rowBits, a_wordSum, a_byteSum, a_zerosOf, a_lowWidth, a_firstPlace, a_lowPart, a_highBits, a_blockClass, a_blockNumber, a_blockSum, a_choices, a_runStart, a_runLetter, a_runBefore, a_runSame, a_lastRun, a_nodeLeft, a_nodeRight, a_weight, a_joined, a_codeLength, a_codeBits) (f_size, a_list, a_sorts)) (f_size, a_list, a_sorts) (nI e) v2 := by
        unfold wpY_at
        exact zy_eng1 he (br_f (by decide) (zy_pl0 HY.2.2.1 h (br_t rfl ⟨rfl, rel⟩)))
      by_cases h0 : v2 < 0
      · exact br_t h0 fin
      · exact br_f h0 (br_f (fun h' => by rw [H.2.2.1] at h'; exact Int32.lt_irrefl (Int32.lt_of_lt_of_le h' (h.resolve_left h0))) fin)
    · refine br_f (nI_pos (by omega)) (pk_lt i n (fun _ => zz_pack H HC hp ?_) (fun h => absurd h (by omega)) rfl H.2.2.1)
      intros
      rename_i hP
      refine zz_atBy H HC hP he hi ?_
      unfold wpY_at
      refine zy_eng1 he (br_f (by decide) (zy_pl1 hn HY.2.2.1 hi (br_f (by decide) (And.intro (vp_in_nI (by omega) (by omega)) ⟨?_, zz_in H HC (Or.inr ⟨rfl, hP⟩) HY⟩))))
      rw [nI_clamp (by omega)]
      exact HY.2.2.2 i
theorem zz_vrank (H : zl_H f_n a_letters n L) (HC : zk_C a_choices) (hp : f_isPacked = 0 ∨ (f_isPacked = 1 ∧ zz_P n L (f_n, f_isPacked, f_runCount, f_nodes, f_codeSum, a_letters, a_countOf, a_sorted, a_parted, a_rowBits, a_wordSum, a_byteSum, a_zerosOf, a_lowWidth, a_firstPlace, a_lowPart, a_highBits, a_blockClass, a_blockNumber, a_blockSum, a_choices, a_runStart, a_runLetter, a_runBefore, a_runSame, a_lastRun, a_nodeLeft, a_nodeRight, a_weight, a_joined, a_codeLength, a_codeBits))) (HY : zy_H f_size a_list n L) (v1 v2 v3 : Int32) : wpX_rank (fun r u' => wpY_rank (fun r' => r' = r ∧ i_Rel k u' (f_size, a_list, a_sorts)) (f_size, a_list, a_sorts) v1 v2 v3) (f_n, f_isPacked, f_runCount, f_nodes, f_codeSum, a_letters, a_countOf, a_sorted, a_parted, a_rowBits, a_wordSum, a_byteSum, a_zerosOf, a_lowWidth, a_firstPlace, a_lowPart, a_highBits, a_blockClass, a_blockNumber, a_blockSum, a_choices, a_runStart, a_runLetter, a_runBefore, a_runSame, a_lastRun, a_nodeLeft, a_nodeRight, a_weight, a_joined, a_codeLength, a_codeBits) v1 v2 v3 := by
  have rel := zz_in (k := k) (f_n := f_n) (f_isPacked := f_isPacked) (f_runCount := f_runCount) (f_nodes := f_nodes) (f_codeSum := f_codeSum) (a_letters := a_letters) (a_countOf := a_countOf) (a_sorted := a_sorted) (a_parted := a_parted) (a_rowBits := a_rowBits) (a_wordSum := a_wordSum) (a_byteSum := a_byteSum) (a_zerosOf := a_zerosOf) (a_lowWidth := a_lowWidth) (a_firstPlace := a_firstPlace) (a_lowPart := a_lowPart) (a_highBits := a_highBits) (a_blockClass := a_blockClass) (a_blockNumber := a_blockNumber) (a_blockSum := a_blockSum) (a_choices := a_choices) (a_runStart := a_runStart) (a_runLetter := a_runLetter) (a_runBefore := a_runBefore) (a_runSame := a_runSame) (a_lastRun := a_lastRun) (a_nodeLeft := a_nodeLeft) (a_nodeRight := a_nodeRight) (a_weight := a_weight) (a_joined := a_joined) (a_codeLength := a_codeLength) (a_codeBits := a_codeBits) (a_sorts := a_sorts) H HC hp HY
  have hn := H.1
  unfold wpX_rank
  rcases zx_3 v1 (M := 7) (by omega) with h | ⟨e, he, rfl⟩
  · refine zx_eng0 h (br_t rfl ?_)
    unfold wpY_rank
    exact zy_eng0 h (br_t rfl ⟨rfl, rel⟩)
  refine zx_eng1 he (br_f (by decide) ?_)
  rcases zx_3 v2 (M := 8) (by omega) with h | ⟨c, hc, rfl⟩
  · refine zx_let0 h (br_t rfl ?_)
    unfold wpY_rank
    exact zy_eng1 he (br_f (by decide) (zy_let0 h (br_t rfl ⟨rfl, rel⟩)))
  refine zx_let1 hc (br_f (by decide) ?_)
  rcases zx_r 0 v3 (n := n) (by omega) with ⟨i, j, hij, hj, e1, rfl⟩ | h
  · refine br_f (nI_pos (by omega)) (pk_le j n (fun _ => zz_pack H HC hp ?_) (fun h => absurd h (by omega)) rfl H.2.2.1)
    intros
    rename_i hP
    refine zz_rankBy H HC hP he hc hj rfl rfl rfl ?_
    unfold wpY_rank
    exact zy_eng1 he (br_f (by decide) (zy_let1 hc (br_f (by decide) (zy_rng1 (i := 0) hn HY.2.2.1 (Nat.zero_le _) hj rfl rfl (br_f (by decide) (zy_often HY (l := c) (i := 0) (by omega) (Nat.zero_le _) hj rfl rfl rfl ⟨rfl, zz_in H HC (Or.inr ⟨rfl, hP⟩) HY⟩))))))
  · have fin : wpY_rank (fun r' => r' = -1 ∧ i_Rel k (f_n, f_isPacked, f_runCount, f_nodes, f_codeSum, a_letters, a_countOf, a_sorted, a_parted, a_rowBits, a_wordSum, a_byteSum, a_zerosOf, a_lowWidth, a_firstPlace, a_lowPart, a_highBits, a_blockClass, a_blockNumber, a_blockSum, a_choices, a_runStart, a_runLetter, a_runBefore, a_runSame, a_lastRun, a_nodeLeft, a_nodeRight, a_weight, a_joined, a_codeLength, a_codeBits) (f_size, a_list, a_sorts)) (f_size, a_list, a_sorts) (nI e) (nI c) v3 := by
      unfold wpY_rank
      exact zy_eng1 he (br_f (by decide) (zy_let1 hc (br_f (by decide) (zy_rng0 HY.2.2.1 h (br_t rfl ⟨rfl, rel⟩)))))
    rcases h with h | ⟨-, h⟩ | ⟨-, h, h'⟩
    · exact absurd h (by decide)
    · exact br_t h fin
    · exact br_f h (br_f (fun w => by rw [H.2.2.1] at w; exact Int32.lt_irrefl (Int32.lt_of_lt_of_le h' w)) fin)
theorem zl_nI (hL : ∀ i, L i < 8) {c : Nat} (hc : c < 8) : (fun i => decide (nI (L i) = nI c)) = zl_c L c := by
  funext i
  have := hL i
  exact decide_eq_decide.mpr (nI_eq (by omega) (by omega))
theorem zz_vselect (H : zl_H f_n a_letters n L) (HC : zk_C a_choices) (hp : f_isPacked = 0 ∨ (f_isPacked = 1 ∧ zz_P n L (f_n, f_isPacked, f_runCount, f_nodes, f_codeSum, a_letters, a_countOf, a_sorted, a_parted, a_rowBits, a_wordSum, a_byteSum, a_zerosOf, a_lowWidth, a_firstPlace, a_lowPart, a_highBits, a_blockClass, a_blockNumber, a_blockSum, a_choices, a_runStart, a_runLetter, a_runBefore, a_runSame, a_lastRun, a_nodeLeft, a_nodeRight, a_weight, a_joined, a_codeLength, a_codeBits))) (HY : zy_H f_size a_list n L) (v1 v2 v3 : Int32) : wpX_select (fun r u' => wpY_select (fun r' => r' = r ∧ i_Rel k u' (f_size, a_list, a_sorts)) (f_size, a_list, a_sorts) v1 v2 v3) (f_n, f_isPacked, f_runCount, f_nodes, f_codeSum, a_letters, a_countOf, a_sorted, a_parted, a_rowBits, a_wordSum, a_byteSum, a_zerosOf, a_lowWidth, a_firstPlace, a_lowPart, a_highBits, a_blockClass, a_blockNumber, a_blockSum, a_choices, a_runStart, a_runLetter, a_runBefore, a_runSame, a_lastRun, a_nodeLeft, a_nodeRight, a_weight, a_joined, a_codeLength, a_codeBits) v1 v2 v3 := by
  have hn := H.1
  unfold wpX_select
  refine zz_pack H HC hp ?_
  intro f_runCount f_nodes f_codeSum a_countOf a_sorted a_parted a_rowBits a_wordSum a_byteSum a_zerosOf a_lowWidth a_firstPlace a_lowPart a_highBits a_blockClass a_blockNumber a_blockSum a_runStart a_runLetter a_runBefore a_runSame a_lastRun a_nodeLeft a_nodeRight a_weight a_joined a_codeLength a_codeBits hP
  have rel := zz_in (k := k) (f_n := f_n) (f_isPacked := 1) (f_runCount := f_runCount) (f_nodes := f_nodes) (f_codeSum := f_codeSum) (a_letters := a_letters) (a_countOf := a_countOf) (a_sorted := a_sorted) (a_parted := a_parted) (a_rowBits := a_rowBits) (a_wordSum := a_wordSum) (a_byteSum := a_byteSum) (a_zerosOf := a_zerosOf) (a_lowWidth := a_lowWidth) (a_firstPlace := a_firstPlace) (a_lowPart := a_lowPart) (a_highBits := a_highBits) (a_blockClass := a_blockClass) (a_blockNumber := a_blockNumber) (a_blockSum := a_blockSum) (a_choices := a_choices) (a_runStart := a_runStart) (a_runLetter := a_runLetter) (a_runBefore := a_runBefore) (a_runSame := a_runSame) (a_lastRun := a_lastRun) (a_nodeLeft := a_nodeLeft) (a_nodeRight := a_nodeRight) (a_weight := a_weight) (a_joined := a_joined) (a_codeLength := a_codeLength) (a_codeBits := a_codeBits) (a_sorts := a_sorts) H HC (Or.inr ⟨rfl, hP⟩) HY
  rcases zx_3 v1 (M := 7) (by omega) with h | ⟨e, he, rfl⟩
  · refine zx_eng0 h (br_t rfl ⟨1, ?_⟩)
    exact br_c (fun _ => ⟨rfl, rel⟩) (fun _ => zy_eng0 h (br_t rfl ⟨rfl, rel⟩))
  refine zx_eng1 he (br_f (by decide) ?_)
  rcases zx_3 v2 (M := 8) (by omega) with h | ⟨c, hc, rfl⟩
  · refine zx_let0 h (br_t rfl ⟨n + 1, ?_⟩)
    refine zy_sel0 HY he (fun q hq e => ?_) ⟨rfl, rel⟩ n 0 (by omega)
    have h8 := H.2.1 q
    rcases h with h | h
    · rw [← e] at h; exact absurd h (nI_pos (by omega))
    · rw [← e] at h
      have := (nI_leI (a := 8) (by omega) (by omega)).mp h
      omega
  refine zx_let1 hc (br_f (by decide) ?_)
  have hP' := hP
  obtain ⟨R, h1, h2, h3, h4, h5, h6, h7, h8, h9⟩ := hP'
  have hcl : a_countOf (nI c).toNatClampNeg = nI (zc (zl_c L c) n) := by rw [nI_clamp (by omega)]; exact h9 c hc
  have hle := zc_le (zl_c L c) n
  by_cases hk : v3 < 0
  · refine br_t hk ⟨n + 1, ?_⟩
    refine zy_sel0 HY he (fun q hq _ e => ?_) ⟨rfl, rel⟩ n 0 (by omega)
    have g := zc_le (fun i => decide (nI (L i) = nI c)) q
    rw [← e] at hk
    exact absurd hk (nI_pos (by omega))
  · obtain ⟨K, hK, rfl⟩ := nI_of hk
    refine br_f hk (And.intro (vp_in_nI hc (by omega)) ?_)
    rw [hcl]
    refine pk_lt K (zc (zl_c L c) n) (fun w => ?_) (fun w => ⟨n + 1, ?_⟩)
    · obtain ⟨j, hj, hl, hz⟩ := zc_ex w
      have hl' : L j = c := of_decide_eq_true hl
      subst hl' hz
      have fin : wpY_select (fun r' => r' = nI j ∧ i_Rel k (f_n, 1, f_runCount, f_nodes, f_codeSum, a_letters, a_countOf, a_sorted, a_parted, a_rowBits, a_wordSum, a_byteSum, a_zerosOf, a_lowWidth, a_firstPlace, a_lowPart, a_highBits, a_blockClass, a_blockNumber, a_blockSum, a_choices, a_runStart, a_runLetter, a_runBefore, a_runSame, a_lastRun, a_nodeLeft, a_nodeRight, a_weight, a_joined, a_codeLength, a_codeBits) (f_size, a_list, a_sorts)) (f_size, a_list, a_sorts) (nI e) (nI (L j)) (nI (zc (zl_c L (L j)) j)) := ⟨j + 1, zy_sel1 HY he hj ⟨rfl, rel⟩ j 0 (by omega)⟩
      have he' : e = 1 ∨ e = 2 ∨ e = 3 ∨ e = 5 ∨ (e ≠ 1 ∧ e ≠ 2 ∧ e ≠ 3 ∧ e ≠ 5) := by omega
      rcases he' with rfl | rfl | rfl | rfl | ⟨n1, n2, n3, n5⟩
      · exact br_t rfl (zm_select H h1 h3 hj fin)
      · exact br_f (by decide) (br_t rfl (zb_select H h1 h4 hj fin))
      · exact br_f (by decide) (br_f (by decide) (br_t rfl (zh_select H h6 hj fin)))
      · exact br_f (by decide) (br_f (by decide) (br_f (by decide) (br_t rfl (zq_select H h8 hj fin))))
      · exact pk_eq e 1 (fun z => absurd z n1) (fun _ => pk_eq e 2 (fun z => absurd z n2) (fun _ => pk_eq e 3 (fun z => absurd z n3) (fun _ => pk_eq e 5 (fun z => absurd z n5) (fun _ => zz_sby H HC hP he hj fin))))
    · refine zy_sel0 HY he (fun q hq e1 e2 => ?_) ⟨rfl, rel⟩ n 0 (by omega)
      have g := zc_le (zl_c L c) q
      rw [zl_nI H.2.1 hc, nI_eq (by omega) hK] at e2
      have h8 := H.2.1 q
      have hlt := zc_lt (p := zl_c L c) hq (decide_eq_true ((nI_eq (by omega) (by omega)).mp e1))
      omega
theorem zz_vbelow (H : zl_H f_n a_letters n L) (HC : zk_C a_choices) (hp : f_isPacked = 0 ∨ (f_isPacked = 1 ∧ zz_P n L (f_n, f_isPacked, f_runCount, f_nodes, f_codeSum, a_letters, a_countOf, a_sorted, a_parted, a_rowBits, a_wordSum, a_byteSum, a_zerosOf, a_lowWidth, a_firstPlace, a_lowPart, a_highBits, a_blockClass, a_blockNumber, a_blockSum, a_choices, a_runStart, a_runLetter, a_runBefore, a_runSame, a_lastRun, a_nodeLeft, a_nodeRight, a_weight, a_joined, a_codeLength, a_codeBits))) (HY : zy_H f_size a_list n L) (v1 v2 v3 v4 : Int32) : wpX_below (fun r u' => wpY_below (fun r' => r' = r ∧ i_Rel k u' (f_size, a_list, a_sorts)) (f_size, a_list, a_sorts) v1 v2 v3 v4) (f_n, f_isPacked, f_runCount, f_nodes, f_codeSum, a_letters, a_countOf, a_sorted, a_parted, a_rowBits, a_wordSum, a_byteSum, a_zerosOf, a_lowWidth, a_firstPlace, a_lowPart, a_highBits, a_blockClass, a_blockNumber, a_blockSum, a_choices, a_runStart, a_runLetter, a_runBefore, a_runSame, a_lastRun, a_nodeLeft, a_nodeRight, a_weight, a_joined, a_codeLength, a_codeBits) v1 v2 v3 v4 := by
  have rel := zz_in (k := k) (f_n := f_n) (f_isPacked := f_isPacked) (f_runCount := f_runCount) (f_nodes := f_nodes) (f_codeSum := f_codeSum) (a_letters := a_letters) (a_countOf := a_countOf) (a_sorted := a_sorted) (a_parted := a_parted) (a_rowBits := a_rowBits) (a_wordSum := a_wordSum) (a_byteSum := a_byteSum) (a_zerosOf := a_zerosOf) (a_lowWidth := a_lowWidth) (a_firstPlace := a_firstPlace) (a_lowPart := a_lowPart) (a_highBits := a_highBits) (a_blockClass := a_blockClass) (a_blockNumber := a_blockNumber) (a_blockSum := a_blockSum) (a_choices := a_choices) (a_runStart := a_runStart) (a_runLetter := a_runLetter) (a_runBefore := a_runBefore) (a_runSame := a_runSame) (a_lastRun := a_lastRun) (a_nodeLeft := a_nodeLeft) (a_nodeRight := a_nodeRight) (a_weight := a_weight) (a_joined := a_joined) (a_codeLength := a_codeLength) (a_codeBits := a_codeBits) (a_sorts := a_sorts) H HC hp HY
  have hn := H.1
  unfold wpX_below
  rcases zx_3 v1 (M := 7) (by omega) with h | ⟨e, he, rfl⟩
  · refine zx_eng0 h (br_t rfl ?_)
    unfold wpY_below
    exact zy_eng0 h (br_t rfl ⟨rfl, rel⟩)
  refine zx_eng1 he (br_f (by decide) ?_)
  rcases zx_r v2 v3 (n := n) (by omega) with ⟨i, j, hij, hj, rfl, rfl⟩ | h
  · refine zx_rng1 hn H.2.2.1 hij hj rfl rfl (br_f (by decide) ?_)
    by_cases h0 : v4 < 0
    · refine br_t h0 ?_
      unfold wpY_below
      exact zy_eng1 he (br_f (by decide) (zy_rng1 hn HY.2.2.1 hij hj rfl rfl (br_f (by decide) (br_t h0 ⟨rfl, rel⟩))))
    · obtain ⟨t, ht, rfl⟩ := nI_of h0
      refine br_f h0 (pk_le t 8 (fun h8 => zz_pack H HC hp ?_) (fun h8 => ?_))
      · intros
        rename_i hP
        exact zz_belowBy H HC hP he h8 hij hj rfl (zy_below HY he h8 hij hj rfl ⟨rfl, zz_in H HC (Or.inr ⟨rfl, hP⟩) HY⟩)
      · unfold wpY_below
        exact zy_eng1 he (br_f (by decide) (zy_rng1 hn HY.2.2.1 hij hj rfl rfl (br_f (by decide) (br_f h0 (pk_le t 8 (fun h => absurd h (by omega)) (fun _ => ⟨rfl, rel⟩))))))
  · refine zx_rng0 H.2.2.1 h (br_t rfl ?_)
    unfold wpY_below
    exact zy_eng1 he (br_f (by decide) (zy_rng0 HY.2.2.1 h (br_t rfl ⟨rfl, rel⟩)))
theorem zz_ordT (H : zl_H f_n a_letters n L) {i j K : Nat} (hK : K < j - i) : ∃ t, t < 8 ∧ K < zz_V L i j (t + 1) ∧ ∀ c, c < t → zz_V L i j (c + 1) ≤ K := by
  obtain ⟨t, h1, h2⟩ := pk_least (fun t => K < zz_V L i j (t + 1)) ⟨7, by show K < zz_V L i j 8; rw [zz_V_8 H.2.1]; exact hK⟩
  refine ⟨t, ?_, h1, fun c hc => Nat.not_lt.mp (h2 c hc)⟩
  rcases Nat.lt_or_ge t 8 with z | z
  · exact z
  · exact absurd (show K < zz_V L i j (7 + 1) by show K < zz_V L i j 8; rw [zz_V_8 H.2.1]; exact hK) (h2 7 (by omega))
theorem zz_vordered (H : zl_H f_n a_letters n L) (HC : zk_C a_choices) (hp : f_isPacked = 0 ∨ (f_isPacked = 1 ∧ zz_P n L (f_n, f_isPacked, f_runCount, f_nodes, f_codeSum, a_letters, a_countOf, a_sorted, a_parted, a_rowBits, a_wordSum, a_byteSum, a_zerosOf, a_lowWidth, a_firstPlace, a_lowPart, a_highBits, a_blockClass, a_blockNumber, a_blockSum, a_choices, a_runStart, a_runLetter, a_runBefore, a_runSame, a_lastRun, a_nodeLeft, a_nodeRight, a_weight, a_joined, a_codeLength, a_codeBits))) (HY : zy_H f_size a_list n L) (v1 v2 v3 v4 : Int32) : wpX_ordered (fun r u' => wpY_ordered (fun r' => r' = r ∧ i_Rel k u' (f_size, a_list, a_sorts)) (f_size, a_list, a_sorts) v1 v2 v3 v4) (f_n, f_isPacked, f_runCount, f_nodes, f_codeSum, a_letters, a_countOf, a_sorted, a_parted, a_rowBits, a_wordSum, a_byteSum, a_zerosOf, a_lowWidth, a_firstPlace, a_lowPart, a_highBits, a_blockClass, a_blockNumber, a_blockSum, a_choices, a_runStart, a_runLetter, a_runBefore, a_runSame, a_lastRun, a_nodeLeft, a_nodeRight, a_weight, a_joined, a_codeLength, a_codeBits) v1 v2 v3 v4 := by
  have rel := zz_in (k := k) (f_n := f_n) (f_isPacked := f_isPacked) (f_runCount := f_runCount) (f_nodes := f_nodes) (f_codeSum := f_codeSum) (a_letters := a_letters) (a_countOf := a_countOf) (a_sorted := a_sorted) (a_parted := a_parted) (a_rowBits := a_rowBits) (a_wordSum := a_wordSum) (a_byteSum := a_byteSum) (a_zerosOf := a_zerosOf) (a_lowWidth := a_lowWidth) (a_firstPlace := a_firstPlace) (a_lowPart := a_lowPart) (a_highBits := a_highBits) (a_blockClass := a_blockClass) (a_blockNumber := a_blockNumber) (a_blockSum := a_blockSum) (a_choices := a_choices) (a_runStart := a_runStart) (a_runLetter := a_runLetter) (a_runBefore := a_runBefore) (a_runSame := a_runSame) (a_lastRun := a_lastRun) (a_nodeLeft := a_nodeLeft) (a_nodeRight := a_nodeRight) (a_weight := a_weight) (a_joined := a_joined) (a_codeLength := a_codeLength) (a_codeBits := a_codeBits) (a_sorts := a_sorts) H HC hp HY
  have hn := H.1
  unfold wpX_ordered
  rcases zx_3 v1 (M := 7) (by omega) with h | ⟨e, he, rfl⟩
  · refine zx_eng0 h (br_t rfl ?_)
    unfold wpY_ordered
    exact zy_eng0 h (br_t rfl ⟨rfl, rel⟩)
  refine zx_eng1 he (br_f (by decide) ?_)
  rcases zx_r v2 v3 (n := n) (by omega) with ⟨i, j, hij, hj, rfl, rfl⟩ | h
  · refine zx_rng1 hn H.2.2.1 hij hj rfl rfl (br_f (by decide) ?_)
    by_cases h0 : v4 < 0
    · refine br_t h0 ?_
      unfold wpY_ordered
      exact zy_eng1 he (br_f (by decide) (zy_rng1 hn HY.2.2.1 hij hj rfl rfl (br_f (by decide) (br_t h0 ⟨rfl, rel⟩))))
    · obtain ⟨K, hK, rfl⟩ := nI_of h0
      have e1 : nI j - nI i = nI (j - i) := pk_sub hij
      refine br_f h0 (pk_lt K (j - i) (fun h8 => zz_pack H HC hp ?_) (fun h8 => ?_) rfl e1)
      · intro f_runCount f_nodes f_codeSum a_countOf a_sorted a_parted a_rowBits a_wordSum a_byteSum a_zerosOf a_lowWidth a_firstPlace a_lowPart a_highBits a_blockClass a_blockNumber a_blockSum a_runStart a_runLetter a_runBefore a_runSame a_lastRun a_nodeLeft a_nodeRight a_weight a_joined a_codeLength a_codeBits hP
        obtain ⟨t, t1, t2, t3⟩ := zz_ordT H h8
        have rel1 := zz_in (k := k) (f_n := f_n) (f_isPacked := 1) (f_runCount := f_runCount) (f_nodes := f_nodes) (f_codeSum := f_codeSum) (a_letters := a_letters) (a_countOf := a_countOf) (a_sorted := a_sorted) (a_parted := a_parted) (a_rowBits := a_rowBits) (a_wordSum := a_wordSum) (a_byteSum := a_byteSum) (a_zerosOf := a_zerosOf) (a_lowWidth := a_lowWidth) (a_firstPlace := a_firstPlace) (a_lowPart := a_lowPart) (a_highBits := a_highBits) (a_blockClass := a_blockClass) (a_blockNumber := a_blockNumber) (a_blockSum := a_blockSum) (a_choices := a_choices) (a_runStart := a_runStart) (a_runLetter := a_runLetter) (a_runBefore := a_runBefore) (a_runSame := a_runSame) (a_lastRun := a_lastRun) (a_nodeLeft := a_nodeLeft) (a_nodeRight := a_nodeRight) (a_weight := a_weight) (a_joined := a_joined) (a_codeLength := a_codeLength) (a_codeBits := a_codeBits) (a_sorts := a_sorts) H HC (Or.inr ⟨rfl, hP⟩) HY
        have fin : wpY_ordered (fun r' => r' = nI t ∧ i_Rel k (f_n, 1, f_runCount, f_nodes, f_codeSum, a_letters, a_countOf, a_sorted, a_parted, a_rowBits, a_wordSum, a_byteSum, a_zerosOf, a_lowWidth, a_firstPlace, a_lowPart, a_highBits, a_blockClass, a_blockNumber, a_blockSum, a_choices, a_runStart, a_runLetter, a_runBefore, a_runSame, a_lastRun, a_nodeLeft, a_nodeRight, a_weight, a_joined, a_codeLength, a_codeBits) (f_size, a_list, a_sorts)) (f_size, a_list, a_sorts) (nI e) (nI i) (nI j) (nI K) := by
          unfold wpY_ordered
          exact zy_eng1 he (br_f (by decide) (zy_rng1 hn HY.2.2.1 hij hj rfl rfl (br_f (by decide) (br_f h0 (pk_lt K (j - i) (fun _ => ⟨t + 1, zy_ord HY he hij hj (by omega) t1 t2 t3 ⟨rfl, rel1⟩ t 0 (by omega)⟩) (fun h => absurd h (by omega)) rfl e1)))))
        refine pk_eq e 1 (fun z => ?_) (fun z => ⟨t + 1, zz_ord H HC hP he hij hj (by omega) t1 t2 t3 fin t 0 (by omega)⟩)
        obtain ⟨R, h1, h2, h3, -⟩ := hP
        refine zm_ordered H h1 h3 hij hj h8 (fun c g1 g2 => ?_)
        have w1 : zz_V L i j c ≤ K := by unfold zz_V; omega
        have w2 : K < zz_V L i j (c + 1) := by unfold zz_V; omega
        have ec : c = t := by
          rcases Nat.lt_trichotomy c t with z | z | z
          · have := t3 c z; omega
          · exact z
          · have := zz_V_m L hij (c := t + 1) (c' := c) (by omega); omega
        rw [ec]
        exact fin
      · unfold wpY_ordered
        exact zy_eng1 he (br_f (by decide) (zy_rng1 hn HY.2.2.1 hij hj rfl rfl (br_f (by decide) (br_f h0 (pk_lt K (j - i) (fun h => absurd h (by omega)) (fun _ => ⟨rfl, rel⟩) rfl e1)))))
  · refine zx_rng0 H.2.2.1 h (br_t rfl ?_)
    unfold wpY_ordered
    exact zy_eng1 he (br_f (by decide) (zy_rng0 HY.2.2.1 h (br_t rfl ⟨rfl, rel⟩)))
theorem zz_vmost (H : zl_H f_n a_letters n L) (HC : zk_C a_choices) (hp : f_isPacked = 0 ∨ (f_isPacked = 1 ∧ zz_P n L (f_n, f_isPacked, f_runCount, f_nodes, f_codeSum, a_letters, a_countOf, a_sorted, a_parted, a_rowBits, a_wordSum, a_byteSum, a_zerosOf, a_lowWidth, a_firstPlace, a_lowPart, a_highBits, a_blockClass, a_blockNumber, a_blockSum, a_choices, a_runStart, a_runLetter, a_runBefore, a_runSame, a_lastRun, a_nodeLeft, a_nodeRight, a_weight, a_joined, a_codeLength, a_codeBits))) (HY : zy_H f_size a_list n L) (v1 v2 v3 : Int32) : wpX_most (fun r u' => wpY_most (fun r' => r' = r ∧ i_Rel k u' (f_size, a_list, a_sorts)) (f_size, a_list, a_sorts) v1 v2 v3) (f_n, f_isPacked, f_runCount, f_nodes, f_codeSum, a_letters, a_countOf, a_sorted, a_parted, a_rowBits, a_wordSum, a_byteSum, a_zerosOf, a_lowWidth, a_firstPlace, a_lowPart, a_highBits, a_blockClass, a_blockNumber, a_blockSum, a_choices, a_runStart, a_runLetter, a_runBefore, a_runSame, a_lastRun, a_nodeLeft, a_nodeRight, a_weight, a_joined, a_codeLength, a_codeBits) v1 v2 v3 := by
  have rel := zz_in (k := k) (f_n := f_n) (f_isPacked := f_isPacked) (f_runCount := f_runCount) (f_nodes := f_nodes) (f_codeSum := f_codeSum) (a_letters := a_letters) (a_countOf := a_countOf) (a_sorted := a_sorted) (a_parted := a_parted) (a_rowBits := a_rowBits) (a_wordSum := a_wordSum) (a_byteSum := a_byteSum) (a_zerosOf := a_zerosOf) (a_lowWidth := a_lowWidth) (a_firstPlace := a_firstPlace) (a_lowPart := a_lowPart) (a_highBits := a_highBits) (a_blockClass := a_blockClass) (a_blockNumber := a_blockNumber) (a_blockSum := a_blockSum) (a_choices := a_choices) (a_runStart := a_runStart) (a_runLetter := a_runLetter) (a_runBefore := a_runBefore) (a_runSame := a_runSame) (a_lastRun := a_lastRun) (a_nodeLeft := a_nodeLeft) (a_nodeRight := a_nodeRight) (a_weight := a_weight) (a_joined := a_joined) (a_codeLength := a_codeLength) (a_codeBits := a_codeBits) (a_sorts := a_sorts) H HC hp HY
  have hn := H.1
  unfold wpX_most
  rcases zx_3 v1 (M := 7) (by omega) with h | ⟨e, he, rfl⟩
  · refine zx_eng0 h (br_t rfl ?_)
    unfold wpY_most
    exact zy_eng0 h (br_t rfl ⟨rfl, rel⟩)
  refine zx_eng1 he (br_f (by decide) ?_)
  rcases zx_r v2 v3 (n := n) (by omega) with ⟨i, j, hij, hj, rfl, rfl⟩ | h
  · refine zx_rng1 hn H.2.2.1 hij hj rfl rfl (br_f (by decide) (br_c (fun h0 => ?_) (fun h0 => zz_pack H HC hp ?_)))
    · unfold wpY_most
      exact zy_eng1 he (br_f (by decide) (zy_rng1 hn HY.2.2.1 hij hj rfl rfl (br_f (by decide) (br_t h0 ⟨rfl, rel⟩))))
    · intros
      rename_i hP
      refine ⟨_, zz_most0 H HC hP he hij hj ?_⟩
      unfold wpY_most
      exact zy_eng1 he (br_f (by decide) (zy_rng1 hn HY.2.2.1 hij hj rfl rfl (br_f (by decide) (br_f h0 ⟨7 + 1, zy_most HY hij hj ⟨rfl, zz_in H HC (Or.inr ⟨rfl, hP⟩) HY⟩ 7 0 rfl⟩))))
  · refine zx_rng0 H.2.2.1 h (br_t rfl ?_)
    unfold wpY_most
    exact zy_eng1 he (br_f (by decide) (zy_rng0 HY.2.2.1 h (br_t rfl ⟨rfl, rel⟩)))
theorem zz_vdifferent (H : zl_H f_n a_letters n L) (HC : zk_C a_choices) (hp : f_isPacked = 0 ∨ (f_isPacked = 1 ∧ zz_P n L (f_n, f_isPacked, f_runCount, f_nodes, f_codeSum, a_letters, a_countOf, a_sorted, a_parted, a_rowBits, a_wordSum, a_byteSum, a_zerosOf, a_lowWidth, a_firstPlace, a_lowPart, a_highBits, a_blockClass, a_blockNumber, a_blockSum, a_choices, a_runStart, a_runLetter, a_runBefore, a_runSame, a_lastRun, a_nodeLeft, a_nodeRight, a_weight, a_joined, a_codeLength, a_codeBits))) (HY : zy_H f_size a_list n L) (v1 v2 : Int32) : wpX_different (fun r u' => wpY_different (fun r' => r' = r ∧ i_Rel k u' (f_size, a_list, a_sorts)) (f_size, a_list, a_sorts) v1 v2) (f_n, f_isPacked, f_runCount, f_nodes, f_codeSum, a_letters, a_countOf, a_sorted, a_parted, a_rowBits, a_wordSum, a_byteSum, a_zerosOf, a_lowWidth, a_firstPlace, a_lowPart, a_highBits, a_blockClass, a_blockNumber, a_blockSum, a_choices, a_runStart, a_runLetter, a_runBefore, a_runSame, a_lastRun, a_nodeLeft, a_nodeRight, a_weight, a_joined, a_codeLength, a_codeBits) v1 v2 := by
  have rel := zz_in (k := k) (f_n := f_n) (f_isPacked := f_isPacked) (f_runCount := f_runCount) (f_nodes := f_nodes) (f_codeSum := f_codeSum) (a_letters := a_letters) (a_countOf := a_countOf) (a_sorted := a_sorted) (a_parted := a_parted) (a_rowBits := a_rowBits) (a_wordSum := a_wordSum) (a_byteSum := a_byteSum) (a_zerosOf := a_zerosOf) (a_lowWidth := a_lowWidth) (a_firstPlace := a_firstPlace) (a_lowPart := a_lowPart) (a_highBits := a_highBits) (a_blockClass := a_blockClass) (a_blockNumber := a_blockNumber) (a_blockSum := a_blockSum) (a_choices := a_choices) (a_runStart := a_runStart) (a_runLetter := a_runLetter) (a_runBefore := a_runBefore) (a_runSame := a_runSame) (a_lastRun := a_lastRun) (a_nodeLeft := a_nodeLeft) (a_nodeRight := a_nodeRight) (a_weight := a_weight) (a_joined := a_joined) (a_codeLength := a_codeLength) (a_codeBits := a_codeBits) (a_sorts := a_sorts) H HC hp HY
  have hn := H.1
  unfold wpX_different
  rcases zx_r v1 v2 (n := n) (by omega) with ⟨i, j, hij, hj, rfl, rfl⟩ | h
  · refine zx_rng1 hn H.2.2.1 hij hj rfl rfl (br_f (by decide) (zz_pack H HC hp ?_))
    intros
    rename_i hP
    exact ⟨8 + 1, zz_diff H HC hP hij hj ⟨8 + 1, zy_diff HY hij hj ⟨rfl, zz_in H HC (Or.inr ⟨rfl, hP⟩) HY⟩ 8 0 rfl⟩ 8 0 rfl⟩
  · refine zx_rng0 H.2.2.1 h (br_t rfl ⟨1, br_f (by decide) (zy_rng0 HY.2.2.1 h (br_t rfl (zy_rng0 HY.2.2.1 h (br_t rfl ⟨rfl, rel⟩))))⟩)
theorem zz_vnext (H : zl_H f_n a_letters n L) (HC : zk_C a_choices) (hp : f_isPacked = 0 ∨ (f_isPacked = 1 ∧ zz_P n L (f_n, f_isPacked, f_runCount, f_nodes, f_codeSum, a_letters, a_countOf, a_sorted, a_parted, a_rowBits, a_wordSum, a_byteSum, a_zerosOf, a_lowWidth, a_firstPlace, a_lowPart, a_highBits, a_blockClass, a_blockNumber, a_blockSum, a_choices, a_runStart, a_runLetter, a_runBefore, a_runSame, a_lastRun, a_nodeLeft, a_nodeRight, a_weight, a_joined, a_codeLength, a_codeBits))) (HY : zy_H f_size a_list n L) (v1 v2 : Int32) : wpX_next (fun r u' => wpY_next (fun r' => r' = r ∧ i_Rel k u' (f_size, a_list, a_sorts)) (f_size, a_list, a_sorts) v1 v2) (f_n, f_isPacked, f_runCount, f_nodes, f_codeSum, a_letters, a_countOf, a_sorted, a_parted, a_rowBits, a_wordSum, a_byteSum, a_zerosOf, a_lowWidth, a_firstPlace, a_lowPart, a_highBits, a_blockClass, a_blockNumber, a_blockSum, a_choices, a_runStart, a_runLetter, a_runBefore, a_runSame, a_lastRun, a_nodeLeft, a_nodeRight, a_weight, a_joined, a_codeLength, a_codeBits) v1 v2 := by
  have rel := zz_in (k := k) (f_n := f_n) (f_isPacked := f_isPacked) (f_runCount := f_runCount) (f_nodes := f_nodes) (f_codeSum := f_codeSum) (a_letters := a_letters) (a_countOf := a_countOf) (a_sorted := a_sorted) (a_parted := a_parted) (a_rowBits := a_rowBits) (a_wordSum := a_wordSum) (a_byteSum := a_byteSum) (a_zerosOf := a_zerosOf) (a_lowWidth := a_lowWidth) (a_firstPlace := a_firstPlace) (a_lowPart := a_lowPart) (a_highBits := a_highBits) (a_blockClass := a_blockClass) (a_blockNumber := a_blockNumber) (a_blockSum := a_blockSum) (a_choices := a_choices) (a_runStart := a_runStart) (a_runLetter := a_runLetter) (a_runBefore := a_runBefore) (a_runSame := a_runSame) (a_lastRun := a_lastRun) (a_nodeLeft := a_nodeLeft) (a_nodeRight := a_nodeRight) (a_weight := a_weight) (a_joined := a_joined) (a_codeLength := a_codeLength) (a_codeBits := a_codeBits) (a_sorts := a_sorts) H HC hp HY
  have hn := H.1
  unfold wpX_next
  rcases zx_3 v1 (M := 8) (by omega) with h | ⟨c, hc, rfl⟩
  · refine zx_let0 h (br_t rfl ⟨n + 1, zy_nx0 HY (fun q hq => Or.inr (fun e => ?_)) ⟨rfl, rel⟩ n 0 (by omega)⟩)
    have h8 := H.2.1 q
    rcases h with h | h
    · rw [← e] at h; exact absurd h (nI_pos (by omega))
    · rw [← e] at h
      have := (nI_leI (a := 8) (by omega) (by omega)).mp h
      omega
  refine zx_let1 hc (br_f (by decide) (br_c (fun h2 => zz_pack H HC hp ?_) (fun h2 => ⟨n + 1, zy_nx0 HY (fun q hq => Or.inl ?_) ⟨rfl, rel⟩ n 0 (by omega)⟩)))
  · intro f_runCount f_nodes f_codeSum a_countOf a_sorted a_parted a_rowBits a_wordSum a_byteSum a_zerosOf a_lowWidth a_firstPlace a_lowPart a_highBits a_blockClass a_blockNumber a_blockSum a_runStart a_runLetter a_runBefore a_runSame a_lastRun a_nodeLeft a_nodeRight a_weight a_joined a_codeLength a_codeBits hP
    have rel1 := zz_in (k := k) (f_n := f_n) (f_isPacked := 1) (f_runCount := f_runCount) (f_nodes := f_nodes) (f_codeSum := f_codeSum) (a_letters := a_letters) (a_countOf := a_countOf) (a_sorted := a_sorted) (a_parted := a_parted) (a_rowBits := a_rowBits) (a_wordSum := a_wordSum) (a_byteSum := a_byteSum) (a_zerosOf := a_zerosOf) (a_lowWidth := a_lowWidth) (a_firstPlace := a_firstPlace) (a_lowPart := a_lowPart) (a_highBits := a_highBits) (a_blockClass := a_blockClass) (a_blockNumber := a_blockNumber) (a_blockSum := a_blockSum) (a_choices := a_choices) (a_runStart := a_runStart) (a_runLetter := a_runLetter) (a_runBefore := a_runBefore) (a_runSame := a_runSame) (a_lastRun := a_lastRun) (a_nodeLeft := a_nodeLeft) (a_nodeRight := a_nodeRight) (a_weight := a_weight) (a_joined := a_joined) (a_codeLength := a_codeLength) (a_codeBits := a_codeBits) (a_sorts := a_sorts) H HC (Or.inr ⟨rfl, hP⟩) HY
    have main : ∀ i, i < n → (∀ q, nI q < v2 ∨ i ≤ q ∨ 2 ^ 31 ≤ q) → (∀ q, i ≤ q → q < n → ¬ nI q < v2) → ∀ (z0 : Int32), z0 = nI i → wX_next_33 (fun r u' => wpY_next (fun r' => r' = r ∧ i_Rel k u' (f_size, a_list, a_sorts)) (f_size, a_list, a_sorts) (nI c) v2) (nI c) z0 (nI c) 2 f_n 1 f_runCount f_nodes f_codeSum a_letters a_countOf a_sorted a_parted a_rowBits a_wordSum a_byteSum a_zerosOf a_lowWidth a_firstPlace a_lowPart a_highBits a_blockClass a_blockNumber a_blockSum a_choices a_runStart a_runLetter a_runBefore a_runSame a_lastRun a_nodeLeft a_nodeRight a_weight a_joined a_codeLength a_codeBits := by
      intro i hi g1 g2 z0 hz0
      have hP' := hP
      obtain ⟨R, h1, -, -, h4, h5, h6, h7, h8, h9⟩ := hP'
      have hle := zc_le (zl_c L c) n
      have hle2 := zc_mono (zl_c L c) (Nat.le_of_lt hi)
      refine zz_rankBy H HC hP (e := 2) (by omega) hc (Nat.le_of_lt hi) rfl rfl hz0 (And.intro (vp_in_nI hc (by omega)) ?_)
      rw [nI_clamp (by omega), h9 c hc]
      refine pk_le (zc (zl_c L c) n) (zc (zl_c L c) i) (fun w => ⟨n + 1, zy_nx0 HY (fun q hq => ?_) ⟨rfl, rel1⟩ n 0 (by omega)⟩) (fun w => ?_)
      · rcases g1 q with g | g | g
        · exact Or.inl g
        · refine Or.inr (fun e => ?_)
          have hLq := H.2.1 q
          have hq' : L q = c := (nI_eq (by omega) (by omega)).mp e
          have a1 := zc_lt (p := zl_c L c) hq (decide_eq_true hq')
          have a2 := zc_mono (zl_c L c) g
          omega
        · omega
      · obtain ⟨j, hj, hl, hz⟩ := zc_ex w
        have hl' : L j = c := of_decide_eq_true hl
        subst hl'
        have hij : i ≤ j := zc_leI hl (by omega)
        rw [← hz]
        refine zb_select H h1 h4 hj ⟨j + 1, zy_nx1 HY hj rfl (g2 j hij hj) (fun q hq => ?_) ⟨rfl, rel1⟩ j 0 (by omega)⟩
        rcases g1 q with g | g | g
        · exact Or.inl g
        · refine Or.inr (fun e => ?_)
          have hLq := H.2.1 q
          have hq' : L q = L j := (nI_eq (by omega) (by omega)).mp e
          have a1 := zc_lt (p := zl_c L (L j)) hq (decide_eq_true hq')
          have a2 := zc_mono (zl_c L (L j)) g
          omega
        · omega
    by_cases h0 : 0 ≤ v2
    · obtain ⟨i, hi, rfl⟩ := nI_of (x := v2) (Int32.not_lt.mpr h0)
      rw [H.2.2.1, nI_ltI hi (by omega)] at h2
      refine br_t h0 (main i h2 (fun q => ?_) (fun q g1 g2 => nI_nlt g1 (by omega)) _ rfl)
      rcases Nat.lt_or_ge q i with z | z
      · exact Or.inl (nI_lt z hi)
      · exact Or.inr (Or.inl z)
    · have hneg : v2 < 0 := Int32.not_le.mp h0
      rcases Nat.decEq n 0 with z | z
      · exact br_f h0 (main 0 (by omega) (fun q => Or.inr (Or.inl (Nat.zero_le _))) (fun q _ g2 w => Int32.lt_irrefl (Int32.lt_of_lt_of_le (Int32.lt_trans w hneg) (nI_pos' (by omega)))) 0 rfl)
      · refine br_f h0 ?_
        have hP' := hP
        obtain ⟨R, h1, -, -, h4, h5, h6, h7, h8, h9⟩ := hP'
        refine zz_rankBy H HC hP (e := 2) (p := 0) (by omega) hc (by omega) rfl rfl rfl (And.intro (vp_in_nI hc (by omega)) ?_)
        rw [nI_clamp (by omega), h9 c hc, z]
        exact pk_le 0 0 (fun _ => ⟨0 + 1, zy_nx0 HY (fun q hq => by omega) ⟨rfl, rel1⟩ 0 0 (by omega)⟩) (fun h => absurd h (by omega))
  · rw [H.2.2.1] at h2
    exact Int32.lt_of_lt_of_le (nI_lt hq (by omega)) (Int32.not_lt.mp h2)
theorem zz_vruns (H : zl_H f_n a_letters n L) (HC : zk_C a_choices) (hp : f_isPacked = 0 ∨ (f_isPacked = 1 ∧ zz_P n L (f_n, f_isPacked, f_runCount, f_nodes, f_codeSum, a_letters, a_countOf, a_sorted, a_parted, a_rowBits, a_wordSum, a_byteSum, a_zerosOf, a_lowWidth, a_firstPlace, a_lowPart, a_highBits, a_blockClass, a_blockNumber, a_blockSum, a_choices, a_runStart, a_runLetter, a_runBefore, a_runSame, a_lastRun, a_nodeLeft, a_nodeRight, a_weight, a_joined, a_codeLength, a_codeBits))) (HY : zy_H f_size a_list n L) : wpX_runs (fun r u' => wpY_runs (fun r' => r' = r ∧ i_Rel k u' (f_size, a_list, a_sorts)) (f_size, a_list, a_sorts)) (f_n, f_isPacked, f_runCount, f_nodes, f_codeSum, a_letters, a_countOf, a_sorted, a_parted, a_rowBits, a_wordSum, a_byteSum, a_zerosOf, a_lowWidth, a_firstPlace, a_lowPart, a_highBits, a_blockClass, a_blockNumber, a_blockSum, a_choices, a_runStart, a_runLetter, a_runBefore, a_runSame, a_lastRun, a_nodeLeft, a_nodeRight, a_weight, a_joined, a_codeLength, a_codeBits) := by
  unfold wpX_runs
  refine zz_pack H HC hp ?_
  intros
  rename_i hP
  refine ⟨n + 1, zy_runs HY ⟨?_, zz_in H HC (Or.inr ⟨rfl, hP⟩) HY⟩ n 0 (by omega)⟩
  obtain ⟨R, h1, h2, h3, h4, h5, h6, h7, ⟨m, st, hf, hR, -⟩, h9⟩ := hP
  rw [hf, hR.1]
theorem zz_vagree (H : zl_H f_n a_letters n L) (HC : zk_C a_choices) (hp : f_isPacked = 0 ∨ (f_isPacked = 1 ∧ zz_P n L (f_n, f_isPacked, f_runCount, f_nodes, f_codeSum, a_letters, a_countOf, a_sorted, a_parted, a_rowBits, a_wordSum, a_byteSum, a_zerosOf, a_lowWidth, a_firstPlace, a_lowPart, a_highBits, a_blockClass, a_blockNumber, a_blockSum, a_choices, a_runStart, a_runLetter, a_runBefore, a_runSame, a_lastRun, a_nodeLeft, a_nodeRight, a_weight, a_joined, a_codeLength, a_codeBits))) (HY : zy_H f_size a_list n L) (v1 v2 : Int32) : wpX_agree (fun r u' => wpY_agree (fun r' => r' = r ∧ i_Rel k u' (f_size, a_list, a_sorts)) (f_size, a_list, a_sorts) v1 v2) (f_n, f_isPacked, f_runCount, f_nodes, f_codeSum, a_letters, a_countOf, a_sorted, a_parted, a_rowBits, a_wordSum, a_byteSum, a_zerosOf, a_lowWidth, a_firstPlace, a_lowPart, a_highBits, a_blockClass, a_blockNumber, a_blockSum, a_choices, a_runStart, a_runLetter, a_runBefore, a_runSame, a_lastRun, a_nodeLeft, a_nodeRight, a_weight, a_joined, a_codeLength, a_codeBits) v1 v2 := by
  have rel := zz_in (k := k) (f_n := f_n) (f_isPacked := f_isPacked) (f_runCount := f_runCount) (f_nodes := f_nodes) (f_codeSum := f_codeSum) (a_letters := a_letters) (a_countOf := a_countOf) (a_sorted := a_sorted) (a_parted := a_parted) (a_rowBits := a_rowBits) (a_wordSum := a_wordSum) (a_byteSum := a_byteSum) (a_zerosOf := a_zerosOf) (a_lowWidth := a_lowWidth) (a_firstPlace := a_firstPlace) (a_lowPart := a_lowPart) (a_highBits := a_highBits) (a_blockClass := a_blockClass) (a_blockNumber := a_blockNumber) (a_blockSum := a_blockSum) (a_choices := a_choices) (a_runStart := a_runStart) (a_runLetter := a_runLetter) (a_runBefore := a_runBefore) (a_runSame := a_runSame) (a_lastRun := a_lastRun) (a_nodeLeft := a_nodeLeft) (a_nodeRight := a_nodeRight) (a_weight := a_weight) (a_joined := a_joined) (a_codeLength := a_codeLength) (a_codeBits := a_codeBits) (a_sorts := a_sorts) H HC hp HY
  unfold wpX_agree
  rcases zx_3 v1 (M := 7) (by omega) with h | ⟨e, he, rfl⟩
  · refine zx_eng0 h (br_t rfl ?_)
    unfold wpY_agree
    exact zy_eng0 h (br_t rfl ⟨rfl, rel⟩)
  refine zx_eng1 he (br_f (by decide) ?_)
  rcases zx_3 v2 (M := 7) (by omega) with h | ⟨e', he', rfl⟩
  · refine zx_eng0 h (br_t rfl ?_)
    unfold wpY_agree
    exact zy_eng1 he (br_f (by decide) (zy_eng0 h (br_t rfl ⟨rfl, rel⟩)))
  refine zx_eng1 he' (br_f (by decide) (zz_pack H HC hp ?_))
  intros
  rename_i hP
  refine ⟨n + 1, zz_agree H HC hP he he' ?_ n 0 (by omega)⟩
  unfold wpY_agree
  exact zy_eng1 he (br_f (by decide) (zy_eng1 he' (br_f (by decide) ⟨rfl, zz_in H HC (Or.inr ⟨rfl, hP⟩) HY⟩)))
theorem zz_vbits (H : zl_H f_n a_letters n L) (HC : zk_C a_choices) (hp : f_isPacked = 0 ∨ (f_isPacked = 1 ∧ zz_P n L (f_n, f_isPacked, f_runCount, f_nodes, f_codeSum, a_letters, a_countOf, a_sorted, a_parted, a_rowBits, a_wordSum, a_byteSum, a_zerosOf, a_lowWidth, a_firstPlace, a_lowPart, a_highBits, a_blockClass, a_blockNumber, a_blockSum, a_choices, a_runStart, a_runLetter, a_runBefore, a_runSame, a_lastRun, a_nodeLeft, a_nodeRight, a_weight, a_joined, a_codeLength, a_codeBits))) (HY : zy_H f_size a_list n L) : wpX_bits (fun r u' => wpY_bits (fun r' v' => r' = r ∧ i_Rel k u' v') (f_size, a_list, a_sorts)) (f_n, f_isPacked, f_runCount, f_nodes, f_codeSum, a_letters, a_countOf, a_sorted, a_parted, a_rowBits, a_wordSum, a_byteSum, a_zerosOf, a_lowWidth, a_firstPlace, a_lowPart, a_highBits, a_blockClass, a_blockNumber, a_blockSum, a_choices, a_runStart, a_runLetter, a_runBefore, a_runSame, a_lastRun, a_nodeLeft, a_nodeRight, a_weight, a_joined, a_codeLength, a_codeBits) := by
  unfold wpX_bits
  refine zz_pack H HC hp ?_
  intro f_runCount f_nodes f_codeSum a_countOf a_sorted a_parted a_rowBits a_wordSum a_byteSum a_zerosOf a_lowWidth a_firstPlace a_lowPart a_highBits a_blockClass a_blockNumber a_blockSum a_runStart a_runLetter a_runBefore a_runSame a_lastRun a_nodeLeft a_nodeRight a_weight a_joined a_codeLength a_codeBits hP
  have rel : ∀ so, i_Rel k (f_n, 1, f_runCount, f_nodes, f_codeSum, a_letters, a_countOf, a_sorted, a_parted, a_rowBits, a_wordSum, a_byteSum, a_zerosOf, a_lowWidth, a_firstPlace, a_lowPart, a_highBits, a_blockClass, a_blockNumber, a_blockSum, a_choices, a_runStart, a_runLetter, a_runBefore, a_runSame, a_lastRun, a_nodeLeft, a_nodeRight, a_weight, a_joined, a_codeLength, a_codeBits) (f_size, a_list, so) := fun so => zz_in H HC (Or.inr ⟨rfl, hP⟩) HY
  obtain ⟨R, h1, h2, h3, h4, ⟨m, lc, rc, D, ln, bi, hm, hf, HT, HK, hA, hC, ⟨v, hv, hv2⟩, hm0⟩, -⟩ := hP
  refine pk_eq m 0 (fun z => ?_) (fun z => ?_) hf rfl
  · refine zy_bits HY (fun _ so => ⟨H.2.2.1.symm, rel so⟩) (fun h => ?_)
    have := hm0.mp z
    omega
  · refine zy_bits HY (fun h => absurd (hm0.mpr h) z) (fun _ v' so hv' => ⟨?_, rel so⟩)
    rw [hv, zf_C_u 8 (List.Perm.refl _) hv' hv2]
end
end
section
/-! what is owed: each case out of the relation -/
theorem i_vc_append {k : Nat} {u : SX} {v : SY} (I : i_Rel k u v) (hk : k + 5 ≤ 2560) (v1 : Int32) (v2 : Int32) : wpX_append (fun r u' => wpY_append (fun r' v' => r' = r ∧ i_Rel (k + 5) u' v') v v1 v2) u v1 v2 :=
  zz_el (P := fun u v => wpX_append (fun r u' => wpY_append (fun r' v' => r' = r ∧ i_Rel (k + 5) u' v') v v1 v2) u v1 v2) (fun _ _ _ _ _ _ _ _ _ _ _ _ _ _ _ _ _ _ _ _ _ _ _ _ _ _ _ _ _ _ _ _ _ _ _ _ _ H HC hp HY => zz_vappend H HC hp HY v1 v2) I
theorem i_vc_again {k : Nat} {u : SX} {v : SY} (I : i_Rel k u v) (hk : k + 5 ≤ 2560) (v1 : Int32) (v2 : Int32) : wpX_again (fun r u' => wpY_again (fun r' v' => r' = r ∧ i_Rel (k + 5) u' v') v v1 v2) u v1 v2 :=
  zz_el (P := fun u v => wpX_again (fun r u' => wpY_again (fun r' v' => r' = r ∧ i_Rel (k + 5) u' v') v v1 v2) u v1 v2) (fun _ _ _ _ _ _ _ _ _ _ _ _ _ _ _ _ _ _ _ _ _ _ _ _ _ _ _ _ _ _ _ _ _ _ _ _ _ H HC hp HY => zz_vagain H HC hp HY v1 v2) I
theorem i_vc_change {k : Nat} {u : SX} {v : SY} (I : i_Rel k u v) (hk : k + 5 ≤ 2560) (v1 : Int32) (v2 : Int32) : wpX_change (fun r u' => wpY_change (fun r' v' => r' = r ∧ i_Rel (k + 5) u' v') v v1 v2) u v1 v2 :=
  zz_el (P := fun u v => wpX_change (fun r u' => wpY_change (fun r' v' => r' = r ∧ i_Rel (k + 5) u' v') v v1 v2) u v1 v2) (fun _ _ _ _ _ _ _ _ _ _ _ _ _ _ _ _ _ _ _ _ _ _ _ _ _ _ _ _ _ _ _ _ _ _ _ _ _ H HC hp HY => zz_vchange H HC hp HY v1 v2) I
theorem i_vc_cut {k : Nat} {u : SX} {v : SY} (I : i_Rel k u v) (hk : k + 5 ≤ 2560) (v1 : Int32) : wpX_cut (fun r u' => wpY_cut (fun r' v' => r' = r ∧ i_Rel (k + 5) u' v') v v1) u v1 :=
  zz_el (P := fun u v => wpX_cut (fun r u' => wpY_cut (fun r' v' => r' = r ∧ i_Rel (k + 5) u' v') v v1) u v1) (fun _ _ _ _ _ _ _ _ _ _ _ _ _ _ _ _ _ _ _ _ _ _ _ _ _ _ _ _ _ _ _ _ _ _ _ _ _ H HC hp HY => zz_vcut H HC hp HY v1) I
theorem i_vc_at {k : Nat} {u : SX} {v : SY} (I : i_Rel k u v) (hk : k + 5 ≤ 2560) (v1 : Int32) (v2 : Int32) : wpX_at (fun r u' => wpY_at (fun r' => r' = r ∧ i_Rel (k + 5) u' v) v v1 v2) u v1 v2 :=
  zz_el (P := fun u v => wpX_at (fun r u' => wpY_at (fun r' => r' = r ∧ i_Rel (k + 5) u' v) v v1 v2) u v1 v2) (fun _ _ _ _ _ _ _ _ _ _ _ _ _ _ _ _ _ _ _ _ _ _ _ _ _ _ _ _ _ _ _ _ _ _ _ _ _ H HC hp HY => zz_vat H HC hp HY v1 v2) I
theorem i_vc_rank {k : Nat} {u : SX} {v : SY} (I : i_Rel k u v) (hk : k + 5 ≤ 2560) (v1 : Int32) (v2 : Int32) (v3 : Int32) : wpX_rank (fun r u' => wpY_rank (fun r' => r' = r ∧ i_Rel (k + 5) u' v) v v1 v2 v3) u v1 v2 v3 :=
  zz_el (P := fun u v => wpX_rank (fun r u' => wpY_rank (fun r' => r' = r ∧ i_Rel (k + 5) u' v) v v1 v2 v3) u v1 v2 v3) (fun _ _ _ _ _ _ _ _ _ _ _ _ _ _ _ _ _ _ _ _ _ _ _ _ _ _ _ _ _ _ _ _ _ _ _ _ _ H HC hp HY => zz_vrank H HC hp HY v1 v2 v3) I
theorem i_vc_select {k : Nat} {u : SX} {v : SY} (I : i_Rel k u v) (hk : k + 5 ≤ 2560) (v1 : Int32) (v2 : Int32) (v3 : Int32) : wpX_select (fun r u' => wpY_select (fun r' => r' = r ∧ i_Rel (k + 5) u' v) v v1 v2 v3) u v1 v2 v3 :=
  zz_el (P := fun u v => wpX_select (fun r u' => wpY_select (fun r' => r' = r ∧ i_Rel (k + 5) u' v) v v1 v2 v3) u v1 v2 v3) (fun _ _ _ _ _ _ _ _ _ _ _ _ _ _ _ _ _ _ _ _ _ _ _ _ _ _ _ _ _ _ _ _ _ _ _ _ _ H HC hp HY => zz_vselect H HC hp HY v1 v2 v3) I
theorem i_vc_below {k : Nat} {u : SX} {v : SY} (I : i_Rel k u v) (hk : k + 5 ≤ 2560) (v1 : Int32) (v2 : Int32) (v3 : Int32) (v4 : Int32) : wpX_below (fun r u' => wpY_below (fun r' => r' = r ∧ i_Rel (k + 5) u' v) v v1 v2 v3 v4) u v1 v2 v3 v4 :=
  zz_el (P := fun u v => wpX_below (fun r u' => wpY_below (fun r' => r' = r ∧ i_Rel (k + 5) u' v) v v1 v2 v3 v4) u v1 v2 v3 v4) (fun _ _ _ _ _ _ _ _ _ _ _ _ _ _ _ _ _ _ _ _ _ _ _ _ _ _ _ _ _ _ _ _ _ _ _ _ _ H HC hp HY => zz_vbelow H HC hp HY v1 v2 v3 v4) I
theorem i_vc_ordered {k : Nat} {u : SX} {v : SY} (I : i_Rel k u v) (hk : k + 5 ≤ 2560) (v1 : Int32) (v2 : Int32) (v3 : Int32) (v4 : Int32) : wpX_ordered (fun r u' => wpY_ordered (fun r' => r' = r ∧ i_Rel (k + 5) u' v) v v1 v2 v3 v4) u v1 v2 v3 v4 :=
  zz_el (P := fun u v => wpX_ordered (fun r u' => wpY_ordered (fun r' => r' = r ∧ i_Rel (k + 5) u' v) v v1 v2 v3 v4) u v1 v2 v3 v4) (fun _ _ _ _ _ _ _ _ _ _ _ _ _ _ _ _ _ _ _ _ _ _ _ _ _ _ _ _ _ _ _ _ _ _ _ _ _ H HC hp HY => zz_vordered H HC hp HY v1 v2 v3 v4) I
theorem i_vc_most {k : Nat} {u : SX} {v : SY} (I : i_Rel k u v) (hk : k + 5 ≤ 2560) (v1 : Int32) (v2 : Int32) (v3 : Int32) : wpX_most (fun r u' => wpY_most (fun r' => r' = r ∧ i_Rel (k + 5) u' v) v v1 v2 v3) u v1 v2 v3 :=
  zz_el (P := fun u v => wpX_most (fun r u' => wpY_most (fun r' => r' = r ∧ i_Rel (k + 5) u' v) v v1 v2 v3) u v1 v2 v3) (fun _ _ _ _ _ _ _ _ _ _ _ _ _ _ _ _ _ _ _ _ _ _ _ _ _ _ _ _ _ _ _ _ _ _ _ _ _ H HC hp HY => zz_vmost H HC hp HY v1 v2 v3) I
theorem i_vc_different {k : Nat} {u : SX} {v : SY} (I : i_Rel k u v) (hk : k + 5 ≤ 2560) (v1 : Int32) (v2 : Int32) : wpX_different (fun r u' => wpY_different (fun r' => r' = r ∧ i_Rel (k + 5) u' v) v v1 v2) u v1 v2 :=
  zz_el (P := fun u v => wpX_different (fun r u' => wpY_different (fun r' => r' = r ∧ i_Rel (k + 5) u' v) v v1 v2) u v1 v2) (fun _ _ _ _ _ _ _ _ _ _ _ _ _ _ _ _ _ _ _ _ _ _ _ _ _ _ _ _ _ _ _ _ _ _ _ _ _ H HC hp HY => zz_vdifferent H HC hp HY v1 v2) I
theorem i_vc_next {k : Nat} {u : SX} {v : SY} (I : i_Rel k u v) (hk : k + 5 ≤ 2560) (v1 : Int32) (v2 : Int32) : wpX_next (fun r u' => wpY_next (fun r' => r' = r ∧ i_Rel (k + 5) u' v) v v1 v2) u v1 v2 :=
  zz_el (P := fun u v => wpX_next (fun r u' => wpY_next (fun r' => r' = r ∧ i_Rel (k + 5) u' v) v v1 v2) u v1 v2) (fun _ _ _ _ _ _ _ _ _ _ _ _ _ _ _ _ _ _ _ _ _ _ _ _ _ _ _ _ _ _ _ _ _ _ _ _ _ H HC hp HY => zz_vnext H HC hp HY v1 v2) I
theorem i_vc_runs {k : Nat} {u : SX} {v : SY} (I : i_Rel k u v) (hk : k + 5 ≤ 2560) : wpX_runs (fun r u' => wpY_runs (fun r' => r' = r ∧ i_Rel (k + 5) u' v) v) u :=
  zz_el (P := fun u v => wpX_runs (fun r u' => wpY_runs (fun r' => r' = r ∧ i_Rel (k + 5) u' v) v) u) (fun _ _ _ _ _ _ _ _ _ _ _ _ _ _ _ _ _ _ _ _ _ _ _ _ _ _ _ _ _ _ _ _ _ _ _ _ _ H HC hp HY => zz_vruns H HC hp HY) I
theorem i_vc_agree {k : Nat} {u : SX} {v : SY} (I : i_Rel k u v) (hk : k + 5 ≤ 2560) (v1 : Int32) (v2 : Int32) : wpX_agree (fun r u' => wpY_agree (fun r' => r' = r ∧ i_Rel (k + 5) u' v) v v1 v2) u v1 v2 :=
  zz_el (P := fun u v => wpX_agree (fun r u' => wpY_agree (fun r' => r' = r ∧ i_Rel (k + 5) u' v) v v1 v2) u v1 v2) (fun _ _ _ _ _ _ _ _ _ _ _ _ _ _ _ _ _ _ _ _ _ _ _ _ _ _ _ _ _ _ _ _ _ _ _ _ _ H HC hp HY => zz_vagree H HC hp HY v1 v2) I
theorem i_vc_bits {k : Nat} {u : SX} {v : SY} (I : i_Rel k u v) (hk : k + 5 ≤ 2560) : wpX_bits (fun r u' => wpY_bits (fun r' v' => r' = r ∧ i_Rel (k + 5) u' v') v) u :=
  zz_el (P := fun u v => wpX_bits (fun r u' => wpY_bits (fun r' v' => r' = r ∧ i_Rel (k + 5) u' v') v) u) (fun _ _ _ _ _ _ _ _ _ _ _ _ _ _ _ _ _ _ _ _ _ _ _ _ _ _ _ _ _ _ _ _ _ _ _ _ _ H HC hp HY => zz_vbits H HC hp HY) I
end
