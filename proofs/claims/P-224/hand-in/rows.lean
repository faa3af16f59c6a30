section
theorem pk_us {f : Nat → Int32} {k : Nat} {x : Int32} : upd f k x k = x := if_pos rfl
theorem pk_un {f : Nat → Int32} {k j : Nat} {x : Int32} (h : j ≠ k) : upd f k x j = f j := if_neg h
theorem pk_uLs {f : Nat → Int64} {k : Nat} {x : Int64} : vp_updL f k x k = x := if_pos rfl
theorem pk_uLn {f : Nat → Int64} {k j : Nat} {x : Int64} (h : j ≠ k) : vp_updL f k x j = f j := if_neg h
theorem pk_sub {a b : Nat} (h : b ≤ a) : nI a - nI b = nI (a - b) := by
  obtain ⟨c, rfl⟩ : ∃ c, a = c + b := ⟨a - b, by omega⟩
  rw [← nI_add, Int32.add_sub_cancel, Nat.add_sub_cancel]
theorem pk_m1 (n : Nat) : nI (n + 1) + (-1) = nI n := by
  rw [← nI_1, Int32.add_assoc, show (1 : Int32) + (-1) = 0 from rfl, Int32.add_zero]
theorem pk_mul (a b : Nat) : nI a * nI b = nI (a * b) := (Int32.ofNat_mul a b).symm
theorem pk_div {a d : Nat} (ha : a < 2 ^ 31) (h0 : 0 < d) (hd : d < 2 ^ 31) : nI a / nI d = nI (a / d) := by
  apply Int32.toInt_inj.mp
  rw [lg_idiv_nonneg (by rw [nI_toInt ha]; omega) (by rw [nI_toInt hd]; omega), nI_toInt ha, nI_toInt hd, nI_toInt (Nat.lt_of_le_of_lt (Nat.div_le_self a d) ha)]
  first | rfl | exact (Int.natCast_ediv _ _).symm
theorem pk_rem {a d : Nat} (ha : a < 2 ^ 31) (h0 : 0 < d) (hd : d < 2 ^ 31) : nI a - nI a / nI d * nI d = nI (a % d) := by
  rw [pk_div ha h0 hd, pk_mul, pk_sub (Nat.div_mul_le_self a d)]
  exact congrArg nI (by have := Nat.div_add_mod' a d; omega)
theorem pk_sub_toInt {a b : Nat} (ha : a < 2 ^ 30) (hb : b < 2 ^ 30) : (nI a - nI b).toInt = (a : Int) - b := by
  rw [Int32.toInt_sub, nI_toInt (by omega), nI_toInt (by omega)]
  exact Int.bmod_eq_of_le (by omega) (by omega)
theorem pk_sneg {a b : Nat} (hb : b < 2 ^ 30) (h : a < b) : nI a - nI b < 0 := by
  rw [Int32.lt_iff_toInt_lt, pk_sub_toInt (by omega) hb, show (0 : Int32).toInt = 0 from by decide]
  omega
theorem pk_ix (x : Int32) {n : Nat} (hn : n < 2 ^ 31) : x < 0 ∨ nI n ≤ x ∨ ∃ j : Nat, j < n ∧ x = nI j := by
  by_cases h : x < 0
  · exact Or.inl h
  · obtain ⟨j, hj, rfl⟩ := nI_of h
    by_cases h2 : j < n
    · exact Or.inr (Or.inr ⟨j, h2, rfl⟩)
    · exact Or.inr (Or.inl (nI_le (by omega) hj))
theorem pk_le {x y : Int32} {A B : Prop} (a b : Nat) (f : a ≤ b → A) (g : b < a → B) (hx : x = nI a := by rfl) (hy : y = nI b := by rfl) (ha : a < 2 ^ 31 := by omega) (hb : b < 2 ^ 31 := by omega) : (x ≤ y → A) ∧ (¬ x ≤ y → B) := by
  subst hx hy
  rw [nI_leI ha hb]
  exact ⟨f, fun z => g (by omega)⟩
theorem pk_lt {x y : Int32} {A B : Prop} (a b : Nat) (f : a < b → A) (g : b ≤ a → B) (hx : x = nI a := by rfl) (hy : y = nI b := by rfl) (ha : a < 2 ^ 31 := by omega) (hb : b < 2 ^ 31 := by omega) : (x < y → A) ∧ (¬ x < y → B) := by
  subst hx hy
  rw [nI_ltI ha hb]
  exact ⟨f, fun z => g (by omega)⟩
theorem pk_eq {x y : Int32} {A B : Prop} (a b : Nat) (f : a = b → A) (g : a ≠ b → B) (hx : x = nI a := by rfl) (hy : y = nI b := by rfl) (ha : a < 2 ^ 31 := by omega) (hb : b < 2 ^ 31 := by omega) : (x = y → A) ∧ (¬ x = y → B) := by
  subst hx hy
  rw [nI_eq ha hb]
  exact ⟨f, g⟩
theorem pk_in {x : Int32} (n N : Nat) (h : n < N) (hx : x = nI n := by rfl) (hN : N < 2 ^ 31 := by omega) : vp_in x N := by
  subst hx
  exact vp_in_nI h hN
theorem pk_cl {x : Int32} (n : Nat) (hx : x = nI n := by rfl) (h : n < 2 ^ 31 := by omega) : x.toNatClampNeg = n := by
  subst hx
  exact nI_clamp h
theorem pk_tn {n : Nat} (h : n < 2 ^ 32) : (nI n).toBitVec.toNat = n := Nat.mod_eq_of_lt h
theorem pk_and (x : Int32) {m : Int32} (k : Nat) (hm : m.toBitVec.toNat = 2 ^ k - 1) : x &&& m = nI (x.toBitVec.toNat % 2 ^ k) := by
  apply Int32.toBitVec_inj.mp
  apply BitVec.eq_of_toNat_eq
  rw [Int32.toBitVec_and, BitVec.toNat_and, hm, Nat.and_two_pow_sub_one_eq_mod]
  show _ = (BitVec.ofNat 32 _).toNat
  rw [BitVec.toNat_ofNat]
  exact (Nat.mod_eq_of_lt (Nat.lt_of_le_of_lt (Nat.mod_le _ _) x.toBitVec.isLt)).symm
theorem pk_andN {n : Nat} (h : n < 2 ^ 32) {m : Int32} (k : Nat) (hm : m.toBitVec.toNat = 2 ^ k - 1) : nI n &&& m = nI (n % 2 ^ k) := by
  rw [pk_and _ k hm, pk_tn h]
theorem pk_andE (x : Int32) {m : Int32} (k : Nat) (hm : m.toBitVec.toNat = 2 ^ k - 1) : ∃ j : Nat, j < 2 ^ k ∧ x &&& m = nI j := ⟨_, Nat.mod_lt _ (Nat.two_pow_pos k), pk_and x k hm⟩
theorem pk_andIn (x : Int32) {m : Int32} (k : Nat) (hm : m.toBitVec.toNat = 2 ^ k - 1) (hk : k ≤ 30) : vp_in (x &&& m) (2 ^ k) := by
  obtain ⟨j, hj, e⟩ := pk_andE x k hm
  rw [e]
  exact vp_in_nI hj (Nat.lt_of_le_of_lt (Nat.pow_le_pow_right (by decide) hk) (by decide))
theorem pk_shl (a s : Int32) (k : Nat) (hs : (s.toBitVec.smod 32).toNat = k) : (a <<< s).toBitVec.toNat = a.toBitVec.toNat * 2 ^ k % 2 ^ 32 := by
  show (a.toBitVec <<< (s.toBitVec.smod 32).toNat).toNat = _
  rw [hs, BitVec.toNat_shiftLeft, Nat.shiftLeft_eq]
theorem pk_shlN {n : Nat} (s : Int32) (k : Nat) (hs : (s.toBitVec.smod 32).toNat = k) (h : n * 2 ^ k < 2 ^ 32) : nI n <<< s = nI (n * 2 ^ k) := by
  apply Int32.toBitVec_inj.mp
  apply BitVec.eq_of_toNat_eq
  have hn : n < 2 ^ 32 := Nat.lt_of_le_of_lt (Nat.le_mul_of_pos_right n (Nat.two_pow_pos k)) h
  rw [pk_shl _ _ k hs, pk_tn hn, pk_tn h, Nat.mod_eq_of_lt h]
theorem pk_shr (a s : Int32) (k : Nat) (hs : (s.toBitVec.smod 32).toNat = k) : (a >>> s).toInt = a.toInt >>> k := by
  show (a.toBitVec.sshiftRight (s.toBitVec.smod 32).toNat).toInt = _
  rw [hs, BitVec.toInt_sshiftRight]
  rfl
theorem pk_shrN {n : Nat} (h : n < 2 ^ 31) (s : Int32) (k : Nat) (hs : (s.toBitVec.smod 32).toNat = k) : nI n >>> s = nI (n / 2 ^ k) := by
  apply Int32.toInt_inj.mp
  have h2 : n / 2 ^ k ≤ n := Nat.div_le_self _ _
  rw [pk_shr _ _ k hs, nI_toInt h, nI_toInt (by omega), Int.shiftRight_eq_div_pow]
  rfl
theorem pk_ushr (x s : Int32) (k : Nat) (hs : ((s.toUInt32 &&& Int32.toUInt32 31).toBitVec % 32).toNat = k) : (x.toUInt32 >>> (s.toUInt32 &&& Int32.toUInt32 31)).toInt32.toBitVec.toNat = x.toBitVec.toNat / 2 ^ k := by
  have e : (x.toUInt32 >>> (s.toUInt32 &&& Int32.toUInt32 31)).toInt32.toBitVec = x.toBitVec >>> k := by
    rw [← hs]
    exact UInt32.toBitVec_shiftRight _ _
  rw [e, BitVec.toNat_ushiftRight, Nat.shiftRight_eq_div_pow]
theorem pk_ushrN {n : Nat} (hn : n < 2 ^ 32) (s : Int32) (k : Nat) (hs : ((s.toUInt32 &&& Int32.toUInt32 31).toBitVec % 32).toNat = k) : ((nI n).toUInt32 >>> (s.toUInt32 &&& Int32.toUInt32 31)).toInt32 = nI (n / 2 ^ k) := by
  apply Int32.toBitVec_inj.mp
  apply BitVec.eq_of_toNat_eq
  rw [pk_ushr _ s k hs, pk_tn hn, pk_tn (Nat.lt_of_le_of_lt (Nat.div_le_self _ _) hn)]
theorem pk_nb (z : Int32) : narrow .byte (.int z.toInt8.toInt32) = .int z.toInt8.toInt32 := congrArg Value.int (by simp)
theorem pk_ns (z : Int32) : narrow .short (.int z.toInt16.toInt32) = .int z.toInt16.toInt32 := congrArg Value.int (by simp)
theorem pk_fb (r : Int32) : fits .byte (.int r.toInt8.toInt32) = true := by
  have ⟨a, b⟩ := lg_i2b_range r
  have h1 : (-128 : Int32).toInt = -128 := by decide
  have h2 : (127 : Int32).toInt = 127 := by decide
  simp only [fits, Bool.and_eq_true, decide_eq_true_eq, Int32.le_iff_toInt_le, h1, h2]
  omega
theorem pk_fs (r : Int32) : fits .short (.int r.toInt16.toInt32) = true := by
  have ⟨a, b⟩ := lg_i2s_range r
  have h1 : (-32768 : Int32).toInt = -32768 := by decide
  have h2 : (32767 : Int32).toInt = 32767 := by decide
  simp only [fits, Bool.and_eq_true, decide_eq_true_eq, Int32.le_iff_toInt_le, h1, h2]
  omega
theorem pk_charN {q : Nat} (hq : q < 65536) : narrow .char (.int (nI q)) = .int (nI q) ∧ fits .char (.int (nI q)) = true := by
  constructor
  · have e : (nI q).toUInt32.toUInt16.toUInt32.toInt32 = nI q := by
      apply Int32.toBitVec_inj.mp
      apply BitVec.eq_of_toNat_eq
      show (nI q).toUInt32.toUInt16.toUInt32.toNat = q % 2 ^ 32
      rw [UInt16.toNat_toUInt32, UInt32.toNat_toUInt16, show (nI q).toUInt32.toNat = q % 2 ^ 32 from rfl]
      omega
    exact congrArg Value.int e
  · have a : (0 : Int32) ≤ nI q := nI_pos' (by omega)
    have b : nI q ≤ 65535 := nI_le (b := 65535) (by omega) (by decide)
    show (decide ((0 : Int32) ≤ nI q) && decide (nI q ≤ 65535)) = true
    rw [decide_eq_true a, decide_eq_true b]
    rfl
theorem pk_char (x : Int32) : (x.toUInt32 % 65536).toInt32 = nI (x.toBitVec.toNat % 65536) := by
  apply Int32.toBitVec_inj.mp
  apply BitVec.eq_of_toNat_eq
  rw [pk_tn (by omega)]
  show (x.toUInt32 % 65536).toNat = _
  rw [UInt32.toNat_mod]
  rfl
theorem pk_nc (x : Int32) : narrow .char (.int (x.toUInt32 % 65536).toInt32) = .int (x.toUInt32 % 65536).toInt32 := by
  rw [pk_char]
  exact (pk_charN (Nat.mod_lt _ (by decide))).1
theorem pk_fc (x : Int32) : fits .char (.int (x.toUInt32 % 65536).toInt32) = true := by
  rw [pk_char]
  exact (pk_charN (Nat.mod_lt _ (by decide))).2
theorem pk_vb (z : Int32) : vp_nar .byte z.toInt8.toInt32 = z.toInt8.toInt32 := by rw [vp_nar_byte]; simp
theorem pk_vs (z : Int32) : vp_nar .short z.toInt16.toInt32 = z.toInt16.toInt32 := by rw [vp_nar_short]; simp
theorem pk_vc (z : Int32) : vp_nar .char (z.toUInt32 % 65536).toInt32 = (z.toUInt32 % 65536).toInt32 := Value.int.inj (pk_nc z)
theorem pk_loop {σ : Type} (W : Nat → Nat → σ → Prop) (I : Nat → σ → Prop) (e i0 : Nat) (s : σ) (hi : i0 ≤ e) (h0 : I i0 s) (hx : ∀ n s, I e s → W (n + 1) e s)
    (hs : ∀ n i s, i < e → I i s → (∀ s', I (i + 1) s' → W n (i + 1) s') → W (n + 1) i s) : ∃ n, W n i0 s :=
  ⟨e + 1, loop_i W I e hx hs (e + 1) i0 s hi (by omega) h0⟩
theorem pk_loopD {σ : Type} (W : Nat → Nat → σ → Prop) (I : Nat → σ → Prop) (hx : ∀ n s, I 0 s → W (n + 1) 0 s)
    (hs : ∀ n i s, I (i + 1) s → (∀ s', I i s' → W n i s') → W (n + 1) (i + 1) s) : ∀ (e : Nat) (s : σ), I e s → W (e + 1) e s := by
  intro e
  induction e with
  | zero => exact fun s h => hx 0 s h
  | succ e ih => exact fun s h => hs (e + 1) e s h (fun s' h' => ih s' h')
theorem ek_if {c d A B : Prop} (e : c ↔ d) (f : d → A) (g : ¬ d → B) : (c → A) ∧ (¬ c → B) :=
  ⟨fun z => f (e.mp z), fun z => g (fun y => z (e.mpr y))⟩
/-! ===== nI under and, xor, >>>, one bit, 65535 ===== -/
theorem nx_and (a b : Nat) : nI a &&& nI b = nI (a &&& b) := by
  apply Int32.toBitVec_inj.1
  show BitVec.ofNat 32 a &&& BitVec.ofNat 32 b = BitVec.ofNat 32 (a &&& b)
  apply BitVec.eq_of_getLsbD_eq
  intro i hi
  simp [hi]
theorem nx_xor (a b : Nat) : nI a ^^^ nI b = nI (a ^^^ b) := by
  apply Int32.toBitVec_inj.1
  show BitVec.ofNat 32 a ^^^ BitVec.ofNat 32 b = BitVec.ofNat 32 (a ^^^ b)
  apply BitVec.eq_of_getLsbD_eq
  intro i hi
  simp [hi]
theorem nx_cnt : ∀ j : Fin 32, (UInt32.ofNat j.val &&& Int32.toUInt32 31).toNat % 32 = j.val := by decide +kernel
theorem nx_ush {k j : Nat} (hk : k < 65536) (hj : j < 32) : ((nI k).toUInt32 >>> ((nI j).toUInt32 &&& Int32.toUInt32 31)).toInt32 = nI (k >>> j) := by
  have hs : k >>> j ≤ k := by
    rw [Nat.shiftRight_eq_div_pow]
    exact Nat.div_le_self _ _
  have e2 : UInt32.ofNat k >>> (UInt32.ofNat j &&& Int32.toUInt32 31) = UInt32.ofNat (k >>> j) := by
    apply UInt32.toNat_inj.1
    have h1 : (UInt32.ofNat k).toNat = k := Nat.mod_eq_of_lt (by omega)
    have h2 : (UInt32.ofNat (k >>> j)).toNat = k >>> j := Nat.mod_eq_of_lt (by omega)
    rw [UInt32.toNat_shiftRight, nx_cnt ⟨j, hj⟩, h1, h2]
  show (UInt32.ofNat k >>> (UInt32.ofNat j &&& Int32.toUInt32 31)).toInt32 = _
  rw [e2]
  rfl
theorem nx_bit {k j : Nat} (hk : k < 65536) (hj : j < 16) : (((nI k).toUInt32 >>> ((nI j).toUInt32 &&& Int32.toUInt32 31)).toInt32 &&& 1) = 0 ↔ k.testBit j = false := by
  rw [nx_ush hk (by omega)]
  show nI (k >>> j) &&& nI 1 = 0 ↔ _
  rw [nx_and, Nat.and_one_is_mod, ← nI_0, nI_eq (by omega) (by omega), Nat.testBit_eq_decide_div_mod_eq, Nat.shiftRight_eq_div_pow, decide_eq_false_iff_not]
  generalize k / 2 ^ j = z
  omega
theorem nx_mod (k : Nat) : nI k &&& 65535 = nI (k % 65536) := by
  show nI k &&& nI 65535 = _
  rw [nx_and, show (65535 : Nat) = 2 ^ 16 - 1 from rfl, Nat.and_two_pow_sub_one_eq_mod]
theorem nx_m16 {k : Nat} (h : k < 65536) : nI k &&& 65535 = nI k := by rw [nx_mod, Nat.mod_eq_of_lt h]
theorem nx_mask (x : Int32) : ∃ k, k < 65536 ∧ x &&& 65535 = nI k := by
  have e : x = nI x.toBitVec.toNat := by
    apply Int32.toBitVec_inj.1
    show x.toBitVec = BitVec.ofNat 32 x.toBitVec.toNat
    simp
  refine ⟨x.toBitVec.toNat % 65536, Nat.mod_lt _ (by omega), ?_⟩
  rw [← nx_mod, ← e]
/-! ===== the char cast and 65535 ===== -/
theorem em_w (v : Int32) : ∃ w : Nat, w < 65536 ∧ (v.toUInt32 % 65536).toInt32 = nI w ∧ v &&& 65535 = nI w := by
  have hr := lw_u16_r v
  have h0 : (0 : Int32).toInt = 0 := by decide
  obtain ⟨w, h1, h2⟩ := nI_of (x := lw_u16 v) (by rw [Int32.lt_iff_toInt_lt]; omega)
  have h3 : (v.toUInt32 % 65536).toInt32 = nI w := h2
  rw [h2, nI_toInt h1] at hr
  exact ⟨w, by omega, h3, by rw [← lg_i2c_mask, ← lg_i2c_nf, h3]⟩
/-! ===== lN n to 2^64: shifts, and, or, masks, one bit ===== -/
theorem wb_tb (n : Nat) : (lN n).toBitVec = BitVec.ofNat 64 n := rfl
theorem wb_inj {a b : Int64} (h : a.toBitVec = b.toBitVec) : a = b := Int64.toBitVec_inj.mp h
theorem wb_tn {n : Nat} (h : n < 2 ^ 64) : (lN n).toBitVec.toNat = n := by rw [wb_tb, BitVec.toNat_ofNat, Nat.mod_eq_of_lt h]
theorem wb_of (x : Int64) : ∃ n, n < 2 ^ 64 ∧ x = lN n := ⟨x.toBitVec.toNat, x.toBitVec.isLt, wb_inj (by rw [wb_tb]; simp)⟩
theorem wb_of32 (x : Int32) : ∃ n, n < 2 ^ 32 ∧ x = nI n := ⟨x.toBitVec.toNat, x.toBitVec.isLt, Int32.toBitVec_inj.mp (by show _ = BitVec.ofNat 32 _; simp)⟩
theorem wb_c : ∀ k, k < 64 → ((nI k).toInt64 &&& 63) = lN k := by decide +kernel
theorem wb_cu : ∀ k, k < 64 → ((nI k).toInt64.toUInt64 &&& Int64.toUInt64 63) = UInt64.ofNat k := by decide +kernel
theorem wb_sm : ∀ k, k < 64 → (BitVec.ofNat 64 k).smod 64 = BitVec.ofNat 64 k := by decide +kernel
theorem wb_pw {a b : Nat} (h : a ≤ b) : 2 ^ b = 2 ^ a * 2 ^ (b - a) := by rw [← Nat.pow_add]; congr 1; omega
theorem wb_lt2 {a b : Nat} (h : a < b) : 2 ^ a < 2 ^ b := Nat.pow_lt_pow_right (by decide) h
theorem wb_mod (n : Nat) : lN n = lN (n % 2 ^ 64) := wb_inj (by rw [wb_tb, wb_tb]; apply BitVec.eq_of_toNat_eq; rw [BitVec.toNat_ofNat, BitVec.toNat_ofNat, Nat.mod_mod])
theorem wb_shr {n k : Nat} (hn : n < 2 ^ 64) (hk : k < 64) : ((lN n).toUInt64 >>> ((nI k).toInt64.toUInt64 &&& Int64.toUInt64 63)).toInt64 = lN (n / 2 ^ k) := by
  rw [wb_cu k hk]
  apply wb_inj
  apply BitVec.eq_of_toNat_eq
  show ((lN n).toUInt64 >>> UInt64.ofNat k).toNat = (BitVec.ofNat 64 _).toNat
  have h1 : (UInt64.ofNat k).toNat = k := by
    show (BitVec.ofNat 64 k).toNat = k
    rw [BitVec.toNat_ofNat, Nat.mod_eq_of_lt (by omega)]
  have h2 : (lN n).toUInt64.toNat = n := wb_tn hn
  rw [UInt64.toNat_shiftRight, h1, h2, Nat.mod_eq_of_lt hk, Nat.shiftRight_eq_div_pow, BitVec.toNat_ofNat, Nat.mod_eq_of_lt (Nat.lt_of_le_of_lt (Nat.div_le_self _ _) hn)]
theorem wb_shl (n : Nat) {k : Nat} (hk : k < 64) : lN n <<< ((nI k).toInt64 &&& 63) = lN (n * 2 ^ k) := by
  rw [wb_c k hk]
  apply wb_inj
  rw [Int64.toBitVec_shiftLeft, wb_tb, wb_tb, wb_tb, wb_sm k hk]
  apply BitVec.eq_of_toNat_eq
  rw [BitVec.shiftLeft_eq', BitVec.toNat_shiftLeft, BitVec.toNat_ofNat, BitVec.toNat_ofNat, BitVec.toNat_ofNat, Nat.mod_eq_of_lt (show k < 2 ^ 64 by omega), Nat.shiftLeft_eq, Nat.mul_mod, Nat.mod_mod, ← Nat.mul_mod]
theorem wb_and {a b : Nat} (ha : a < 2 ^ 64) (hb : b < 2 ^ 64) : lN a &&& lN b = lN (a &&& b) := by
  apply wb_inj
  rw [Int64.toBitVec_and, wb_tb, wb_tb, wb_tb]
  apply BitVec.eq_of_toNat_eq
  rw [BitVec.toNat_and, BitVec.toNat_ofNat, BitVec.toNat_ofNat, BitVec.toNat_ofNat, Nat.mod_eq_of_lt ha, Nat.mod_eq_of_lt hb, Nat.mod_eq_of_lt (Nat.and_lt_two_pow _ hb)]
theorem wb_or {a b : Nat} (ha : a < 2 ^ 64) (hb : b < 2 ^ 64) : lN a ||| lN b = lN (a ||| b) := by
  apply wb_inj
  rw [Int64.toBitVec_or, wb_tb, wb_tb, wb_tb]
  apply BitVec.eq_of_toNat_eq
  rw [BitVec.toNat_or, BitVec.toNat_ofNat, BitVec.toNat_ofNat, BitVec.toNat_ofNat, Nat.mod_eq_of_lt ha, Nat.mod_eq_of_lt hb, Nat.mod_eq_of_lt (Nat.or_lt_two_pow ha hb)]
theorem wb_mask {n k : Nat} (hn : n < 2 ^ 64) (hk : k < 64) : lN n &&& lN (2 ^ k - 1) = lN (n % 2 ^ k) := by
  rw [wb_and hn (by have := wb_lt2 hk; omega), Nat.and_two_pow_sub_one_eq_mod]
theorem wb_a1 {n : Nat} (hn : n < 2 ^ 64) : lN n &&& 1 = lN (n % 2) := wb_mask (k := 1) hn (by decide)
theorem wb_bit {n k : Nat} (hn : n < 2 ^ 64) (hk : k < 64) : ((lN n).toUInt64 >>> ((nI k).toInt64.toUInt64 &&& Int64.toUInt64 63)).toInt64 &&& 1 = lN (n / 2 ^ k % 2) := by
  rw [wb_shr hn hk, wb_a1 (Nat.lt_of_le_of_lt (Nat.div_le_self _ _) hn)]
theorem wb_xor {q k : Nat} (hk : k < 63) (h : 2 ^ k ≤ q) (h2 : q < 2 ^ (k + 1)) : lN q ^^^ lN (2 ^ k) = lN (q - 2 ^ k) := by
  obtain ⟨r, rfl⟩ : ∃ r, q = 2 ^ k + r := ⟨q - 2 ^ k, by omega⟩
  have hr : r < 2 ^ k := by rw [Nat.pow_succ] at h2; omega
  have hx : (2 ^ k + r) ^^^ 2 ^ k = r := by
    apply Nat.eq_of_testBit_eq
    intro i
    rw [Nat.testBit_xor, Nat.testBit_two_pow]
    rcases Nat.lt_trichotomy i k with h | h | h
    · rw [Nat.testBit_two_pow_add_gt h]
      simp [show ¬ k = i by omega]
    · subst h
      rw [Nat.testBit_two_pow_add_eq]
      simp
    · have a1 : 2 ^ (k + 1) ≤ 2 ^ i := Nat.pow_le_pow_right (by decide) h
      rw [Nat.testBit_lt_two_pow (show 2 ^ k + r < 2 ^ i by omega), Nat.testBit_lt_two_pow (show r < 2 ^ i by omega)]
      simp [show ¬ k = i by omega]
  have b1 := wb_lt2 (show k + 1 < 64 by omega)
  have b2 := wb_lt2 (show k < 64 by omega)
  apply wb_inj
  rw [Int64.toBitVec_xor, wb_tb, wb_tb, wb_tb]
  apply BitVec.eq_of_toNat_eq
  rw [BitVec.toNat_xor, BitVec.toNat_ofNat, BitVec.toNat_ofNat, BitVec.toNat_ofNat, Nat.mod_eq_of_lt (by omega : 2 ^ k + r < 2 ^ 64), Nat.mod_eq_of_lt b2, hx, Nat.add_sub_cancel_left, Nat.mod_eq_of_lt (by omega)]
/-! ===== lN: masks, 'or' of parts that don't overlap is a sum ===== -/
theorem u_tn {n : Nat} (h : n < 2 ^ 64) : (UInt64.ofNat n).toNat = n := Nat.mod_eq_of_lt h
theorem g_and {a b c : Nat} (ha : a < 2 ^ 64) (hb : b < 2 ^ 64) (hc : a &&& b = c) : lN a &&& lN b = lN c := by
  subst hc
  have h : UInt64.ofNat a &&& UInt64.ofNat b = UInt64.ofNat (a &&& b) := UInt64.toNat_inj.mp (by rw [UInt64.toNat_and, u_tn ha, u_tn hb, u_tn (Nat.and_lt_two_pow a hb)])
  have h2 := congrArg UInt64.toInt64 h
  exact h2
theorem g_and1 {a : Nat} (ha : a < 2 ^ 64) : lN a &&& 1 = lN (a % 2) := g_and (b := 1) ha (by decide) (Nat.and_two_pow_sub_one_eq_mod a 1)
theorem g_mask {a s p : Nat} (hp : 2 ^ s = p) (hs : s < 64) (ha : a < 2 ^ 64) : lN a &&& lN (p - 1) = lN (a % p) := by
  subst hp
  have := Nat.pow_lt_pow_right (show 1 < 2 by decide) hs
  exact g_and ha (by omega) (Nat.and_two_pow_sub_one_eq_mod a s)
theorem g_or {k p a b : Nat} (hp : 2 ^ k = p) (ha : a < p) (h : b * p + a < 2 ^ 64) : lN (b * p) ||| lN a = lN (b * p + a) := by
  subst hp
  have h1 : b * 2 ^ k ||| a = b * 2 ^ k + a := by rw [← Nat.shiftLeft_eq, Nat.shiftLeft_add_eq_or_of_lt ha]
  have h3 : UInt64.ofNat (b * 2 ^ k) ||| UInt64.ofNat a = UInt64.ofNat (b * 2 ^ k + a) := UInt64.toNat_inj.mp (by rw [UInt64.toNat_or, u_tn (by omega), u_tn (by omega), u_tn h, h1])
  have h2 := congrArg UInt64.toInt64 h3
  exact h2
theorem g_or' {k p a b : Nat} (hp : 2 ^ k = p) (ha : a < p) (h : a + b * p < 2 ^ 64) : lN a ||| lN (b * p) = lN (a + b * p) := by
  rw [Int64.or_comm, g_or hp ha (by omega), Nat.add_comm]
theorem g_ushr {a k p : Nat} {y : UInt64} (hy : y = UInt64.ofNat k) (hk : k < 64) (hp : 2 ^ k = p) (ha : a < 2 ^ 64) : ((lN a).toUInt64 >>> y).toInt64 = lN (a / p) := by
  subst hy hp
  have h : UInt64.ofNat a >>> UInt64.ofNat k = UInt64.ofNat (a / 2 ^ k) := UInt64.toNat_inj.mp (by rw [UInt64.toNat_shiftRight, u_tn ha, u_tn (by omega), u_tn (Nat.lt_of_le_of_lt (Nat.div_le_self _ _) ha), Nat.mod_eq_of_lt hk, Nat.shiftRight_eq_div_pow])
  have h2 := congrArg UInt64.toInt64 h
  exact h2
theorem g_shl {a k p : Nat} {y : Int64} (hy : y.toBitVec.smod 64 = BitVec.ofNat 64 k) (hk : k < 64) (hp : 2 ^ k = p) (ha : a < 2 ^ 64) : lN a <<< y = lN (a * p) := by
  subst hp
  apply Int64.toBitVec_inj.mp
  rw [Int64.toBitVec_shiftLeft, hy]
  apply BitVec.eq_of_toNat_eq
  have hb : (lN a).toBitVec.toNat = a := Nat.mod_eq_of_lt ha
  have hk' : (BitVec.ofNat 64 k).toNat = k := Nat.mod_eq_of_lt (by omega)
  have h : ((lN a).toBitVec <<< BitVec.ofNat 64 k).toNat = (a * 2 ^ k) % 2 ^ 64 := by simp only [BitVec.shiftLeft_eq', BitVec.toNat_shiftLeft, hb, hk', Nat.shiftLeft_eq]
  exact h
end
section
/-! the four 16-bit fields of an entry, as numbers -/
def dc_n (L : Int64) : Nat := L.toBitVec.toNat
def dc_0 (L : Int64) : Nat := dc_n L / 281474976710656
def dc_1 (L : Int64) : Nat := dc_n L / 4294967296 % 65536
def dc_2 (L : Int64) : Nat := dc_n L / 65536 % 65536
def dc_3 (L : Int64) : Nat := dc_n L % 65536
theorem dc_lt (L : Int64) : dc_n L < 18446744073709551616 := L.toBitVec.isLt
theorem dc_of (L : Int64) : lN (dc_n L) = L := wb_inj (by rw [wb_tb]; unfold dc_n; simp)
theorem dc_inj {L M : Int64} (h : dc_n L = dc_n M) : L = M := by rw [← dc_of L, ← dc_of M, h]
theorem dc_0lt (L : Int64) : dc_0 L < 65536 := by
  have := dc_lt L
  unfold dc_0
  omega
theorem dc_1lt (L : Int64) : dc_1 L < 65536 := Nat.mod_lt _ (by decide)
theorem dc_2lt (L : Int64) : dc_2 L < 65536 := Nat.mod_lt _ (by decide)
theorem dc_3lt (L : Int64) : dc_3 L < 65536 := Nat.mod_lt _ (by decide)
theorem dc_sum (L : Int64) : dc_n L = ((dc_0 L * 65536 + dc_1 L) * 65536 + dc_2 L) * 65536 + dc_3 L := by
  unfold dc_0 dc_1 dc_2 dc_3
  omega
theorem dc_ext {L M : Int64} (h0 : dc_0 L = dc_0 M) (h1 : dc_1 L = dc_1 M) (h2 : dc_2 L = dc_2 M) (h3 : dc_3 L = dc_3 M) : L = M := dc_inj (by rw [dc_sum L, dc_sum M, h0, h1, h2, h3])
theorem dc_ne0 {L : Int64} (h : dc_0 L ≠ 0) : ¬ L = 0 := by
  intro z
  rw [z] at h
  exact h (by decide)
theorem dc_r48 (L : Int64) : (L.toUInt64 >>> ((48 : Int32).toInt64.toUInt64 &&& Int64.toUInt64 63)).toInt64 = lN (dc_n L / 281474976710656) := by
  have h := wb_shr (n := dc_n L) (k := 48) (dc_lt L) (by decide)
  rw [dc_of L] at h
  exact h
theorem dc_r32 (L : Int64) : (L.toUInt64 >>> ((32 : Int32).toInt64.toUInt64 &&& Int64.toUInt64 63)).toInt64 = lN (dc_n L / 4294967296) := by
  have h := wb_shr (n := dc_n L) (k := 32) (dc_lt L) (by decide)
  rw [dc_of L] at h
  exact h
theorem dc_r16 (L : Int64) : (L.toUInt64 >>> ((16 : Int32).toInt64.toUInt64 &&& Int64.toUInt64 63)).toInt64 = lN (dc_n L / 65536) := by
  have h := wb_shr (n := dc_n L) (k := 16) (dc_lt L) (by decide)
  rw [dc_of L] at h
  exact h
theorem dc_m16 {n : Nat} (h : n < 18446744073709551616) : lN n &&& 65535 = lN (n % 65536) := wb_mask (k := 16) h (by decide)
theorem dc_x0 (L : Int64) : (((L.toUInt64 >>> ((48 : Int32).toInt64.toUInt64 &&& Int64.toUInt64 63)).toInt64) &&& 65535).toInt32 = nI (dc_0 L) := by
  have h := dc_0lt L
  unfold dc_0 at h
  rw [dc_r48, dc_m16 (by omega), lN_i, Nat.mod_eq_of_lt h]
  rfl
theorem dc_x1 (L : Int64) : (((L.toUInt64 >>> ((32 : Int32).toInt64.toUInt64 &&& Int64.toUInt64 63)).toInt64) &&& 65535).toInt32 = nI (dc_1 L) := by
  have h := dc_lt L
  rw [dc_r32, dc_m16 (by omega), lN_i]
  rfl
theorem dc_x2 (L : Int64) : (((L.toUInt64 >>> ((16 : Int32).toInt64.toUInt64 &&& Int64.toUInt64 63)).toInt64) &&& 65535).toInt32 = nI (dc_2 L) := by
  have h := dc_lt L
  rw [dc_r16, dc_m16 (by omega), lN_i]
  rfl
theorem dc_x3 (L : Int64) : (L &&& 65535).toInt32 = nI (dc_3 L) := by
  have h := dc_m16 (dc_lt L)
  rw [dc_of L] at h
  rw [h, lN_i]
  rfl
theorem dc_y0 (L : Int64) : ((L.toUInt64 >>> ((48 : Int32).toInt64.toUInt64 &&& Int64.toUInt64 63)).toInt64).toInt32 = nI (dc_0 L) := by
  rw [dc_r48, lN_i]
  rfl
theorem dc_y1 (L : Int64) : (((L.toUInt64 >>> ((32 : Int32).toInt64.toUInt64 &&& Int64.toUInt64 63)).toInt64).toInt32) &&& 65535 = nI (dc_1 L) := by
  rw [dc_r32, lN_i, nx_mod]
  rfl
theorem dc_or16 {a o : Nat} (ha : a < 65536) (ho : o < 65536) : (nI a <<< ((16 : Int32) &&& 31)) ||| nI o = nI (a * 65536 + o) := by
  have e : nI a <<< ((16 : Int32) &&& 31) = nI (a * 65536) := pk_shlN _ 16 (by decide) (by omega)
  have h1 : a * 2 ^ 16 ||| o = a * 2 ^ 16 + o := by rw [← Nat.shiftLeft_eq, Nat.shiftLeft_add_eq_or_of_lt ho]
  rw [e]
  apply Int32.toBitVec_inj.mp
  apply BitVec.eq_of_toNat_eq
  rw [Int32.toBitVec_or, BitVec.toNat_or, pk_tn (by omega), pk_tn (by omega), pk_tn (by omega)]
  exact h1
theorem dc_nIinj {a b : Nat} (ha : a < 4294967296) (hb : b < 4294967296) : nI a = nI b ↔ a = b := by
  constructor
  · intro h
    rw [← pk_tn ha, ← pk_tn hb, h]
  · intro h
    rw [h]
theorem dc_hold {a o : Nat} (ha : a < 65536) (ho : o < 65536) (L : Int64) : ((L.toUInt64 >>> ((32 : Int32).toInt64.toUInt64 &&& Int64.toUInt64 63)).toInt64).toInt32 = ((nI a <<< ((16 : Int32) &&& 31)) ||| nI o) ↔ (dc_0 L = a ∧ dc_1 L = o) := by
  have h := dc_lt L
  have e : dc_0 L = dc_n L / 4294967296 / 65536 := by unfold dc_0; omega
  have e1 : dc_1 L = dc_n L / 4294967296 % 65536 := rfl
  have hm : dc_n L / 4294967296 < 4294967296 := by omega
  rw [dc_or16 ha ho, dc_r32, lN_i, e, e1, dc_nIinj hm (by omega)]
  generalize dc_n L / 4294967296 = m at *
  omega
theorem dc_long {a : Nat} (ha : a < 65536) (L : Int64) : (L.toUInt64 >>> ((48 : Int32).toInt64.toUInt64 &&& Int64.toUInt64 63)).toInt64 = (nI a).toInt64 ↔ dc_0 L = a := by
  have h := dc_0lt L
  have e : dc_n L / 281474976710656 = dc_0 L := rfl
  rw [dc_r48, nI_l (by omega), e, lN_eq (by omega) (by omega)]
theorem dc_join (L : Int64) : (((((nI (dc_0 L)).toInt64) <<< ((48 : Int32).toInt64 &&& 63)) ||| (((nI (dc_1 L)).toInt64) <<< ((32 : Int32).toInt64 &&& 63))) ||| (((nI (dc_2 L)).toInt64) <<< ((16 : Int32).toInt64 &&& 63))) ||| ((nI (dc_3 L)).toInt64) = L := by
  have h0 := dc_0lt L
  have h1 := dc_1lt L
  have h2 := dc_2lt L
  have h3 := dc_3lt L
  have e := dc_sum L
  have eL := dc_of L
  rw [e] at eL
  generalize dc_0 L = a at *
  generalize dc_1 L = b at *
  generalize dc_2 L = c at *
  generalize dc_3 L = d at *
  rw [nI_l (by omega), nI_l (by omega), nI_l (by omega), nI_l (by omega)]
  have s0 : lN a <<< ((48 : Int32).toInt64 &&& 63) = lN (a * 281474976710656) := wb_shl a (k := 48) (by decide)
  have s1 : lN b <<< ((32 : Int32).toInt64 &&& 63) = lN (b * 4294967296) := wb_shl b (k := 32) (by decide)
  have s2 : lN c <<< ((16 : Int32).toInt64 &&& 63) = lN (c * 65536) := wb_shl c (k := 16) (by decide)
  have o0 := g_or (k := 48) (p := 281474976710656) (a := b * 4294967296) (b := a) (by decide) (by omega) (by omega)
  have o1 := g_or (k := 32) (p := 4294967296) (a := c * 65536) (b := a * 65536 + b) (by decide) (by omega) (by omega)
  have o2 := g_or (k := 16) (p := 65536) (a := d) (b := (a * 65536 + b) * 65536 + c) (by decide) (by omega) (by omega)
  rw [s0, s1, s2, o0, show a * 281474976710656 + b * 4294967296 = (a * 65536 + b) * 4294967296 by omega, o1, show (a * 65536 + b) * 4294967296 + c * 65536 = ((a * 65536 + b) * 65536 + c) * 65536 by omega, o2]
  exact eL
/-! stores into small types -/
theorem dc_sc' {w : Nat} (h : w < 65536) : vp_nar .char (nI w) = nI w := Value.int.inj (pk_charN h).1
theorem dc_w {w : Nat} (h : w < 65536) : ((nI w).toUInt32 % 65536).toInt32 = nI w := by
  rw [pk_char, pk_tn (by omega), Nat.mod_eq_of_lt h]
theorem dc_sc {w : Nat} (h : w < 65536) : vp_nar .char (((nI w).toUInt32 % 65536).toInt32) = nI w := by
  rw [dc_w h, dc_sc' h]
theorem dc_sb : ∀ h : Nat, h < 6 → (nI h).toInt8.toInt32 = nI h := by decide +kernel
theorem dc_sB {h : Nat} (hh : h < 6) : vp_nar .byte (nI h).toInt8.toInt32 = nI h := by
  rw [pk_vb, dc_sb h hh]
theorem dc_s16 (x : Int32) : x.toInt16.toInt32 &&& 65535 = x &&& 65535 := by
  apply Int32.toBitVec_inj.mp
  rw [Int32.toBitVec_and, Int32.toBitVec_and, Int16.toBitVec_toInt32, Int32.toBitVec_toInt16]
  apply BitVec.eq_of_getLsbD_eq
  intro i hi
  rw [BitVec.getLsbD_and, BitVec.getLsbD_and]
  have hm : ∀ i < 32, 16 ≤ i → (65535 : Int32).toBitVec.getLsbD i = false := by decide
  rcases Nat.lt_or_ge i 16 with z | z
  · rw [BitVec.getLsbD_signExtend, BitVec.getLsbD_signExtend, if_pos z, if_pos hi]
    simp only [z, hi, decide_true, Bool.true_and]
  · rw [hm i hi z]; simp
theorem dc_sh (v : Int32) : ∃ w : Nat, w < 65536 ∧ (v.toUInt32 % 65536).toInt32 = nI w ∧ v.toInt16.toInt32 &&& 65535 = nI w ∧ (v.toInt16.toInt32 = 0 ↔ w = 0) := by
  obtain ⟨w, hw, e1, e2⟩ := em_w v
  refine ⟨w, hw, e1, by rw [dc_s16, e2], ?_⟩
  have e3 := dc_s16 v
  rw [e2] at e3
  have hr := lg_i2s_range v
  constructor
  · intro z
    rw [z] at e3
    have h0 : (0 : Int32) &&& 65535 = nI 0 := by decide
    rw [h0, nI_eq (by omega) (by omega)] at e3
    omega
  · intro z
    subst z
    have ht := lg_i2s_toInt v
    have hc := lg_i2c_toInt v
    rw [← lg_i2c_nf, e1, nI_toInt (by omega)] at hc
    apply Int32.toInt_inj.mp
    rw [ht, show (0 : Int32).toInt = 0 by decide]
    have hc2 : v.toInt % ((2 ^ 16 : Nat) : Int) = 0 := by omega
    rw [Int.bmod_def, hc2]
    first | rfl | decide | simp
end
section
/-! laws of loops -/
theorem dc_scan (W : Nat → Nat → Prop) (M A : Nat → Prop) (K : Prop) (e : Nat)
    (hx : ∀ n, K → W (n + 1) e)
    (hs : ∀ n i, i < e → (M i → A i) → (¬ M i → W n (i + 1)) → W (n + 1) i)
    (hA : ∀ k, k < e → M k → A k) (hK : (∀ k, k < e → ¬ M k) → K) : ∃ n, W n 0 := by
  refine loop_0 (σ := Unit) (fun n i _ => W n i) (fun i _ => ∀ k, k < i → ¬ M k) e () (fun k h => absurd h (Nat.not_lt_zero k)) (fun n _ h => hx n (hK h)) ?_
  intro n i _ hi I ih
  exact hs n i hi (hA i hi) (fun z => ih () (lt_s I z))
theorem dc_fold {σ : Type} (W : Nat → Nat → σ → Prop) (M : Nat → Prop) (f : Nat → σ) (R : σ → Prop) (e : Nat) (s0 : σ)
    (hx : ∀ n s, R s → W (n + 1) e s)
    (hs : ∀ n i s, i < e → (M i → W n (i + 1) (f i)) → (¬ M i → W n (i + 1) s) → W (n + 1) i s)
    (h0 : (∀ k, k < e → ¬ M k) → R s0) (h1 : ∀ k, k < e → M k → R (f k)) : ∃ n, W n 0 s0 := by
  refine loop_0 W (fun i s => (s = s0 ∧ ∀ k, k < i → ¬ M k) ∨ (∃ k, k < i ∧ M k ∧ s = f k)) e s0 (Or.inl ⟨rfl, fun k h => absurd h (Nat.not_lt_zero k)⟩) ?_ ?_
  · intro n s I
    rcases I with ⟨z, h⟩ | ⟨k, hk, hm, z⟩
    · rw [z]; exact hx n _ (h0 h)
    · rw [z]; exact hx n _ (h1 k hk hm)
  · intro n i s hi I ih
    refine hs n i s hi (fun z => ih _ (Or.inr ⟨i, by omega, z, rfl⟩)) (fun z => ih _ ?_)
    rcases I with ⟨y, h⟩ | ⟨k, hk, hm, y⟩
    · exact Or.inl ⟨y, lt_s h z⟩
    · exact Or.inr ⟨k, by omega, hm, y⟩
theorem dc_foldD {σ : Type} (W : Nat → Nat → σ → Prop) (M : Nat → Prop) (f : Nat → σ) (R : σ → Prop) (e : Nat) (s0 : σ)
    (hx : ∀ n s, R s → W (n + 1) 0 s)
    (hs : ∀ n i s, i < e → (M i → W n i (f i)) → (¬ M i → W n i s) → W (n + 1) (i + 1) s)
    (h0 : (∀ k, k < e → ¬ M k) → R s0) (h1 : ∀ k, k < e → M k → R (f k)) : ∃ n, W n e s0 := by
  refine ⟨e + 1, pk_loopD W (fun i s => i ≤ e ∧ ((s = s0 ∧ ∀ k, i ≤ k → k < e → ¬ M k) ∨ (∃ k, k < e ∧ M k ∧ s = f k))) ?_ ?_ e s0 ⟨Nat.le_refl e, Or.inl ⟨rfl, fun k a b => absurd b (Nat.not_lt.mpr a)⟩⟩⟩
  · intro n s I
    rcases I with ⟨_, ⟨z, h⟩ | ⟨k, hk, hm, z⟩⟩
    · rw [z]; exact hx n _ (h0 (fun k hk => h k (Nat.zero_le k) hk))
    · rw [z]; exact hx n _ (h1 k hk hm)
  · intro n i s I ih
    rcases I with ⟨hi, I⟩
    refine hs n i s (by omega) (fun z => ih _ ⟨by omega, Or.inr ⟨i, by omega, z, rfl⟩⟩) (fun z => ih _ ⟨by omega, ?_⟩)
    rcases I with ⟨y, h⟩ | ⟨k, hk, hm, y⟩
    · refine Or.inl ⟨y, fun k a b => ?_⟩
      rcases Nat.lt_or_ge i k with c | c
      · exact h k c b
      · have e : k = i := by omega
        rw [e]; exact z
    · exact Or.inr ⟨k, hk, hm, y⟩
theorem dc_php : ∀ (e j : Nat) (f : Nat → Nat), (∀ i, i < j → f i < e) → (∀ i i', i < j → i' < j → f i = f i' → i = i') → j ≤ e := by
  intro e
  induction e with
  | zero =>
    intro j f h _
    rcases Nat.eq_zero_or_pos j with z | z
    · omega
    · have := h 0 z; omega
  | succ e ih =>
    intro j f h hi
    cases j with
    | zero => omega
    | succ j =>
      have h1 : ∀ i, i < j → (if f i = e then f j else f i) < e := by
        intro i hij
        have a := h i (by omega)
        have b := h j (by omega)
        have d := hi i j (by omega) (by omega)
        split
        · next z =>
          have : f j ≠ e := fun q => absurd (d (z.trans q.symm)) (by omega)
          omega
        · omega
      have h2 : ∀ i i', i < j → i' < j → (if f i = e then f j else f i) = (if f i' = e then f j else f i') → i = i' := by
        intro i i' a b
        have q1 := hi i i' (by omega) (by omega)
        have q2 := hi i j (by omega) (by omega)
        have q3 := hi i' j (by omega) (by omega)
        split
        · next z =>
          split
          · next z' => exact fun _ => q1 (z.trans z'.symm)
          · intro h3
            exact absurd (q3 h3.symm) (by omega)
        · split
          · intro h3
            exact absurd (q2 h3) (by omega)
          · exact q1
      have := ih j (fun i => if f i = e then f j else f i) h1 h2
      omega
/-! a chain of outer names -/
def dc_T (g : Nat → Nat) (o : Nat) : Nat → Nat
  | 0 => o
  | s + 1 => g (dc_T g o s)
theorem dc_Tz {g : Nat → Nat} {o i : Nat} (g0 : g 0 = 0) (h : dc_T g o i = 0) : ∀ d, dc_T g o (i + d) = 0 := by
  intro d
  induction d with
  | zero => exact h
  | succ d ih =>
    show g (dc_T g o (i + d)) = 0
    rw [ih, g0]
theorem dc_Tp {g : Nat → Nat} {o i j : Nat} (h : dc_T g o i = dc_T g o j) : ∀ d, dc_T g o (i + d) = dc_T g o (j + d) := by
  intro d
  induction d with
  | zero => exact h
  | succ d ih =>
    show g (dc_T g o (i + d)) = g (dc_T g o (j + d))
    rw [ih]
theorem dc_Tlt {g : Nat → Nat} {o : Nat} (ho : o < 65536) (hg : ∀ w, g w < 65536) : ∀ i, dc_T g o i < 65536 := by
  intro i
  cases i with
  | zero => exact ho
  | succ i => exact hg _
theorem dc_least (P : Nat → Prop) : ∀ n, P n → ∃ k, P k ∧ ∀ j, j < k → ¬ P j := by
  intro n
  induction n using Nat.strongRecOn with
  | _ n ih =>
    intro h
    by_cases z : ∃ j, j < n ∧ P j
    · obtain ⟨j, hj, hP⟩ := z
      exact ih j hj hP
    · exact ⟨n, h, fun j hj hP => z ⟨j, hj, hP⟩⟩
theorem dc_chain {g : Nat → Nat} {o a E : Nat} (key : Nat → Nat) (g0 : g 0 = 0) (ha : a ≠ 0) (hef : ∀ w, g w ≠ 0 → ∃ e, e < E ∧ key e = w) {k : Nat} (hk : dc_T g o (k + 1) = a) : ∃ j, j < E ∧ dc_T g o (j + 1) = a := by
  have h2 : ∀ w, ∃ e, g w ≠ 0 → e < E ∧ key e = w := by
    intro w
    by_cases z : g w = 0
    · exact ⟨0, fun y => absurd z y⟩
    · obtain ⟨e, h⟩ := hef w z
      exact ⟨e, fun _ => h⟩
  obtain ⟨ef, hf⟩ := Classical.axiomOfChoice h2
  obtain ⟨m, hm, hl⟩ := dc_least (fun k => dc_T g o (k + 1) = a) k hk
  refine ⟨m, ?_, hm⟩
  have hnz : ∀ i, i < m + 1 → g (dc_T g o i) ≠ 0 := by
    intro i hi z
    have q := dc_Tz (i := i + 1) g0 z (m - i)
    have e : i + 1 + (m - i) = m + 1 := by omega
    rw [e, hm] at q
    exact ha q
  have hlt : ∀ i i', i < i' → i' < m + 1 → dc_T g o i = dc_T g o i' → False := by
    intro i i' h1 h3 h4
    have q := dc_Tp h4 (m + 1 - i')
    have e : i' + (m + 1 - i') = m + 1 := by omega
    have e2 : i + (m + 1 - i') = (i + m - i') + 1 := by omega
    rw [e, e2, hm] at q
    exact hl (i + m - i') (by omega) q
  exact dc_php E (m + 1) (fun i => ef (dc_T g o i)) (fun i hi => (hf _ (hnz i hi)).1) (by
    intro i i' hi hi' h
    have h1 := (hf _ (hnz i hi)).2
    have h3 := (hf _ (hnz i' hi')).2
    have h4 : dc_T g o i = dc_T g o i' := by
      rw [← h1, ← h3]
      exact congrArg key h
    rcases Nat.lt_trichotomy i i' with q | q | q
    · exact (hlt i i' q hi' h4).elim
    · exact q
    · exact (hlt i' i q hi h4.symm).elim)
def dc_nx (b : Nat → Nat) (L : Nat → Int64) (h : Nat) : Nat → Nat → Nat
  | 0, _ => 0
  | e + 1, w => if b e = h ∧ dc_0 (L e) = w then dc_1 (L e) else dc_nx b L h e w
section
variable {b : Nat → Nat} {L : Nat → Int64} {h w : Nat}
theorem dc_nx_none : ∀ {e : Nat}, (∀ k, k < e → ¬ (b k = h ∧ dc_0 (L k) = w)) → dc_nx b L h e w = 0 := by
  intro e
  induction e with
  | zero => exact fun _ => rfl
  | succ e ih =>
    intro hn
    show (if b e = h ∧ dc_0 (L e) = w then dc_1 (L e) else dc_nx b L h e w) = 0
    rw [if_neg (hn e (by omega))]
    exact ih (fun k hk => hn k (by omega))
theorem dc_nx_some : ∀ {e : Nat}, (∀ k k', k < e → k' < e → b k = b k' → dc_0 (L k) = dc_0 (L k') → k = k') → ∀ k, k < e → b k = h → dc_0 (L k) = w → dc_nx b L h e w = dc_1 (L k) := by
  intro e
  induction e with
  | zero => exact fun _ k hk => absurd hk (Nat.not_lt_zero k)
  | succ e ih =>
    intro hu k hk h1 h2
    show (if b e = h ∧ dc_0 (L e) = w then dc_1 (L e) else dc_nx b L h e w) = _
    by_cases z : b e = h ∧ dc_0 (L e) = w
    · rw [if_pos z, hu e k (by omega) hk (z.1.trans h1.symm) (z.2.trans h2.symm)]
    · rw [if_neg z]
      have hke : k ≠ e := fun q => z (q ▸ ⟨h1, h2⟩)
      exact ih (fun i i' hi hi' => hu i i' (by omega) (by omega)) k (by omega) h1 h2
theorem dc_nx_lt : ∀ e, dc_nx b L h e w < 65536 := by
  intro e
  induction e with
  | zero => exact (by decide : (0 : Nat) < 65536)
  | succ e ih =>
    show (if b e = h ∧ dc_0 (L e) = w then dc_1 (L e) else dc_nx b L h e w) < 65536
    split
    · exact dc_1lt _
    · exact ih
theorem dc_nx_ex {e : Nat} (hz : dc_nx b L h e w ≠ 0) : ∃ k, k < e ∧ b k = h ∧ dc_0 (L k) = w := by
  by_cases z : ∃ k, k < e ∧ b k = h ∧ dc_0 (L k) = w
  · exact z
  · exact absurd (dc_nx_none (fun k hk q => z ⟨k, hk, q⟩)) hz
end
end
section
/-! the relation's parts -/
def dc_R1 (C : Nat) (N G H : Nat → Int32) : Prop :=
  C ≤ 6 ∧ (∀ i, i < C → ¬ N i = 0) ∧ (∀ i j, i < C → j < C → N i = N j → i = j) ∧
  (∀ i, ∃ g, g < 65536 ∧ G i = nI g ∧ H i &&& 65535 = nI g ∧ (H i = 0 ↔ g = 0)) ∧ (∀ i, C ≤ i → H i = 0)
def dc_R2 (C E : Nat) (N B V c : Nat → Int32) (L : Nat → Int64) (b : Nat → Nat) : Prop :=
  E ≤ 8 ∧ (∀ e, e < E → b e < C ∧ B e = nI (b e) ∧ V e = N (b e)) ∧
  (∀ e, e < E → c (e * 4) = nI (dc_0 (L e)) ∧ c (e * 4 + 1) = nI (dc_1 (L e)) ∧ c (e * 4 + 2) = nI (dc_2 (L e)) ∧ c (e * 4 + 3) = nI (dc_3 (L e))) ∧
  (∀ e, e < E → dc_0 (L e) ≠ 0) ∧
  (∀ e e', e < E → e' < E → b e = b e' → dc_0 (L e) = dc_0 (L e') → e = e')
def dc_R3 (C F : Nat) (N P Q : Nat → Int32) (p : Nat → Nat) : Prop :=
  F ≤ 6 ∧ (∀ k, k < F → p k < C ∧ P k = nI (p k) ∧ Q k = N (p k))
def dc_Rel (C E F : Nat) (N _O G H c B V P Q _S : Nat → Int32) (L : Nat → Int64) (b p : Nat → Nat) : Prop :=
  dc_R1 C N G H ∧ dc_R2 C E N B V c L b ∧ dc_R3 C F N P Q p
def dc_St (u : SX) (v : SY) : Prop := ∃ (C E F : Nat) (N O G H c B V P Q S : Nat → Int32) (L : Nat → Int64) (b p : Nat → Nat), u = (nI C, nI E, nI F, N, O, G, c, B, S, P) ∧ v = (nI C, nI E, nI F, N, O, H, L, V, S, Q) ∧ dc_Rel C E F N O G H c B V P Q S L b p
section
variable {C E F : Nat} {N O G H c B V P Q S : Nat → Int32} {L : Nat → Int64} {b p : Nat → Nat}
theorem dc_mk (R : dc_Rel C E F N O G H c B V P Q S L b p) : dc_St (nI C, nI E, nI F, N, O, G, c, B, S, P) (nI C, nI E, nI F, N, O, H, L, V, S, Q) := ⟨C, E, F, N, O, G, H, c, B, V, P, Q, S, L, b, p, rfl, rfl, R⟩
theorem dc_C (R : dc_Rel C E F N O G H c B V P Q S L b p) : C ≤ 6 := R.1.1
theorem dc_E (R : dc_Rel C E F N O G H c B V P Q S L b p) : E ≤ 8 := R.2.1.1
theorem dc_F (R : dc_Rel C E F N O G H c B V P Q S L b p) : F ≤ 6 := R.2.2.1
theorem dc_nd (R : dc_Rel C E F N O G H c B V P Q S L b p) {i j : Nat} (hi : i < C) (hj : j < C) : N i = N j ↔ i = j := ⟨R.1.2.2.1 i j hi hj, fun h => by rw [h]⟩
/-- whose entry e is, on either side -/
theorem dc_eB (R : dc_Rel C E F N O G H c B V P Q S L b p) {e h : Nat} (he : e < E) (hh : h < C) : B e = nI h ↔ b e = h := by
  obtain ⟨h1, h2, _⟩ := R.2.1.2.1 e he
  have hC := dc_C R
  rw [h2, nI_eq (by omega) (by omega)]
theorem dc_eV (R : dc_Rel C E F N O G H c B V P Q S L b p) {e h : Nat} {x : Int32} (he : e < E) (hh : h < C) (ex : N h = x) : V e = x ↔ b e = h := by
  obtain ⟨h1, _, h2⟩ := R.2.1.2.1 e he
  rw [h2, ← ex, dc_nd R h1 hh]
theorem dc_fP (R : dc_Rel C E F N O G H c B V P Q S L b p) {k h : Nat} (hk : k < F) (hh : h < C) : P k = nI h ↔ p k = h := by
  obtain ⟨h1, h2, _⟩ := R.2.2.2 k hk
  have hC := dc_C R
  rw [h2, nI_eq (by omega) (by omega)]
theorem dc_fQ (R : dc_Rel C E F N O G H c B V P Q S L b p) {k h : Nat} {x : Int32} (hk : k < F) (hh : h < C) (ex : N h = x) : Q k = x ↔ p k = h := by
  obtain ⟨h1, _, h2⟩ := R.2.2.2 k hk
  rw [h2, ← ex, dc_nd R h1 hh]
/-! places of the cells -/
theorem dc_p0 (e : Nat) : nI e * 4 = nI (e * 4) := pk_mul e 4
theorem dc_p1 (e : Nat) : nI e * 4 + 1 = nI (e * 4 + 1) := by rw [dc_p0]; exact nI_add _ 1
theorem dc_p2 (e : Nat) : nI e * 4 + 2 = nI (e * 4 + 2) := by rw [dc_p0]; exact nI_add _ 2
theorem dc_p3 (e : Nat) : nI e * 4 + 3 = nI (e * 4 + 3) := by rw [dc_p0]; exact nI_add _ 3
theorem dc_k0 {e : Nat} (h : e < 8) : (nI e * 4).toNatClampNeg = e * 4 := by rw [dc_p0]; exact nI_clamp (by omega)
theorem dc_k1 {e : Nat} (h : e < 8) : (nI e * 4 + 1).toNatClampNeg = e * 4 + 1 := by rw [dc_p1]; exact nI_clamp (by omega)
theorem dc_k2 {e : Nat} (h : e < 8) : (nI e * 4 + 2).toNatClampNeg = e * 4 + 2 := by rw [dc_p2]; exact nI_clamp (by omega)
theorem dc_k3 {e : Nat} (h : e < 8) : (nI e * 4 + 3).toNatClampNeg = e * 4 + 3 := by rw [dc_p3]; exact nI_clamp (by omega)
theorem dc_i0 {e : Nat} (h : e < 8) : vp_in (nI e * 4) 32 := by rw [dc_p0]; exact vp_in_nI (by omega) (by decide)
theorem dc_i1 {e : Nat} (h : e < 8) : vp_in (nI e * 4 + 1) 32 := by rw [dc_p1]; exact vp_in_nI (by omega) (by decide)
theorem dc_i2 {e : Nat} (h : e < 8) : vp_in (nI e * 4 + 2) 32 := by rw [dc_p2]; exact vp_in_nI (by omega) (by decide)
theorem dc_i3 {e : Nat} (h : e < 8) : vp_in (nI e * 4 + 3) 32 := by rw [dc_p3]; exact vp_in_nI (by omega) (by decide)
theorem dc_c0 (R : dc_Rel C E F N O G H c B V P Q S L b p) {e : Nat} (he : e < E) : c (nI e * 4).toNatClampNeg = nI (dc_0 (L e)) := by
  have hE := dc_E R
  rw [dc_k0 (by omega)]; exact (R.2.1.2.2.1 e he).1
theorem dc_c1 (R : dc_Rel C E F N O G H c B V P Q S L b p) {e : Nat} (he : e < E) : c (nI e * 4 + 1).toNatClampNeg = nI (dc_1 (L e)) := by
  have hE := dc_E R
  rw [dc_k1 (by omega)]; exact (R.2.1.2.2.1 e he).2.1
theorem dc_c2 (R : dc_Rel C E F N O G H c B V P Q S L b p) {e : Nat} (he : e < E) : c (nI e * 4 + 2).toNatClampNeg = nI (dc_2 (L e)) := by
  have hE := dc_E R
  rw [dc_k2 (by omega)]; exact (R.2.1.2.2.1 e he).2.2.1
theorem dc_c3 (R : dc_Rel C E F N O G H c B V P Q S L b p) {e : Nat} (he : e < E) : c (nI e * 4 + 3).toNatClampNeg = nI (dc_3 (L e)) := by
  have hE := dc_E R
  rw [dc_k3 (by omega)]; exact (R.2.1.2.2.1 e he).2.2.2
theorem dc_q {a d : Nat} (ha : a < 65536) (hd : d < 65536) : nI a = nI d ↔ a = d := nI_eq (by omega) (by omega)
/-! indexOf and slot -/
theorem dc_ixX {x : Int32} (hC : C ≤ 6) (post : Int32 → Prop) (hA : ∀ k, k < C → N k = x → post (nI k)) (hK : (∀ k, k < C → ¬ N k = x) → post (-1)) : ∃ n, wX_indexOf_8 post x (nI C) (nI E) (nI F) N O G c B S P n 0 := by
  refine dc_scan (fun n i => wX_indexOf_8 post x (nI C) (nI E) (nI F) N O G c B S P n (nI i)) (fun k => N k = x) (fun k => post (nI k)) (post (-1)) C ?_ ?_ hA hK
  · intro n h
    exact br_t (nI_le (Nat.le_refl C) (by omega)) h
  · intro n i hi hA' hs
    have ec := nI_clamp (n := i) (by omega)
    refine br_f (nI_ge hi (by omega)) (br_f (nI_ge (b := 6) (by omega) (by decide)) ⟨vp_in_nI (by omega) (by decide), ?_⟩)
    rw [ec]
    exact ⟨hA', fun z => nm_r (nI_1 i) (hs z)⟩
theorem dc_ixY {x : Int32} (hC : C ≤ 6) (post : Int32 → Prop) (hA : ∀ k, k < C → N k = x → post (nI k)) (hK : (∀ k, k < C → ¬ N k = x) → post (-1)) : ∃ n, wY_slot_4 post x (nI C) (nI E) (nI F) N O H L V S Q n (-1) 0 := by
  refine dc_fold (fun n i s => wY_slot_4 post x (nI C) (nI E) (nI F) N O H L V S Q n s (nI i)) (fun k => N k = x) (fun k => nI k) post C (-1) ?_ ?_ hK hA
  · intro n s h
    exact br_t (nI_le (Nat.le_refl C) (by omega)) h
  · intro n i s hi h1 h2
    have ec := nI_clamp (n := i) (by omega)
    refine br_f (nI_ge hi (by omega)) ⟨vp_in_nI (by omega) (by decide), ?_⟩
    rw [ec]
    exact ⟨fun z => nm_r (nI_1 i) (h1 z), fun z => nm_r (nI_1 i) (h2 z)⟩
theorem dc_look (R : dc_Rel C E F N O G H c B V P Q S L b p) (x : Int32) :
    (∃ i, i < C ∧ N i = x ∧ (∀ post : Int32 → Prop, post (nI i) → wpX_indexOf post (nI C, nI E, nI F, N, O, G, c, B, S, P) x) ∧ (∀ post : Int32 → Prop, post (nI i) → wpY_slot post (nI C, nI E, nI F, N, O, H, L, V, S, Q) x)) ∨
    ((∀ i, i < C → ¬ N i = x) ∧ (∀ post : Int32 → Prop, post (-1) → wpX_indexOf post (nI C, nI E, nI F, N, O, G, c, B, S, P) x) ∧ (∀ post : Int32 → Prop, post (-1) → wpY_slot post (nI C, nI E, nI F, N, O, H, L, V, S, Q) x)) := by
  have hC := dc_C R
  by_cases z : ∃ i, i < C ∧ N i = x
  · obtain ⟨i, hi, ei⟩ := z
    have hu : ∀ k, k < C → N k = x → k = i := fun k hk ek => R.1.2.2.1 k i hk hi (ek.trans ei.symm)
    refine Or.inl ⟨i, hi, ei, ?_, ?_⟩
    · intro post h
      exact br_f (fun q => R.1.2.1 i hi (ei.trans q)) (dc_ixX hC post (fun k hk ek => by rw [hu k hk ek]; exact h) (fun hn => absurd ei (hn i hi)))
    · intro post h
      exact dc_ixY hC post (fun k hk ek => by rw [hu k hk ek]; exact h) (fun hn => absurd ei (hn i hi))
  · have hn : ∀ i, i < C → ¬ N i = x := fun i hi q => z ⟨i, hi, q⟩
    refine Or.inr ⟨hn, ?_, ?_⟩
    · intro post h
      exact br_c (fun _ => h) (fun _ => dc_ixX hC post (fun k hk ek => absurd ek (hn k hk)) (fun _ => h))
    · intro post h
      exact dc_ixY hC post (fun k hk ek => absurd ek (hn k hk)) (fun _ => h)
/-! resolve -/
theorem dc_neg {r : Int32} (h : r = -2 ∨ r = -3) : ¬ 0 ≤ r ∧ ¬ r = 0 := by
  rcases h with z | z <;> rw [z] <;> decide
theorem dc_negw {r : Int32} (h : r = -2 ∨ r = -3) {w : Nat} (hw : w < 65536) : ¬ r = nI w := by
  intro q
  exact (dc_neg h).1 (by rw [q]; exact nI_pos' (by omega))
theorem dc_res (R : dc_Rel C E F N O G H c B V P Q S L b p) (w : Nat) :
    (∃ i, i < C ∧ N i = nI w ∧ O i = 0 ∧ (∀ post : Int32 → Prop, post (nI i) → wpX_indexOf post (nI C, nI E, nI F, N, O, G, c, B, S, P) (nI w)) ∧ (∀ post : Int32 → Prop, post (nI i) → wpY_slot post (nI C, nI E, nI F, N, O, H, L, V, S, Q) (nI w)) ∧ (∀ post : Int32 → Prop, post 0 → wpX_resolve post (nI C, nI E, nI F, N, O, G, c, B, S, P) (nI w)) ∧ (∀ post : Int32 → Prop, post (nI w) → wpY_resolve post (nI C, nI E, nI F, N, O, H, L, V, S, Q) (nI w))) ∨
    (∃ r : Int32, (r = -2 ∨ r = -3) ∧ (∀ post : Int32 → Prop, post r → wpX_resolve post (nI C, nI E, nI F, N, O, G, c, B, S, P) (nI w)) ∧ (∀ post : Int32 → Prop, post r → wpY_resolve post (nI C, nI E, nI F, N, O, H, L, V, S, Q) (nI w)) ∧
      (((∀ i, i < C → ¬ N i = nI w) ∧ (∀ post : Int32 → Prop, post (-1) → wpX_indexOf post (nI C, nI E, nI F, N, O, G, c, B, S, P) (nI w)) ∧ (∀ post : Int32 → Prop, post (-1) → wpY_slot post (nI C, nI E, nI F, N, O, H, L, V, S, Q) (nI w))) ∨
       (∃ i, i < C ∧ N i = nI w ∧ ¬ O i = 0 ∧ (∀ post : Int32 → Prop, post (nI i) → wpX_indexOf post (nI C, nI E, nI F, N, O, G, c, B, S, P) (nI w)) ∧ (∀ post : Int32 → Prop, post (nI i) → wpY_slot post (nI C, nI E, nI F, N, O, H, L, V, S, Q) (nI w))))) := by
  have hC := dc_C R
  rcases dc_look R (nI w) with ⟨i, hi, ei, hX, hY⟩ | ⟨hn, hX, hY⟩
  · have ec := nI_clamp (n := i) (by omega)
    have hin : vp_in (nI i) 6 := vp_in_nI (by omega) (by decide)
    have h0 : (0 : Int32) ≤ nI i := nI_pos' (by omega)
    have h1 : ¬ nI i < 0 := nI_pos (by omega)
    by_cases a : O i ≤ 0
    · by_cases d : 0 ≤ O i
      · refine Or.inl ⟨i, hi, ei, Int32.le_antisymm a d, hX, hY, ?_, ?_⟩
        · intro post h
          unfold wpX_resolve
          try dsimp only
          refine hX _ (br_t h0 ⟨hin, ?_⟩)
          rw [ec]
          exact br_t a ⟨hin, br_t d h⟩
        · intro post h
          unfold wpY_resolve
          try dsimp only
          refine hY _ (br_f h1 ⟨hin, ?_⟩)
          rw [ec]
          exact br_t a ⟨hin, br_t d h⟩
      · refine Or.inr ⟨-3, Or.inr rfl, ?_, ?_, Or.inr ⟨i, hi, ei, fun q => d (by rw [q]; decide), hX, hY⟩⟩
        · intro post h
          unfold wpX_resolve
          try dsimp only
          refine hX _ (br_t h0 ⟨hin, ?_⟩)
          rw [ec]
          exact br_t a ⟨hin, br_f d h⟩
        · intro post h
          unfold wpY_resolve
          try dsimp only
          refine hY _ (br_f h1 ⟨hin, ?_⟩)
          rw [ec]
          exact br_t a ⟨hin, br_f d h⟩
    · refine Or.inr ⟨-2, Or.inl rfl, ?_, ?_, Or.inr ⟨i, hi, ei, fun q => a (by rw [q]; decide), hX, hY⟩⟩
      · intro post h
        unfold wpX_resolve
        try dsimp only
        refine hX _ (br_t h0 ⟨hin, ?_⟩)
        rw [ec]
        exact br_f a h
      · intro post h
        unfold wpY_resolve
        try dsimp only
        refine hY _ (br_f h1 ⟨hin, ?_⟩)
        rw [ec]
        exact br_f a h
  · refine Or.inr ⟨-2, Or.inl rfl, ?_, ?_, Or.inl ⟨hn, hX, hY⟩⟩
    · intro post h
      unfold wpX_resolve
      try dsimp only
      exact hX _ (br_f (by decide) h)
    · intro post h
      unfold wpY_resolve
      try dsimp only
      exact hY _ (br_t (by decide) h)
/-! findInner -/
theorem dc_fiX (R : dc_Rel C E F N O G H c B V P Q S L b p) {h a : Nat} (hh : h < C) (ha : a < 65536) (post : Int32 → Prop) (hA : ∀ k, k < E → (b k = h ∧ dc_0 (L k) = a) → post (nI k)) (hK : (∀ k, k < E → ¬ (b k = h ∧ dc_0 (L k) = a)) → post (-1)) : ∃ n, wX_findInner_2 post (nI h) (nI a) (nI C) (nI E) (nI F) N O G c B S P n 0 := by
  have hE := dc_E R
  refine dc_scan (fun n i => wX_findInner_2 post (nI h) (nI a) (nI C) (nI E) (nI F) N O G c B S P n (nI i)) (fun k => b k = h ∧ dc_0 (L k) = a) (fun k => post (nI k)) (post (-1)) E ?_ ?_ hA hK
  · intro n q
    exact br_t (nI_le (Nat.le_refl E) (by omega)) q
  · intro n i hi hA' hs
    have ec := nI_clamp (n := i) (by omega)
    refine br_f (nI_ge hi (by omega)) (br_f (nI_ge (b := 8) (by omega) (by decide)) ⟨vp_in_nI (by omega) (by decide), ?_⟩)
    rw [ec]
    refine ek_if (dc_eB R hi hh) (fun z => ⟨dc_i0 (by omega), ?_⟩) (fun z => nm_r (nI_1 i) (hs (fun q => z q.1)))
    rw [dc_c0 R hi]
    exact ek_if (dc_q (dc_0lt _) ha) (fun y => hA' ⟨z, y⟩) (fun y => nm_r (nI_1 i) (hs (fun q => y q.2)))
theorem dc_find (R : dc_Rel C E F N O G H c B V P Q S L b p) {h a : Nat} (hh : h < C) (ha : a < 65536) :
    (∃ e, e < E ∧ b e = h ∧ dc_0 (L e) = a ∧ ∀ post : Int32 → Prop, post (nI e) → wpX_findInner post (nI C, nI E, nI F, N, O, G, c, B, S, P) (nI h) (nI a)) ∨
    ((∀ e, e < E → ¬ (b e = h ∧ dc_0 (L e) = a)) ∧ ∀ post : Int32 → Prop, post (-1) → wpX_findInner post (nI C, nI E, nI F, N, O, G, c, B, S, P) (nI h) (nI a)) := by
  by_cases z : ∃ e, e < E ∧ b e = h ∧ dc_0 (L e) = a
  · obtain ⟨e, he, h1, h2⟩ := z
    refine Or.inl ⟨e, he, h1, h2, fun post q => ?_⟩
    exact dc_fiX R hh ha post (fun k hk hm => by
      rw [R.2.1.2.2.2.2 k e hk he (hm.1.trans h1.symm) (hm.2.trans h2.symm)]
      exact q) (fun hn => absurd ⟨h1, h2⟩ (hn e he))
  · have hn : ∀ e, e < E → ¬ (b e = h ∧ dc_0 (L e) = a) := fun e he q => z ⟨e, he, q⟩
    exact Or.inr ⟨hn, fun post q => dc_fiX R hh ha post (fun k hk hm => absurd hm (hn k hk)) (fun _ => q)⟩
end
end
section
/-! interfaceAt and entryAt: the two counts in step -/
section
variable {C E F : Nat} {N O G H c B V P Q S : Nat → Int32} {L : Nat → Int64} {b p : Nat → Nat}
theorem dc_ifL (R : dc_Rel C E F N O G H c B V P Q S L b p) {h : Nat} {x : Int32} (hh : h < C) (ex : N h = x) (k : Int32) : ∀ d j s : Nat, j + d = F → s ≤ j →
    ∃ r : Int32, (k < 0 → r = -1) ∧ (∀ post : Int32 → Prop, post r → wX_interfaceAt_40 post k (nI h) (nI C) (nI E) (nI F) N O G c B S P (d + 1) (nI s) (nI j)) ∧ (∀ post : Int32 → Prop, post r → wY_interfaceAt_21 post k x (nI C) (nI E) (nI F) N O H L V S Q (d + 1) (nI s) (nI j)) := by
  have hF := dc_F R
  intro d
  induction d with
  | zero =>
    intro j s hj _
    exact ⟨-1, fun _ => rfl, fun post q => br_t (nI_le (by omega) (by omega)) q, fun post q => br_t (nI_le (by omega) (by omega)) q⟩
  | succ d ih =>
    intro j s hj hs
    have hjF : j < F := by omega
    have ec := nI_clamp (n := j) (by omega)
    have hin : vp_in (nI j) 6 := vp_in_nI (by omega) (by decide)
    have g1 : ¬ nI F ≤ nI j := nI_ge hjF (by omega)
    have g2 : ¬ (6 : Int32) ≤ nI j := nI_ge (b := 6) (by omega) (by decide)
    by_cases q : p j = h
    · by_cases e : nI s = k
      · refine ⟨S j, fun z => absurd z (by rw [← e]; exact nI_pos (by omega)), ?_, ?_⟩
        · intro post hp
          refine br_f g1 (br_f g2 ⟨hin, ?_⟩)
          rw [ec]
          exact br_t ((dc_fP R hjF hh).mpr q) (br_t e ⟨hin, hp⟩)
        · intro post hp
          refine br_f g1 ⟨hin, ?_⟩
          rw [ec]
          exact br_t ((dc_fQ R hjF hh ex).mpr q) (nm_r (nI_1 s) (br_t e ⟨hin, hp⟩))
      · obtain ⟨r, h0, hX, hY⟩ := ih (j + 1) (s + 1) (by omega) (by omega)
        refine ⟨r, h0, ?_, ?_⟩
        · intro post hp
          refine br_f g1 (br_f g2 ⟨hin, ?_⟩)
          rw [ec]
          exact br_t ((dc_fP R hjF hh).mpr q) (br_f e (nm_r (nI_1 s) (nm_r (nI_1 j) (hX post hp))))
        · intro post hp
          refine br_f g1 ⟨hin, ?_⟩
          rw [ec]
          exact br_t ((dc_fQ R hjF hh ex).mpr q) (nm_r (nI_1 s) (br_f e (nm_r (nI_1 j) (hY post hp))))
    · obtain ⟨r, h0, hX, hY⟩ := ih (j + 1) s (by omega) (by omega)
      refine ⟨r, h0, ?_, ?_⟩
      · intro post hp
        refine br_f g1 (br_f g2 ⟨hin, ?_⟩)
        rw [ec]
        exact br_f (fun z => q ((dc_fP R hjF hh).mp z)) (nm_r (nI_1 j) (hX post hp))
      · intro post hp
        refine br_f g1 ⟨hin, ?_⟩
        rw [ec]
        exact br_f (fun z => q ((dc_fQ R hjF hh ex).mp z)) (nm_r (nI_1 j) (hY post hp))
theorem dc_ifAt (R : dc_Rel C E F N O G H c B V P Q S L b p) (v1 v2 : Int32) : ∃ r : Int32, (∀ post : Int32 → Prop, post r → wpX_interfaceAt post (nI C, nI E, nI F, N, O, G, c, B, S, P) v1 v2) ∧ (∀ post : Int32 → Prop, post r → wpY_interfaceAt post (nI C, nI E, nI F, N, O, H, L, V, S, Q) v1 v2) := by
  have hC := dc_C R
  obtain ⟨w, hw, ew, _⟩ := em_w v1
  rcases dc_res R w with ⟨i, hi, ei, hO, hX, hY, hrX, hrY⟩ | ⟨r, hr, hrX, hrY, ⟨hn, hX, hY⟩ | ⟨i, hi, ei, hO, hX, hY⟩⟩
  · have ec := nI_clamp (n := i) (by omega)
    have hin : vp_in (nI i) 6 := vp_in_nI (by omega) (by decide)
    obtain ⟨r, h0, hlX, hlY⟩ := dc_ifL R hi ei v2 F 0 0 (by omega) (by omega)
    by_cases hk : 0 ≤ v2
    · refine ⟨r, ?_, ?_⟩
      · intro post hp
        unfold wpX_interfaceAt
        try dsimp only
        refine nm_r ew (hX _ (br_f (nI_pos (by omega)) ⟨hin, ?_⟩))
        rw [ec]
        exact br_t hO (br_t hk ⟨_, hlX post hp⟩)
      · intro post hp
        unfold wpY_interfaceAt
        try dsimp only
        exact nm_r ew (hrY _ (br_t rfl ⟨_, hlY post hp⟩))
    · refine ⟨-1, ?_, ?_⟩
      · intro post hp
        unfold wpX_interfaceAt
        try dsimp only
        refine nm_r ew (hX _ (br_f (nI_pos (by omega)) ⟨hin, ?_⟩))
        rw [ec]
        exact br_t hO (br_f hk hp)
      · intro post hp
        unfold wpY_interfaceAt
        try dsimp only
        refine nm_r ew (hrY _ (br_t rfl ⟨_, hlY post ?_⟩))
        rw [h0 (Int32.not_le.mp hk)]
        exact hp
  · refine ⟨-9, ?_, ?_⟩
    · intro post hp
      unfold wpX_interfaceAt
      try dsimp only
      exact nm_r ew (hX _ (br_t (by decide) hp))
    · intro post hp
      unfold wpY_interfaceAt
      try dsimp only
      exact nm_r ew (hrY _ (br_f (dc_negw hr hw) hp))
  · have ec := nI_clamp (n := i) (by omega)
    have hin : vp_in (nI i) 6 := vp_in_nI (by omega) (by decide)
    refine ⟨-9, ?_, ?_⟩
    · intro post hp
      unfold wpX_interfaceAt
      try dsimp only
      refine nm_r ew (hX _ (br_f (nI_pos (by omega)) ⟨hin, ?_⟩))
      rw [ec]
      exact br_f hO hp
    · intro post hp
      unfold wpY_interfaceAt
      try dsimp only
      exact nm_r ew (hrY _ (br_f (dc_negw hr hw) hp))
theorem dc_enL (R : dc_Rel C E F N O G H c B V P Q S L b p) {h : Nat} {x : Int32} (hh : h < C) (ex : N h = x) (k : Int32) : ∀ d j s : Nat, j + d = E → s ≤ j →
    ∃ r : Int64, (k < 0 → r = 0) ∧ (∀ post : Int64 → Prop, post r → wX_entryAt_29 post k (nI h) (nI C) (nI E) (nI F) N O G c B S P (d + 1) (nI s) (nI j)) ∧ (∀ post : Int64 → Prop, post r → wY_entryAt_9 post k x (nI C) (nI E) (nI F) N O H L V S Q (d + 1) (nI s) (nI j)) := by
  have hE := dc_E R
  intro d
  induction d with
  | zero =>
    intro j s hj _
    exact ⟨0, fun _ => rfl, fun post q => br_t (nI_le (by omega) (by omega)) q, fun post q => br_t (nI_le (by omega) (by omega)) q⟩
  | succ d ih =>
    intro j s hj hs
    have hjE : j < E := by omega
    have ec := nI_clamp (n := j) (by omega)
    have hin : vp_in (nI j) 8 := vp_in_nI (by omega) (by decide)
    have g1 : ¬ nI E ≤ nI j := nI_ge hjE (by omega)
    have g2 : ¬ (8 : Int32) ≤ nI j := nI_ge (b := 8) (by omega) (by decide)
    by_cases q : b j = h
    · by_cases e : nI s = k
      · refine ⟨L j, fun z => absurd z (by rw [← e]; exact nI_pos (by omega)), ?_, ?_⟩
        · intro post hp
          refine br_f g1 (br_f g2 ⟨hin, ?_⟩)
          rw [ec, dc_c0 R hjE, dc_c1 R hjE, dc_c2 R hjE, dc_c3 R hjE, dc_join]
          exact br_t ((dc_eB R hjE hh).mpr q) (br_t e ⟨dc_i0 (by omega), dc_i1 (by omega), dc_i2 (by omega), dc_i3 (by omega), hp⟩)
        · intro post hp
          refine br_f g1 ⟨hin, ?_⟩
          rw [ec]
          exact br_t ((dc_eV R hjE hh ex).mpr q) (nm_r (nI_1 s) (br_t e ⟨hin, hp⟩))
      · obtain ⟨r, h0, hX, hY⟩ := ih (j + 1) (s + 1) (by omega) (by omega)
        refine ⟨r, h0, ?_, ?_⟩
        · intro post hp
          refine br_f g1 (br_f g2 ⟨hin, ?_⟩)
          rw [ec]
          exact br_t ((dc_eB R hjE hh).mpr q) (br_f e (nm_r (nI_1 s) (nm_r (nI_1 j) (hX post hp))))
        · intro post hp
          refine br_f g1 ⟨hin, ?_⟩
          rw [ec]
          exact br_t ((dc_eV R hjE hh ex).mpr q) (nm_r (nI_1 s) (br_f e (nm_r (nI_1 j) (hY post hp))))
    · obtain ⟨r, h0, hX, hY⟩ := ih (j + 1) s (by omega) (by omega)
      refine ⟨r, h0, ?_, ?_⟩
      · intro post hp
        refine br_f g1 (br_f g2 ⟨hin, ?_⟩)
        rw [ec]
        exact br_f (fun z => q ((dc_eB R hjE hh).mp z)) (nm_r (nI_1 j) (hX post hp))
      · intro post hp
        refine br_f g1 ⟨hin, ?_⟩
        rw [ec]
        exact br_f (fun z => q ((dc_eV R hjE hh ex).mp z)) (nm_r (nI_1 j) (hY post hp))
/-- no slot of that name: Y finds no entry -/
theorem dc_enN (R : dc_Rel C E F N O G H c B V P Q S L b p) {x : Int32} (hn : ∀ i, i < C → ¬ N i = x) (k : Int32) (post : Int64 → Prop) (hp : post 0) : ∃ n, wY_entryAt_9 post k x (nI C) (nI E) (nI F) N O H L V S Q n 0 0 := by
  have hE := dc_E R
  refine dc_scan (fun n i => wY_entryAt_9 post k x (nI C) (nI E) (nI F) N O H L V S Q n 0 (nI i)) (fun _ => False) (fun _ => True) (post 0) E ?_ ?_ (fun _ _ z => z.elim) (fun _ => hp)
  · intro n q
    exact br_t (nI_le (Nat.le_refl E) (by omega)) q
  · intro n i hi _ hs
    have ec := nI_clamp (n := i) (by omega)
    refine br_f (nI_ge hi (by omega)) ⟨vp_in_nI (by omega) (by decide), ?_⟩
    rw [ec]
    obtain ⟨h1, _, h2⟩ := R.2.1.2.1 i hi
    exact br_f (by rw [h2]; exact hn _ h1) (nm_r (nI_1 i) (hs (fun z => z)))
theorem dc_enAt (R : dc_Rel C E F N O G H c B V P Q S L b p) (v1 v2 : Int32) : ∃ r : Int64, (∀ post : Int64 → Prop, post r → wpX_entryAt post (nI C, nI E, nI F, N, O, G, c, B, S, P) v1 v2) ∧ (∀ post : Int64 → Prop, post r → wpY_entryAt post (nI C, nI E, nI F, N, O, H, L, V, S, Q) v1 v2) := by
  have hC := dc_C R
  obtain ⟨w, hw, ew, _⟩ := em_w v1
  rcases dc_look R (nI w) with ⟨i, hi, ei, hX, hY⟩ | ⟨hn, hX, hY⟩
  · obtain ⟨r, h0, hlX, hlY⟩ := dc_enL R hi ei v2 E 0 0 (by omega) (by omega)
    by_cases hk : 0 ≤ v2
    · refine ⟨r, ?_, ?_⟩
      · intro post hp
        unfold wpX_entryAt
        try dsimp only
        exact nm_r ew (hX _ (br_t (nI_pos' (by omega)) (br_t hk ⟨_, hlX post hp⟩)))
      · intro post hp
        unfold wpY_entryAt
        try dsimp only
        exact nm_r ew ⟨_, hlY post hp⟩
    · refine ⟨0, ?_, ?_⟩
      · intro post hp
        unfold wpX_entryAt
        try dsimp only
        exact nm_r ew (hX _ (br_t (nI_pos' (by omega)) (br_f hk hp)))
      · intro post hp
        unfold wpY_entryAt
        try dsimp only
        refine nm_r ew ⟨_, hlY post ?_⟩
        rw [h0 (Int32.not_le.mp hk)]
        exact hp
  · refine ⟨0, ?_, ?_⟩
    · intro post hp
      unfold wpX_entryAt
      try dsimp only
      exact nm_r ew (hX _ (br_f (by decide) hp))
    · intro post hp
      unfold wpY_entryAt
      try dsimp only
      exact nm_r ew (dc_enN R hn v2 post hp)
end
end
section
/-! declaringClass, enclosingClass -/
section
variable {C E F : Nat} {N O G H c B V P Q S : Nat → Int32} {L : Nat → Int64} {b p : Nat → Nat}
theorem dc_hX (R : dc_Rel C E F N O G H c B V P Q S L b p) {j w o : Nat} (hj : j < C) (hw : w < 65536) (ho : o < 65536) (z t : Int32) (post : Int32 → Prop)
    (h1 : (∃ e, e < E ∧ b e = j ∧ dc_0 (L e) = w ∧ dc_1 (L e) = o) → wX_declaringClass_188 post z t 1 (nI C) (nI E) (nI F) N O G c B S P)
    (h0 : (¬ ∃ e, e < E ∧ b e = j ∧ dc_0 (L e) = w ∧ dc_1 (L e) = o) → wX_declaringClass_188 post z t 0 (nI C) (nI E) (nI F) N O G c B S P) :
    ∃ n, wX_declaringClass_122 post (nI w) (nI o) z t (nI j) (nI C) (nI E) (nI F) N O G c B S P n 0 0 := by
  have hE := dc_E R
  refine dc_fold (fun n i s => wX_declaringClass_122 post (nI w) (nI o) z t (nI j) (nI C) (nI E) (nI F) N O G c B S P n s (nI i)) (fun e => b e = j ∧ dc_0 (L e) = w ∧ dc_1 (L e) = o) (fun _ => 1) (fun s => wX_declaringClass_188 post z t s (nI C) (nI E) (nI F) N O G c B S P) E 0 ?_ ?_ (fun hn => h0 (fun q => by obtain ⟨e, he, hm⟩ := q; exact hn e he hm)) (fun e he hm => h1 ⟨e, he, hm⟩)
  · intro n s q
    exact br_t (nI_le (Nat.le_refl E) (by omega)) q
  · intro n i s hi k1 k2
    have ec := nI_clamp (n := i) (by omega)
    refine br_f (nI_ge hi (by omega)) (br_f (nI_ge (b := 8) (by omega) (by decide)) ⟨vp_in_nI (by omega) (by decide), ?_⟩)
    rw [ec, dc_c0 R hi, dc_c1 R hi]
    exact ek_if (dc_eB R hi hj) (fun y => ⟨dc_i0 (by omega), ek_if (dc_q (dc_0lt _) hw) (fun y' => ⟨dc_i1 (by omega), ek_if (dc_q (dc_1lt _) ho) (fun y'' => nm_r (nI_1 i) (k1 ⟨y, y', y''⟩)) (fun y'' => nm_r (nI_1 i) (k2 (fun q => y'' q.2.2)))⟩) (fun y' => nm_r (nI_1 i) (k2 (fun q => y' q.2.1)))⟩) (fun y => nm_r (nI_1 i) (k2 (fun q => y q.1)))
theorem dc_hY (R : dc_Rel C E F N O G H c B V P Q S L b p) {j w o : Nat} {x : Int32} (hj : j < C) (ex : N j = x) (hw : w < 65536) (ho : o < 65536) (post : Int32 → Prop)
    (h1 : (∃ e, e < E ∧ b e = j ∧ dc_0 (L e) = w ∧ dc_1 (L e) = o) → post 1)
    (h0 : (¬ ∃ e, e < E ∧ b e = j ∧ dc_0 (L e) = w ∧ dc_1 (L e) = o) → post 0) :
    wpY_holds post (nI C, nI E, nI F, N, O, H, L, V, S, Q) x ((nI w <<< ((16 : Int32) &&& 31)) ||| nI o) := by
  have hE := dc_E R
  refine dc_scan (fun n i => wY_holds_2 post x ((nI w <<< ((16 : Int32) &&& 31)) ||| nI o) (nI C) (nI E) (nI F) N O H L V S Q n (nI i)) (fun e => b e = j ∧ dc_0 (L e) = w ∧ dc_1 (L e) = o) (fun _ => post 1) (post 0) E ?_ ?_ (fun e he hm => h1 ⟨e, he, hm⟩) (fun hn => h0 (fun q => by obtain ⟨e, he, hm⟩ := q; exact hn e he hm))
  · intro n q
    exact br_t (nI_le (Nat.le_refl E) (by omega)) q
  · intro n i hi hA hs
    have ec := nI_clamp (n := i) (by omega)
    refine br_f (nI_ge hi (by omega)) ⟨vp_in_nI (by omega) (by decide), ?_⟩
    rw [ec]
    exact ek_if (dc_eV R hi hj ex) (fun y => ⟨vp_in_nI (by omega) (by decide), ek_if (dc_hold hw ho (L i)) (fun y' => hA ⟨y, y'⟩) (fun y' => nm_r (nI_1 i) (hs (fun q => y' q.2)))⟩) (fun y => nm_r (nI_1 i) (hs (fun q => y q.1)))
theorem dc_tail (R : dc_Rel C E F N O G H c B V P Q S L b p) {w o t : Nat} {z : Int32} (hw : w < 65536) (ho : o < 65536) (ht : t < 65536) (ht0 : t ≠ 0) (hz : z = 0 ↔ o = 0) (hot : o ≠ 0 → t = o) :
    ∃ r : Int32, (∀ post : Int32 → Prop, post r → wX_declaringClass_92 post (nI w) (nI o) z (nI t) (nI C) (nI E) (nI F) N O G c B S P) ∧ (∀ post : Int32 → Prop, post r → wY_declaringClass_110 post (nI w) (nI o) (nI t) (nI C) (nI E) (nI F) N O H L V S Q) := by
  have hC := dc_C R
  rcases dc_res R t with ⟨j, hj, ej, hO, hX, hY, hrX, hrY⟩ | ⟨r, hr, hrX, hrY, _⟩
  · by_cases hh : ∃ e, e < E ∧ b e = j ∧ dc_0 (L e) = w ∧ dc_1 (L e) = o
    · by_cases o0 : o = 0
      · refine ⟨-1, ?_, ?_⟩
        · intro post hp
          unfold wX_declaringClass_92
          exact hrX _ (br_t rfl (hX _ (dc_hX R hj hw ho z (nI t) post (fun _ => br_f (by decide) (br_t (hz.mpr o0) hp)) (fun q => absurd hh q))))
        · intro post hp
          unfold wY_declaringClass_110
          exact br_f (nI_ne0 (by omega) (by omega)) (hrY _ (br_t (nI_pos' (by omega)) (dc_hY R hj ej hw ho _ (fun _ => br_f (by decide) (br_t (by rw [o0]; rfl) hp)) (fun q => absurd hh q))))
      · refine ⟨nI o, ?_, ?_⟩
        · intro post hp
          unfold wX_declaringClass_92
          refine hrX _ (br_t rfl (hX _ (dc_hX R hj hw ho z (nI t) post (fun _ => br_f (by decide) (br_f (fun q => o0 (hz.mp q)) ?_)) (fun q => absurd hh q))))
          rw [hot o0]
          exact hp
        · intro post hp
          unfold wY_declaringClass_110
          exact br_f (nI_ne0 (by omega) (by omega)) (hrY _ (br_t (nI_pos' (by omega)) (dc_hY R hj ej hw ho _ (fun _ => br_f (by decide) (br_f (nI_ne0 (by omega) (by omega)) hp)) (fun q => absurd hh q))))
    · refine ⟨-4, ?_, ?_⟩
      · intro post hp
        unfold wX_declaringClass_92
        exact hrX _ (br_t rfl (hX _ (dc_hX R hj hw ho z (nI t) post (fun q => absurd q hh) (fun _ => br_t rfl hp))))
      · intro post hp
        unfold wY_declaringClass_110
        exact br_f (nI_ne0 (by omega) (by omega)) (hrY _ (br_t (nI_pos' (by omega)) (dc_hY R hj ej hw ho _ (fun q => absurd q hh) (fun _ => br_t rfl hp))))
  · refine ⟨r, ?_, ?_⟩
    · intro post hp
      unfold wX_declaringClass_92
      exact hrX _ (br_f (dc_neg hr).2 hp)
    · intro post hp
      unfold wY_declaringClass_110
      exact br_f (nI_ne0 (by omega) (by omega)) (hrY _ (br_f (dc_neg hr).1 hp))
theorem dc_own (R : dc_Rel C E F N O G H c B V P Q S L b p) {i w : Nat} (hi : i < C) (ei : N i = nI w) (hw : w < 65536) (post : Int32 → Prop)
    (hA : ∀ e, e < E → (b e = i ∧ dc_0 (L e) = w) → ∀ n, wY_declaringClass_25 post (nI w) (nI C) (nI E) (nI F) N O H L V S Q (n + 1) (L e) (-1))
    (hK : (∀ e, e < E → ¬ (b e = i ∧ dc_0 (L e) = w)) → ∀ n, wY_declaringClass_25 post (nI w) (nI C) (nI E) (nI F) N O H L V S Q (n + 1) 0 (-1)) :
    ∃ n, wY_declaringClass_25 post (nI w) (nI C) (nI E) (nI F) N O H L V S Q n 0 (nI E - 1) := by
  have hE := dc_E R
  refine dc_foldD (fun n i s => wY_declaringClass_25 post (nI w) (nI C) (nI E) (nI F) N O H L V S Q n s (nI i - 1)) (fun e => b e = i ∧ dc_0 (L e) = w) L (fun s => ∀ n, wY_declaringClass_25 post (nI w) (nI C) (nI E) (nI F) N O H L V S Q (n + 1) s (-1)) E 0 ?_ ?_ hK hA
  · intro n s q
    have e : nI 0 - 1 = -1 := by decide
    show wY_declaringClass_25 post (nI w) (nI C) (nI E) (nI F) N O H L V S Q (n + 1) s (nI 0 - 1)
    rw [e]
    exact q n
  · intro n e s he k1 k2
    have ec := nI_clamp (n := e) (by omega)
    have em : nI e + (-1) = nI e - 1 := (Int32.sub_eq_add_neg (nI e) 1).symm
    show wY_declaringClass_25 post (nI w) (nI C) (nI E) (nI F) N O H L V S Q (n + 1) s (nI (e + 1) - 1)
    rw [nI_pred]
    refine br_f (nI_pos (by omega)) ⟨vp_in_nI (by omega) (by decide), ?_⟩
    rw [ec]
    exact ek_if (dc_eV R he hi ei) (fun y => ⟨vp_in_nI (by omega) (by decide), nm_e (ek_if (dc_long hw (L e)) (fun y' => nm_r em (k1 ⟨y, y'⟩)) (fun y' => nm_r em (k2 (fun q => y' q.2))))⟩) (fun y => nm_r em (k2 (fun q => y q.1)))
theorem dc_decl (R : dc_Rel C E F N O G H c B V P Q S L b p) (v1 : Int32) : ∃ r : Int32, (∀ post : Int32 → Prop, post r → wpX_declaringClass post (nI C, nI E, nI F, N, O, G, c, B, S, P) v1) ∧ (∀ post : Int32 → Prop, post r → wpY_declaringClass post (nI C, nI E, nI F, N, O, H, L, V, S, Q) v1) := by
  have hC := dc_C R
  have hE := dc_E R
  obtain ⟨w, hw, ew, _⟩ := em_w v1
  rcases dc_res R w with ⟨i, hi, ei, hO, hX, hY, hrX, hrY⟩ | ⟨r, hr, hrX, hrY, ⟨hn, hX, hY⟩ | ⟨i, hi, ei, hO, hX, hY⟩⟩
  · have ec := nI_clamp (n := i) (by omega)
    have hin : vp_in (nI i) 6 := vp_in_nI (by omega) (by decide)
    have hp0 : ¬ nI i < 0 := nI_pos (by omega)
    rcases dc_find R hi hw with ⟨e, he, hb, h0, hf⟩ | ⟨hn, hf⟩
    · have hu : ∀ k, k < E → (b k = i ∧ dc_0 (L k) = w) → k = e := fun k hk hm => R.2.1.2.2.2.2 k e hk he (hm.1.trans hb.symm) (hm.2.trans h0.symm)
      have hne : ¬ L e = 0 := dc_ne0 (R.2.1.2.2.2.1 e he)
      have ho := dc_1lt (L e)
      obtain ⟨g, hg, eG, eH, hz⟩ := R.1.2.2.2.1 i
      have hxs : ∀ (post : Int32 → Prop), (∀ z : Int32, (z = 0 ↔ dc_1 (L e) = 0) → wX_declaringClass_63 post (nI w) (nI i) (nI (dc_1 (L e))) z (nI C) (nI E) (nI F) N O G c B S P) → wpX_declaringClass post (nI C, nI E, nI F, N, O, G, c, B, S, P) v1 := by
        intro post q
        unfold wpX_declaringClass
        try dsimp only
        refine nm_r ew (hX _ (br_f hp0 ⟨hin, ?_⟩))
        rw [ec]
        refine br_t hO (hf _ (br_t (nI_pos' (by omega)) ⟨dc_i1 (by omega), nm_r (dc_c1 R he) (pk_eq (dc_1 (L e)) 0 (fun y => q 0 ?_) (fun y => q 1 ?_))⟩))
        · exact ⟨fun _ => y, fun _ => rfl⟩
        · exact ⟨fun z => absurd z (by decide), fun z => absurd z y⟩
      have hys : ∀ (post : Int32 → Prop), (dc_1 (L e) = 0 → wY_declaringClass_110 post (nI w) (nI (dc_1 (L e))) (nI g) (nI C) (nI E) (nI F) N O H L V S Q) → (dc_1 (L e) ≠ 0 → wY_declaringClass_110 post (nI w) (nI (dc_1 (L e))) (nI (dc_1 (L e))) (nI C) (nI E) (nI F) N O H L V S Q) → wpY_declaringClass post (nI C, nI E, nI F, N, O, H, L, V, S, Q) v1 := by
        intro post q1 q2
        unfold wpY_declaringClass
        try dsimp only
        refine nm_r ew (hrY _ (br_t rfl (nm_e (dc_own R hi ei hw post ?_ (fun hn => absurd ⟨hb, h0⟩ (hn e he))))))
        intro k hk hm n
        rw [hu k hk hm]
        refine br_t (by decide) (br_f hne (nm_r (dc_y1 (L e)) (pk_eq (dc_1 (L e)) 0 (fun y => hY _ ⟨hin, ?_⟩) (fun y => q2 y))))
        rw [ec, eH]
        exact q1 y
      by_cases o0 : dc_1 (L e) = 0
      · by_cases g0 : g = 0
        · refine ⟨-1, ?_, ?_⟩
          · intro post hp
            refine hxs post (fun z hz' => ?_)
            unfold wX_declaringClass_63
            refine br_t (hz'.mpr o0) ⟨hin, ?_⟩
            rw [ec]
            exact nm_r eG (br_t (by rw [g0]; rfl) hp)
          · intro post hp
            refine hys post (fun _ => ?_) (fun q => absurd o0 q)
            unfold wY_declaringClass_110
            exact br_t (by rw [g0]; rfl) hp
        · obtain ⟨r, hlX, hlY⟩ := dc_tail R (w := w) (o := dc_1 (L e)) (t := g) (z := 0) hw ho hg g0 ⟨fun _ => o0, fun _ => rfl⟩ (fun q => absurd o0 q)
          refine ⟨r, ?_, ?_⟩
          · intro post hp
            refine hxs post (fun z hz' => ?_)
            have ez : z = 0 := hz'.mpr o0
            rw [ez]
            unfold wX_declaringClass_63
            refine br_t rfl ⟨hin, ?_⟩
            rw [ec]
            exact nm_r eG (br_f (nI_ne0 (by omega) (by omega)) (hlX post hp))
          · intro post hp
            exact hys post (fun _ => hlY post hp) (fun q => absurd o0 q)
      · have hall : ∀ z : Int32, (z = 0 ↔ dc_1 (L e) = 0) → ∃ r : Int32, (∀ post : Int32 → Prop, post r → wX_declaringClass_92 post (nI w) (nI (dc_1 (L e))) z (nI (dc_1 (L e))) (nI C) (nI E) (nI F) N O G c B S P) ∧ (∀ post : Int32 → Prop, post r → wY_declaringClass_110 post (nI w) (nI (dc_1 (L e))) (nI (dc_1 (L e))) (nI C) (nI E) (nI F) N O H L V S Q) := fun z hz' => dc_tail R hw ho ho o0 hz' (fun _ => rfl)
        obtain ⟨r, hlX, hlY⟩ := hall 1 ⟨fun z => absurd z (by decide), fun z => absurd z o0⟩
        refine ⟨r, ?_, ?_⟩
        · intro post hp
          unfold wpX_declaringClass
          try dsimp only
          refine nm_r ew (hX _ (br_f hp0 ⟨hin, ?_⟩))
          rw [ec]
          refine br_t hO (hf _ (br_t (nI_pos' (by omega)) ⟨dc_i1 (by omega), nm_r (dc_c1 R he) (br_f (nI_ne0 (by omega) (by omega)) ?_)⟩))
          unfold wX_declaringClass_63
          exact br_f (by decide) (hlX post hp)
        · intro post hp
          exact hys post (fun q => absurd q o0) (fun _ => hlY post hp)
    · refine ⟨-1, ?_, ?_⟩
      · intro post hp
        unfold wpX_declaringClass
        try dsimp only
        refine nm_r ew (hX _ (br_f hp0 ⟨hin, ?_⟩))
        rw [ec]
        exact br_t hO (hf _ (br_f (by decide) hp))
      · intro post hp
        unfold wpY_declaringClass
        try dsimp only
        exact nm_r ew (hrY _ (br_t rfl (nm_e (dc_own R hi ei hw post (fun e he hm => absurd hm (hn e he)) (fun _ n => br_t (by decide) (br_t rfl hp))))))
  · refine ⟨-9, ?_, ?_⟩
    · intro post hp
      unfold wpX_declaringClass
      try dsimp only
      exact nm_r ew (hX _ (br_t (by decide) hp))
    · intro post hp
      unfold wpY_declaringClass
      try dsimp only
      exact nm_r ew (hrY _ (br_f (dc_negw hr hw) hp))
  · have ec := nI_clamp (n := i) (by omega)
    have hin : vp_in (nI i) 6 := vp_in_nI (by omega) (by decide)
    refine ⟨-9, ?_, ?_⟩
    · intro post hp
      unfold wpX_declaringClass
      try dsimp only
      refine nm_r ew (hX _ (br_f (nI_pos (by omega)) ⟨hin, ?_⟩))
      rw [ec]
      exact br_f hO hp
    · intro post hp
      unfold wpY_declaringClass
      try dsimp only
      exact nm_r ew (hrY _ (br_f (dc_negw hr hw) hp))
theorem dc_encl (R : dc_Rel C E F N O G H c B V P Q S L b p) (v1 : Int32) : ∃ r : Int32, (∀ post : Int32 → Prop, post r → wpX_enclosingClass post (nI C, nI E, nI F, N, O, G, c, B, S, P) v1) ∧ (∀ post : Int32 → Prop, post r → wpY_enclosingClass post (nI C, nI E, nI F, N, O, H, L, V, S, Q) v1) := by
  have hC := dc_C R
  obtain ⟨w, hw, ew, _⟩ := em_w v1
  rcases dc_res R w with ⟨i, hi, ei, hO, hX, hY, hrX, hrY⟩ | ⟨r, hr, hrX, hrY, ⟨hn, hX, hY⟩ | ⟨i, hi, ei, hO, hX, hY⟩⟩
  · have ec := nI_clamp (n := i) (by omega)
    have hin : vp_in (nI i) 6 := vp_in_nI (by omega) (by decide)
    have hp0 : ¬ nI i < 0 := nI_pos (by omega)
    obtain ⟨g, hg, eG, eH, hz⟩ := R.1.2.2.2.1 i
    have hxs : ∀ (post : Int32 → Prop), (g = 0 → wpX_declaringClass (fun r_32 => (post r_32)) (nI C, nI E, nI F, N, O, G, c, B, S, P) (nI w)) → (g ≠ 0 → wpX_resolve (fun r_19 => (((r_19 = 0 → (((nI g = nI w → (post (-5))) ∧ (¬ nI g = nI w → (post (nI g)))))) ∧ (¬ r_19 = 0 → (post r_19))))) (nI C, nI E, nI F, N, O, G, c, B, S, P) (nI g)) → wpX_enclosingClass post (nI C, nI E, nI F, N, O, G, c, B, S, P) v1 := by
      intro post q1 q2
      unfold wpX_enclosingClass
      try dsimp only
      refine nm_r ew (hX _ (br_f hp0 ⟨hin, ?_⟩))
      rw [ec]
      exact br_t hO ⟨hin, nm_r eG (pk_eq g 0 q1 q2)⟩
    have hys : ∀ (post : Int32 → Prop), (g = 0 → wpY_declaringClass (fun r_40 => (post r_40)) (nI C, nI E, nI F, N, O, H, L, V, S, Q) (nI w)) → (g ≠ 0 → wpY_resolve (fun r_28 => (((r_28 = nI w → (post (-5))) ∧ (¬ r_28 = nI w → (post r_28))))) (nI C, nI E, nI F, N, O, H, L, V, S, Q) (nI g)) → wpY_enclosingClass post (nI C, nI E, nI F, N, O, H, L, V, S, Q) v1 := by
      intro post q1 q2
      unfold wpY_enclosingClass
      try dsimp only
      refine nm_r ew (hrY _ (br_t rfl (hY _ ⟨hin, ?_⟩)))
      rw [ec]
      exact nm_r eH (pk_eq g 0 q1 q2)
    by_cases g0 : g = 0
    · obtain ⟨r, hdX, hdY⟩ := dc_decl R (nI w)
      exact ⟨r, fun post hp => hxs post (fun _ => hdX _ hp) (fun q => absurd g0 q), fun post hp => hys post (fun _ => hdY _ hp) (fun q => absurd g0 q)⟩
    · rcases dc_res R g with ⟨j, hj, ej, hO2, hX2, hY2, hrX2, hrY2⟩ | ⟨r, hr, hrX2, hrY2, _⟩
      · by_cases gw : g = w
        · exact ⟨-5, fun post hp => hxs post (fun q => absurd q g0) (fun _ => hrX2 _ (br_t rfl (br_t (by rw [gw]) hp))), fun post hp => hys post (fun q => absurd q g0) (fun _ => hrY2 _ (br_t (by rw [gw]) hp))⟩
        · have hgw : ¬ nI g = nI w := fun q => gw ((dc_q hg hw).mp q)
          exact ⟨nI g, fun post hp => hxs post (fun q => absurd q g0) (fun _ => hrX2 _ (br_t rfl (br_f hgw hp))), fun post hp => hys post (fun q => absurd q g0) (fun _ => hrY2 _ (br_f hgw hp))⟩
      · exact ⟨r, fun post hp => hxs post (fun q => absurd q g0) (fun _ => hrX2 _ (br_f (dc_neg hr).2 hp)), fun post hp => hys post (fun q => absurd q g0) (fun _ => hrY2 _ (br_f (dc_negw hr hw) hp))⟩
  · refine ⟨-9, ?_, ?_⟩
    · intro post hp
      unfold wpX_enclosingClass
      try dsimp only
      exact nm_r ew (hX _ (br_t (by decide) hp))
    · intro post hp
      unfold wpY_enclosingClass
      try dsimp only
      exact nm_r ew (hrY _ (br_f (dc_negw hr hw) hp))
  · have ec := nI_clamp (n := i) (by omega)
    have hin : vp_in (nI i) 6 := vp_in_nI (by omega) (by decide)
    refine ⟨-9, ?_, ?_⟩
    · intro post hp
      unfold wpX_enclosingClass
      try dsimp only
      refine nm_r ew (hX _ (br_f (nI_pos (by omega)) ⟨hin, ?_⟩))
      rw [ec]
      exact br_f hO hp
    · intro post hp
      unfold wpY_enclosingClass
      try dsimp only
      exact nm_r ew (hrY _ (br_f (dc_negw hr hw) hp))
end
end
section
/-! addClass, setEnclosing, addInterface -/
def dc_ub (b : Nat → Nat) (k x : Nat) : Nat → Nat := fun j => if j = k then x else b j
theorem dc_us {b : Nat → Nat} {k x : Nat} : dc_ub b k x k = x := if_pos rfl
theorem dc_un {b : Nat → Nat} {k x j : Nat} (h : j ≠ k) : dc_ub b k x j = b j := if_neg h
section
variable {C E F : Nat} {N O G H c B V P Q S : Nat → Int32} {L : Nat → Int64} {b p : Nat → Nat}
theorem dc_Rc (R : dc_Rel C E F N O G H c B V P Q S L b p) (hC : C < 6) {w : Nat} (hw : w < 65536) (h0 : w ≠ 0) (hn : ∀ i, i < C → ¬ N i = nI w) (x : Int32) :
    dc_Rel (C + 1) E F (upd N C (nI w)) (upd O C x) (upd G C 0) H c B V P Q S L b p := by
  obtain ⟨⟨_, h2, h3, h4, h5⟩, ⟨k1, k2, k3⟩, ⟨m1, m2⟩⟩ := R
  have hold : ∀ i, i < C → upd N C (nI w) i = N i := fun i hi => pk_un (by omega)
  have hnew : upd N C (nI w) C = nI w := pk_us
  refine ⟨⟨by omega, ?_, ?_, ?_, ?_⟩, ⟨k1, ?_, k3⟩, ⟨m1, ?_⟩⟩
  · intro i hi
    rcases Nat.lt_or_ge i C with z | z
    · rw [hold i z]; exact h2 i z
    · have e : i = C := by omega
      rw [e, hnew]; exact nI_ne0 (by omega) (by omega)
  · intro i j hi hj q
    rcases Nat.lt_or_ge i C with z | z
    · rw [hold i z] at q
      rcases Nat.lt_or_ge j C with y | y
      · rw [hold j y] at q; exact h3 i j z y q
      · have e : j = C := by omega
        rw [e, hnew] at q; exact absurd q (hn i z)
    · have e : i = C := by omega
      rw [e, hnew] at q
      rcases Nat.lt_or_ge j C with y | y
      · rw [hold j y] at q; exact absurd q.symm (hn j y)
      · omega
  · intro i
    by_cases z : i = C
    · rw [z]
      have e := h5 C (Nat.le_refl C)
      exact ⟨0, by decide, pk_us, by rw [e]; decide, ⟨fun _ => rfl, fun _ => e⟩⟩
    · rw [pk_un z]; exact h4 i
  · exact fun i hi => h5 i (by omega)
  · intro e he
    obtain ⟨a1, a2, a3⟩ := k2 e he
    exact ⟨by omega, a2, by rw [hold _ a1]; exact a3⟩
  · intro k hk
    obtain ⟨a1, a2, a3⟩ := m2 k hk
    exact ⟨by omega, a2, by rw [hold _ a1]; exact a3⟩
theorem dc_addC (R : dc_Rel C E F N O G H c B V P Q S L b p) (v1 v2 : Int32) : ∃ (r : Int32) (u' : SX) (v' : SY), dc_St u' v' ∧ (∀ post : Int32 → SX → Prop, post r u' → wpX_addClass post (nI C, nI E, nI F, N, O, G, c, B, S, P) v1 v2) ∧ (∀ post : Int32 → SY → Prop, post r v' → wpY_addClass post (nI C, nI E, nI F, N, O, H, L, V, S, Q) v1 v2) := by
  have hC := dc_C R
  obtain ⟨w, hw, ew, _⟩ := em_w v1
  by_cases w0 : w = 0
  · refine ⟨1, _, _, dc_mk R, ?_, ?_⟩
    · intro post hp
      unfold wpX_addClass
      try dsimp only
      exact nm_r ew (br_t (by rw [w0]; rfl) hp)
    · intro post hp
      unfold wpY_addClass
      try dsimp only
      exact nm_r ew (br_t (by rw [w0]; rfl) hp)
  · have wz : ¬ nI w = 0 := nI_ne0 (by omega) (by omega)
    rcases dc_look R (nI w) with ⟨i, hi, ei, hX, hY⟩ | ⟨hn, hX, hY⟩
    · have hp0 : ¬ nI i < 0 := nI_pos (by omega)
      refine ⟨2, _, _, dc_mk R, ?_, ?_⟩
      · intro post hp
        unfold wpX_addClass
        try dsimp only
        exact nm_r ew (br_f wz (hX _ (br_f hp0 hp)))
      · intro post hp
        unfold wpY_addClass
        try dsimp only
        exact nm_r ew (br_f wz (hY _ (br_f hp0 hp)))
    · by_cases hc : C < 6
      · have hl : nI C < 6 := nI_lt (b := 6) hc (by decide)
        have hin : vp_in (nI C) 6 := vp_in_nI hc (by decide)
        have ec := nI_clamp (n := C) (by omega)
        have e0 : vp_nar .char 0 = 0 := dc_sc' (w := 0) (by decide)
        refine ⟨0, _, _, dc_mk (dc_Rc R hc hw w0 hn (vp_nar .byte v2.toInt8.toInt32)), ?_, ?_⟩
        · intro post hp
          unfold wpX_addClass
          try dsimp only
          refine nm_r ew (br_f wz (hX _ (br_t (by decide) (br_t hl ⟨hin, ?_⟩))))
          rw [ec, dc_sc hw, e0, nI_1]
          exact nm_e ⟨hin, nm_e ⟨hin, nm_e (nm_e hp)⟩⟩
        · intro post hp
          unfold wpY_addClass
          try dsimp only
          refine nm_r ew (br_f wz (hY _ (br_t (by decide) (br_t hl ⟨hin, ?_⟩))))
          rw [ec, dc_sc' hw, nI_1]
          exact nm_e (nm_e ⟨hin, nm_e hp⟩)
      · have hl : ¬ nI C < 6 := nI_nlt (b := 6) (by omega) (by omega)
        refine ⟨3, _, _, dc_mk R, ?_, ?_⟩
        · intro post hp
          unfold wpX_addClass
          try dsimp only
          exact nm_r ew (br_f wz (hX _ (br_t (by decide) (br_f hl hp))))
        · intro post hp
          unfold wpY_addClass
          try dsimp only
          exact nm_r ew (br_f wz (hY _ (br_t (by decide) (br_f hl hp))))
theorem dc_Rs (R : dc_Rel C E F N O G H c B V P Q S L b p) {i w : Nat} {z : Int32} (hi : i < C) (hw : w < 65536) (hz : z &&& 65535 = nI w) (h0 : z = 0 ↔ w = 0) :
    dc_Rel C E F N O (upd G i (nI w)) (upd H i z) c B V P Q S L b p := by
  obtain ⟨⟨h1, h2, h3, h4, h5⟩, R2, R3⟩ := R
  refine ⟨⟨h1, h2, h3, ?_, ?_⟩, R2, R3⟩
  · intro j
    by_cases q : j = i
    · rw [q, pk_us, pk_us]; exact ⟨w, hw, rfl, hz, h0⟩
    · rw [pk_un q, pk_un q]; exact h4 j
  · intro j hj
    rw [pk_un (by omega)]; exact h5 j hj
theorem dc_setE (R : dc_Rel C E F N O G H c B V P Q S L b p) (v1 v2 : Int32) : ∃ (r : Int32) (u' : SX) (v' : SY), dc_St u' v' ∧ (∀ post : Int32 → SX → Prop, post r u' → wpX_setEnclosing post (nI C, nI E, nI F, N, O, G, c, B, S, P) v1 v2) ∧ (∀ post : Int32 → SY → Prop, post r v' → wpY_setEnclosing post (nI C, nI E, nI F, N, O, H, L, V, S, Q) v1 v2) := by
  have hC := dc_C R
  obtain ⟨w, hw, ew, _⟩ := em_w v1
  obtain ⟨m, hm, em, es, ez⟩ := dc_sh v2
  rcases dc_look R (nI w) with ⟨i, hi, ei, hX, hY⟩ | ⟨hn, hX, hY⟩
  · have ec := nI_clamp (n := i) (by omega)
    have hin : vp_in (nI i) 6 := vp_in_nI (by omega) (by decide)
    have hp0 : (0 : Int32) ≤ nI i := nI_pos' (by omega)
    obtain ⟨g, hg, eG, eH, hz⟩ := R.1.2.2.2.1 i
    by_cases m0 : m = 0
    · refine ⟨2, _, _, dc_mk R, ?_, ?_⟩
      · intro post hp
        unfold wpX_setEnclosing
        try dsimp only
        exact nm_r ew (nm_r em (hX _ (br_t hp0 (br_t (by rw [m0]; rfl) hp))))
      · intro post hp
        unfold wpY_setEnclosing
        try dsimp only
        rw [ew]
        exact hY _ (br_t hp0 (br_t (ez.mpr m0) hp))
    · have mz : ¬ nI m = 0 := nI_ne0 (by omega) (by omega)
      have mz2 : ¬ v2.toInt16.toInt32 = 0 := fun q => m0 (ez.mp q)
      by_cases g0 : g = 0
      · have eG0 : G i = 0 := by rw [eG, g0]; rfl
        refine ⟨0, _, _, dc_mk (dc_Rs R hi hm es ez), ?_, ?_⟩
        · intro post hp
          unfold wpX_setEnclosing
          try dsimp only
          refine nm_r ew (nm_r em (hX _ (br_t hp0 (br_f mz ⟨hin, ?_⟩))))
          rw [ec, dc_sc hm]
          exact br_t eG0 ⟨hin, nm_e hp⟩
        · intro post hp
          unfold wpY_setEnclosing
          try dsimp only
          rw [ew]
          refine hY _ (br_t hp0 (br_f mz2 ⟨hin, ?_⟩))
          rw [ec, pk_vs]
          exact br_t (hz.mpr g0) ⟨hin, nm_e hp⟩
      · have eG0 : ¬ G i = 0 := by rw [eG]; exact nI_ne0 (by omega) (by omega)
        refine ⟨3, _, _, dc_mk R, ?_, ?_⟩
        · intro post hp
          unfold wpX_setEnclosing
          try dsimp only
          refine nm_r ew (nm_r em (hX _ (br_t hp0 (br_f mz ⟨hin, ?_⟩))))
          rw [ec]
          exact br_f eG0 hp
        · intro post hp
          unfold wpY_setEnclosing
          try dsimp only
          rw [ew]
          refine hY _ (br_t hp0 (br_f mz2 ⟨hin, ?_⟩))
          rw [ec]
          exact br_f (fun q => g0 (hz.mp q)) hp
  · refine ⟨1, _, _, dc_mk R, ?_, ?_⟩
    · intro post hp
      unfold wpX_setEnclosing
      try dsimp only
      exact nm_r ew (nm_r em (hX _ (br_f (by decide) hp)))
    · intro post hp
      unfold wpY_setEnclosing
      try dsimp only
      rw [ew]
      exact hY _ (br_f (by decide) hp)
theorem dc_aiX (R : dc_Rel C E F N O G H c B V P Q S L b p) {i m : Nat} (hi : i < C) (post : Int32 → SX → Prop)
    (hA : ∀ k, k < F → (p k = i ∧ S k = nI m) → post 4 (nI C, nI E, nI F, N, O, G, c, B, S, P))
    (hK : (∀ k, k < F → ¬ (p k = i ∧ S k = nI m)) → wX_addInterface_111 post (nI m) (nI i) (nI C) (nI E) (nI F) N O G c B S P) : ∃ n, wX_addInterface_63 post (nI m) (nI i) (nI C) (nI E) (nI F) N O G c B S P n 0 := by
  have hF := dc_F R
  refine dc_scan (fun n k => wX_addInterface_63 post (nI m) (nI i) (nI C) (nI E) (nI F) N O G c B S P n (nI k)) (fun k => p k = i ∧ S k = nI m) (fun _ => post 4 (nI C, nI E, nI F, N, O, G, c, B, S, P)) (wX_addInterface_111 post (nI m) (nI i) (nI C) (nI E) (nI F) N O G c B S P) F ?_ ?_ hA hK
  · intro n q
    exact br_t (nI_le (Nat.le_refl F) (by omega)) q
  · intro n k hk hA' hs
    have ec := nI_clamp (n := k) (by omega)
    have hin : vp_in (nI k) 6 := vp_in_nI (by omega) (by decide)
    refine br_f (nI_ge hk (by omega)) (br_f (nI_ge (b := 6) (by omega) (by decide)) ⟨hin, ?_⟩)
    rw [ec]
    exact ek_if (dc_fP R hk hi) (fun y => ⟨hin, fun y' => hA' ⟨y, y'⟩, fun y' => nm_r (nI_1 k) (hs (fun q => y' q.2))⟩) (fun y => nm_r (nI_1 k) (hs (fun q => y q.1)))
theorem dc_aiY (R : dc_Rel C E F N O G H c B V P Q S L b p) {i m : Nat} {x : Int32} (hi : i < C) (ex : N i = x) (post : Int32 → SY → Prop)
    (hA : ∀ k, k < F → (p k = i ∧ S k = nI m) → post 4 (nI C, nI E, nI F, N, O, H, L, V, S, Q))
    (hK : (∀ k, k < F → ¬ (p k = i ∧ S k = nI m)) → ∀ n, wY_addInterface_63 post x (nI m) (nI C) (nI E) (nI F) N O H L V S Q (n + 1) (nI F)) : ∃ n, wY_addInterface_63 post x (nI m) (nI C) (nI E) (nI F) N O H L V S Q n 0 := by
  have hF := dc_F R
  refine dc_scan (fun n k => wY_addInterface_63 post x (nI m) (nI C) (nI E) (nI F) N O H L V S Q n (nI k)) (fun k => p k = i ∧ S k = nI m) (fun _ => post 4 (nI C, nI E, nI F, N, O, H, L, V, S, Q)) (∀ n, wY_addInterface_63 post x (nI m) (nI C) (nI E) (nI F) N O H L V S Q (n + 1) (nI F)) F ?_ ?_ hA hK
  · intro n q
    exact q n
  · intro n k hk hA' hs
    have ec := nI_clamp (n := k) (by omega)
    have hin : vp_in (nI k) 6 := vp_in_nI (by omega) (by decide)
    refine br_f (nI_ge hk (by omega)) ⟨hin, ?_⟩
    rw [ec]
    exact ek_if (dc_fQ R hk hi ex) (fun y => ⟨hin, fun y' => hA' ⟨y, y'⟩, fun y' => nm_r (nI_1 k) (hs (fun q => y' q.2))⟩) (fun y => nm_r (nI_1 k) (hs (fun q => y q.1)))
theorem dc_Ri (R : dc_Rel C E F N O G H c B V P Q S L b p) {i : Nat} {x y : Int32} (hi : i < C) (ex : N i = x) (hF : F < 6) :
    dc_Rel C E (F + 1) N O G H c B V (upd P F (nI i)) (upd Q F x) (upd S F y) L b (dc_ub p F i) := by
  obtain ⟨R1, R2, ⟨_, m2⟩⟩ := R
  refine ⟨R1, R2, ⟨by omega, ?_⟩⟩
  intro k hk
  by_cases z : k = F
  · rw [z, pk_us, pk_us, dc_us]; exact ⟨hi, rfl, ex.symm⟩
  · rw [pk_un z, pk_un z, dc_un z]; exact m2 k (by omega)
theorem dc_addI (R : dc_Rel C E F N O G H c B V P Q S L b p) (v1 v2 : Int32) : ∃ (r : Int32) (u' : SX) (v' : SY), dc_St u' v' ∧ (∀ post : Int32 → SX → Prop, post r u' → wpX_addInterface post (nI C, nI E, nI F, N, O, G, c, B, S, P) v1 v2) ∧ (∀ post : Int32 → SY → Prop, post r v' → wpY_addInterface post (nI C, nI E, nI F, N, O, H, L, V, S, Q) v1 v2) := by
  have hC := dc_C R
  have hF := dc_F R
  obtain ⟨w, hw, ew, _⟩ := em_w v1
  obtain ⟨m, hm, em, _⟩ := em_w v2
  rcases dc_look R (nI w) with ⟨i, hi, ei, hX, hY⟩ | ⟨hn, hX, hY⟩
  · have hp0 : (0 : Int32) ≤ nI i := nI_pos' (by omega)
    by_cases m0 : m = 0
    · refine ⟨2, _, _, dc_mk R, ?_, ?_⟩
      · intro post hp
        unfold wpX_addInterface
        try dsimp only
        exact nm_r ew (nm_r em (hX _ (br_t hp0 (br_t (by rw [m0]; rfl) hp))))
      · intro post hp
        unfold wpY_addInterface
        try dsimp only
        exact nm_r ew (nm_r em (hY _ (br_t hp0 (br_t (by rw [m0]; rfl) hp))))
    · have mz : ¬ nI m = 0 := nI_ne0 (by omega) (by omega)
      rcases dc_look R (nI m) with ⟨j, hj, ej, hX2, hY2⟩ | ⟨hn, hX2, hY2⟩
      · have ec := nI_clamp (n := j) (by omega)
        have hin : vp_in (nI j) 6 := vp_in_nI (by omega) (by decide)
        have hj0 : ¬ nI j < 0 := nI_pos (by omega)
        by_cases ok : O j = 0 ∧ j < i
        · have hlt : nI j < nI i := nI_lt ok.2 (by omega)
          have hnle : ¬ nI i ≤ nI j := nI_ge ok.2 (by omega)
          have hxs : ∀ post : Int32 → SX → Prop, (∃ n, wX_addInterface_63 post (nI m) (nI i) (nI C) (nI E) (nI F) N O G c B S P n 0) → wpX_addInterface post (nI C, nI E, nI F, N, O, G, c, B, S, P) v1 v2 := by
            intro post q
            unfold wpX_addInterface
            try dsimp only
            refine nm_r ew (nm_r em (hX _ (br_t hp0 (br_f mz (hX2 _ (br_f hj0 ⟨hin, ?_⟩))))))
            rw [ec]
            exact br_t ok.1 (br_t hlt q)
          have hys : ∀ post : Int32 → SY → Prop, (∃ n, wY_addInterface_63 post (nI w) (nI m) (nI C) (nI E) (nI F) N O H L V S Q n 0) → wpY_addInterface post (nI C, nI E, nI F, N, O, H, L, V, S, Q) v1 v2 := by
            intro post q
            unfold wpY_addInterface
            try dsimp only
            refine nm_r ew (nm_r em (hY _ (br_t hp0 (br_f mz (hY2 _ (br_f hj0 (br_f hnle ⟨hin, ?_⟩)))))))
            rw [ec]
            exact br_t ok.1 q
          by_cases dup : ∃ k, k < F ∧ p k = i ∧ S k = nI m
          · obtain ⟨k, hk, hd⟩ := dup
            exact ⟨4, _, _, dc_mk R, fun post hp => hxs post (dc_aiX R hi post (fun _ _ _ => hp) (fun q => absurd hd (q k hk))), fun post hp => hys post (dc_aiY R hi ei post (fun _ _ _ => hp) (fun q => absurd hd (q k hk)))⟩
          · by_cases hf : F < 6
            · have hl : nI F < 6 := nI_lt (b := 6) hf (by decide)
              have hinF : vp_in (nI F) 6 := vp_in_nI hf (by decide)
              have eF := nI_clamp (n := F) (by omega)
              refine ⟨0, _, _, dc_mk (dc_Ri (y := nI m) R hi ei hf), ?_, ?_⟩
              · intro post hp
                refine hxs post (dc_aiX R hi post (fun k hk q => absurd ⟨k, hk, q⟩ dup) (fun _ => ?_))
                unfold wX_addInterface_111
                refine br_t hl ⟨hinF, ?_⟩
                rw [eF, dc_sc hm, dc_sB (by omega), nI_1]
                exact nm_e ⟨hinF, nm_e (nm_e hp)⟩
              · intro post hp
                refine hys post (dc_aiY R hi ei post (fun k hk q => absurd ⟨k, hk, q⟩ dup) (fun _ n => ?_))
                refine br_t (nI_le (Nat.le_refl F) (by omega)) (br_t hl ⟨hinF, ?_⟩)
                rw [eF, dc_sc' hw, dc_sc' hm, nI_1]
                exact nm_e (nm_e ⟨hinF, nm_e hp⟩)
            · have hl : ¬ nI F < 6 := nI_nlt (b := 6) (by omega) (by omega)
              refine ⟨5, _, _, dc_mk R, ?_, ?_⟩
              · intro post hp
                refine hxs post (dc_aiX R hi post (fun k hk q => absurd ⟨k, hk, q⟩ dup) (fun _ => ?_))
                unfold wX_addInterface_111
                exact br_f hl hp
              · intro post hp
                exact hys post (dc_aiY R hi ei post (fun k hk q => absurd ⟨k, hk, q⟩ dup) (fun _ n => br_t (nI_le (Nat.le_refl F) (by omega)) (br_f hl hp)))
        · refine ⟨3, _, _, dc_mk R, ?_, ?_⟩
          · intro post hp
            unfold wpX_addInterface
            try dsimp only
            refine nm_r ew (nm_r em (hX _ (br_t hp0 (br_f mz (hX2 _ (br_f hj0 ⟨hin, ?_⟩))))))
            rw [ec]
            exact br_c (fun z => br_f (fun q => ok ⟨z, (nI_ltI (by omega) (by omega)).mp q⟩) hp) (fun _ => hp)
          · intro post hp
            unfold wpY_addInterface
            try dsimp only
            refine nm_r ew (nm_r em (hY _ (br_t hp0 (br_f mz (hY2 _ (br_f hj0 (br_c (fun _ => hp) (fun q => ⟨hin, ?_⟩))))))))
            rw [ec]
            rw [nI_leI (by omega) (by omega)] at q
            exact br_f (fun z => ok ⟨z, by omega⟩) hp
      · refine ⟨3, _, _, dc_mk R, ?_, ?_⟩
        · intro post hp
          unfold wpX_addInterface
          try dsimp only
          exact nm_r ew (nm_r em (hX _ (br_t hp0 (br_f mz (hX2 _ (br_t (by decide) hp))))))
        · intro post hp
          unfold wpY_addInterface
          try dsimp only
          exact nm_r ew (nm_r em (hY _ (br_t hp0 (br_f mz (hY2 _ (br_t (by decide) hp))))))
  · refine ⟨1, _, _, dc_mk R, ?_, ?_⟩
    · intro post hp
      unfold wpX_addInterface
      try dsimp only
      exact nm_r ew (nm_r em (hX _ (br_f (by decide) hp)))
    · intro post hp
      unfold wpY_addInterface
      try dsimp only
      exact nm_r ew (nm_r em (hY _ (br_f (by decide) hp)))
end
end
section
/-! addInner -/
section
variable {C E F : Nat} {N O G H c B V P Q S : Nat → Int32} {L : Nat → Int64} {b p : Nat → Nat}
theorem dc_g0 (R : dc_Rel C E F N O G H c B V P Q S L b p) (h : Nat) : dc_nx b L h E 0 = 0 := dc_nx_none (fun k hk q => R.2.1.2.2.2.1 k hk q.2)
theorem dc_stX (R : dc_Rel C E F N O G H c B V P Q S L b p) {h a o : Nat} (hh : h < C) (ha : a < 65536) (a0 : a ≠ 0) (ho : o < 65536) (x8 x9 : Int32) (post : Int32 → SX → Prop)
    (hA : (∃ j, j < 9 ∧ dc_T (dc_nx b L h E) o (j + 1) = a) → post 6 (nI C, nI E, nI F, N, O, G, c, B, S, P))
    (hK : (¬ ∃ j, j < 9 ∧ dc_T (dc_nx b L h E) o (j + 1) = a) → wX_addInner_212 post (nI h) (nI a) (nI o) x8 x9 (nI C) (nI E) (nI F) N O G c B S P) :
    ∃ n, wX_addInner_150 post (nI h) (nI a) (nI o) x8 x9 (nI C) (nI E) (nI F) N O G c B S P n (nI o) 0 := by
  have hE := dc_E R
  have g0 := dc_g0 R h
  have hlt := dc_Tlt (g := dc_nx b L h E) ho (fun _ => dc_nx_lt E)
  have key : ∀ d i, i + d = 9 → (∀ j, j < i → dc_T (dc_nx b L h E) o (j + 1) ≠ a) → wX_addInner_150 post (nI h) (nI a) (nI o) x8 x9 (nI C) (nI E) (nI F) N O G c B S P (d + 1) (nI (dc_T (dc_nx b L h E) o i)) (nI i) := by
    intro d
    induction d with
    | zero =>
      intro i hi hn
      exact br_t (nI_lt (a := 8) (by omega) (by omega)) (hK (fun q => by obtain ⟨j, hj, e⟩ := q; exact hn j (by omega) e))
    | succ d ih =>
      intro i hi hn
      have hs := hlt i
      have hs1 := hlt (i + 1)
      have stop : dc_T (dc_nx b L h E) o (i + 1) = 0 → wX_addInner_212 post (nI h) (nI a) (nI o) x8 x9 (nI C) (nI E) (nI F) N O G c B S P := by
        intro z
        refine hK (fun q => ?_)
        obtain ⟨j, hj, e⟩ := q
        rcases Nat.lt_or_ge j i with y | y
        · exact hn j y e
        · have q2 := dc_Tz g0 z (j - i)
          have e2 : i + 1 + (j - i) = j + 1 := by omega
          rw [e2, e] at q2
          exact a0 q2
      refine br_f (nI_nlt (a := 8) (by omega) (by decide)) (pk_eq (dc_T (dc_nx b L h E) o i) 0 (fun z => stop ?_) (fun z => ?_))
      · show dc_nx b L h E (dc_T (dc_nx b L h E) o i) = 0
        rw [z, g0]
      · rcases dc_find R hh hs with ⟨e, he, hb, h0, hf⟩ | ⟨hno, hf⟩
        · have en : dc_T (dc_nx b L h E) o (i + 1) = dc_1 (L e) := dc_nx_some R.2.1.2.2.2.2 e he hb h0
          refine hf _ (br_t (nI_pos' (by omega)) ⟨dc_i1 (by omega), nm_r (e' := nI (dc_T (dc_nx b L h E) o (i + 1))) ?_ (pk_eq (dc_T (dc_nx b L h E) o (i + 1)) a (fun y => hA ⟨i, by omega, y⟩) (fun y => nm_r (nI_1 i) (ih (i + 1) (by omega) (lt_s hn y))))⟩)
          rw [dc_c1 R he, en]
        · exact hf _ (br_f (by decide) (stop (dc_nx_none hno)))
  exact ⟨_, key 9 0 (by omega) (fun j hj => absurd hj (Nat.not_lt_zero j))⟩
theorem dc_nxY (R : dc_Rel C E F N O G H c B V P Q S L b p) {h cur : Nat} {x : Int32} (hh : h < C) (ex : N h = x) (hc : cur < 65536) (ent : Int64) (x5 x8 : Int32) (J : Int32 → Int32 → Prop) (post : Int32 → SY → Prop)
    (hJ : ∀ n, wY_addInner_139 post J ent x x5 (nI cur) x8 (nI C) (nI E) (nI F) N O H L V S Q (n + 1) (nI (dc_nx b L h E cur)) (nI E)) :
    ∃ n, wY_addInner_139 post J ent x x5 (nI cur) x8 (nI C) (nI E) (nI F) N O H L V S Q n 0 0 := by
  have hE := dc_E R
  refine dc_fold (fun n i s => wY_addInner_139 post J ent x x5 (nI cur) x8 (nI C) (nI E) (nI F) N O H L V S Q n s (nI i)) (fun k => b k = h ∧ dc_0 (L k) = cur) (fun k => nI (dc_1 (L k))) (fun s => ∀ n, wY_addInner_139 post J ent x x5 (nI cur) x8 (nI C) (nI E) (nI F) N O H L V S Q (n + 1) s (nI E)) E 0 (fun n s q => q n) ?_ ?_ ?_
  · intro n i s hi k1 k2
    have ec := nI_clamp (n := i) (by omega)
    have hin : vp_in (nI i) 8 := vp_in_nI (by omega) (by decide)
    refine br_f (nI_ge hi (by omega)) ⟨hin, ?_⟩
    rw [ec, dc_y0]
    exact ek_if (dc_eV R hi hh ex) (fun y => ⟨hin, ek_if (dc_q (dc_0lt _) hc) (fun y' => ⟨hin, nm_r (dc_y1 (L i)) (nm_r (nI_1 i) (k1 ⟨y, y'⟩))⟩) (fun y' => nm_r (nI_1 i) (k2 (fun q => y' q.2)))⟩) (fun y => nm_r (nI_1 i) (k2 (fun q => y q.1)))
  · intro hn
    rw [dc_nx_none hn] at hJ
    exact hJ
  · intro k hk hm
    rw [dc_nx_some R.2.1.2.2.2.2 k hk hm.1 hm.2] at hJ
    exact hJ
theorem dc_stY (R : dc_Rel C E F N O G H c B V P Q S L b p) {h a o : Nat} {x : Int32} (hh : h < C) (ex : N h = x) (ha : a < 65536) (ho : o < 65536) (ent : Int64) (post : Int32 → SY → Prop)
    (hA : (∃ j, j < E ∧ dc_T (dc_nx b L h E) o (j + 1) = a) → post 6 (nI C, nI E, nI F, N, O, H, L, V, S, Q))
    (hK : (¬ ∃ j, j < E ∧ dc_T (dc_nx b L h E) o (j + 1) = a) → ∀ n cur, wY_addInner_124 post ent x (nI a) (nI C) (nI E) (nI F) N O H L V S Q (n + 1) cur (nI E)) :
    ∃ n, wY_addInner_124 post ent x (nI a) (nI C) (nI E) (nI F) N O H L V S Q n (nI o) 0 := by
  have hE := dc_E R
  have hlt := dc_Tlt (g := dc_nx b L h E) ho (fun _ => dc_nx_lt E)
  refine dc_scan (fun n i => wY_addInner_124 post ent x (nI a) (nI C) (nI E) (nI F) N O H L V S Q n (nI (dc_T (dc_nx b L h E) o i)) (nI i)) (fun i => dc_T (dc_nx b L h E) o (i + 1) = a) (fun _ => post 6 (nI C, nI E, nI F, N, O, H, L, V, S, Q)) (∀ n cur, wY_addInner_124 post ent x (nI a) (nI C) (nI E) (nI F) N O H L V S Q (n + 1) cur (nI E)) E (fun n q => q n _) ?_ (fun k hk hm => hA ⟨k, hk, hm⟩) (fun hn => hK (fun q => by obtain ⟨j, hj, e⟩ := q; exact hn j hj e))
  intro n i hi hA' hs
  have h1 := hlt (i + 1)
  refine br_f (nI_ge hi (by omega)) (dc_nxY R hh ex (hlt i) ent (nI a) (nI i) _ post ?_)
  intro m
  exact br_t (nI_le (Nat.le_refl E) (by omega)) (pk_eq (dc_T (dc_nx b L h E) o (i + 1)) a hA' (fun y => nm_r (nI_1 i) (hs y)))
theorem dc_dupY (R : dc_Rel C E F N O G H c B V P Q S L b p) {h a : Nat} {x : Int32} (hh : h < C) (ex : N h = x) (ha : a < 65536) (ent : Int64) (x6 : Int32) (post : Int32 → SY → Prop)
    (h4 : ∀ k, k < E → b k = h → L k = ent → post 4 (nI C, nI E, nI F, N, O, H, L, V, S, Q))
    (h5 : ∀ k, k < E → b k = h ∧ dc_0 (L k) = a → (∀ k, k < E → b k = h → ¬ L k = ent) → post 5 (nI C, nI E, nI F, N, O, H, L, V, S, Q))
    (hK : (∀ k, k < E → ¬ (b k = h ∧ dc_0 (L k) = a)) → ∃ n, wY_addInner_124 post ent x (nI a) (nI C) (nI E) (nI F) N O H L V S Q n x6 0) :
    ∃ n, wY_addInner_54 post ent x (nI a) x6 (nI C) (nI E) (nI F) N O H L V S Q n 0 0 := by
  have hE := dc_E R
  refine loop_0 (fun n i s => wY_addInner_54 post ent x (nI a) x6 (nI C) (nI E) (nI F) N O H L V S Q n s (nI i)) (fun i s => (∀ k, k < i → b k = h → ¬ L k = ent) ∧ ((s = 0 ∧ ∀ k, k < i → ¬ (b k = h ∧ dc_0 (L k) = a)) ∨ (s = 1 ∧ ∃ k, k < i ∧ b k = h ∧ dc_0 (L k) = a))) E 0 ⟨fun k hk => absurd hk (Nat.not_lt_zero k), Or.inl ⟨rfl, fun k hk => absurd hk (Nat.not_lt_zero k)⟩⟩ ?_ ?_
  · intro n s I
    obtain ⟨I1, I2⟩ := I
    rcases I2 with ⟨e, hn⟩ | ⟨e, k, hk, hm⟩
    · exact br_t (nI_le (Nat.le_refl E) (by omega)) (br_t e (hK hn))
    · exact br_t (nI_le (Nat.le_refl E) (by omega)) (br_f (by rw [e]; decide) (h5 k hk hm I1))
  · intro n i s hi I ih
    obtain ⟨I1, I2⟩ := I
    have ec := nI_clamp (n := i) (by omega)
    have hin : vp_in (nI i) 8 := vp_in_nI (by omega) (by decide)
    have keep : ¬ (b i = h ∧ dc_0 (L i) = a) → ((s = 0 ∧ ∀ k, k < i + 1 → ¬ (b k = h ∧ dc_0 (L k) = a)) ∨ (s = 1 ∧ ∃ k, k < i + 1 ∧ b k = h ∧ dc_0 (L k) = a)) := by
      intro z
      rcases I2 with ⟨e, hn⟩ | ⟨e, k, hk, hm⟩
      · exact Or.inl ⟨e, lt_s hn z⟩
      · exact Or.inr ⟨e, k, by omega, hm⟩
    refine br_f (nI_ge hi (by omega)) ⟨hin, ?_⟩
    rw [ec, dc_y0]
    refine ek_if (dc_eV R hi hh ex) (fun y => ⟨hin, br_c (fun z => h4 i hi y z) (fun z => ⟨hin, ?_⟩)⟩) (fun y => nm_r (nI_1 i) (ih s ⟨lt_s I1 (fun q => absurd q y), keep (fun q => y q.1)⟩))
    exact ek_if (dc_q (dc_0lt _) ha) (fun y' => nm_r (nI_1 i) (ih 1 ⟨lt_s I1 (fun _ => z), Or.inr ⟨rfl, i, by omega, y, y'⟩⟩)) (fun y' => nm_r (nI_1 i) (ih s ⟨lt_s I1 (fun _ => z), keep (fun q => y' q.2)⟩))
theorem dc_Re (R : dc_Rel C E F N O G H c B V P Q S L b p) {h : Nat} {x : Int32} {ent : Int64} (hh : h < C) (ex : N h = x) (hE : E < 8) (h0 : dc_0 ent ≠ 0) (hn : ∀ e, e < E → ¬ (b e = h ∧ dc_0 (L e) = dc_0 ent)) :
    dc_Rel C (E + 1) F N O G H (upd (upd (upd (upd c (E * 4) (nI (dc_0 ent))) (E * 4 + 1) (nI (dc_1 ent))) (E * 4 + 2) (nI (dc_2 ent))) (E * 4 + 3) (nI (dc_3 ent))) (upd B E (nI h)) (upd V E x) P Q S (vp_updL L E ent) (dc_ub b E h) p := by
  obtain ⟨R1, ⟨k1, k2, k3, k4, k5⟩, R3⟩ := R
  have u0 : dc_ub b E h E = h := dc_us
  have u1 : ∀ e, e ≠ E → dc_ub b E h e = b e := fun e z => dc_un z
  have l0 : vp_updL L E ent E = ent := pk_uLs
  have l1 : ∀ e, e ≠ E → vp_updL L E ent e = L e := fun e z => pk_uLn z
  refine ⟨R1, ⟨by omega, ?_, ?_, ?_, ?_⟩, R3⟩
  · intro e he
    by_cases z : e = E
    · rw [z, u0, pk_us, pk_us]; exact ⟨hh, rfl, ex.symm⟩
    · rw [u1 e z, pk_un z, pk_un z]; exact k2 e (by omega)
  · intro e he
    by_cases z : e = E
    · rw [z, l0]
      refine ⟨?_, ?_, ?_, ?_⟩
      · rw [pk_un (by omega), pk_un (by omega), pk_un (by omega), pk_us]
      · rw [pk_un (by omega), pk_un (by omega), pk_us]
      · rw [pk_un (by omega), pk_us]
      · rw [pk_us]
    · have hb : ∀ r, r < 4 → (upd (upd (upd (upd c (E * 4) (nI (dc_0 ent))) (E * 4 + 1) (nI (dc_1 ent))) (E * 4 + 2) (nI (dc_2 ent))) (E * 4 + 3) (nI (dc_3 ent))) (e * 4 + r) = c (e * 4 + r) := by
        intro r hr
        rw [pk_un (by omega), pk_un (by omega), pk_un (by omega), pk_un (by omega)]
      rw [l1 e z]
      obtain ⟨c0, c1, c2, c3⟩ := k3 e (by omega)
      exact ⟨(hb 0 (by decide)).trans c0, (hb 1 (by decide)).trans c1, (hb 2 (by decide)).trans c2, (hb 3 (by decide)).trans c3⟩
  · intro e he
    by_cases z : e = E
    · rw [z, l0]; exact h0
    · rw [l1 e z]; exact k4 e (by omega)
  · intro e e' he he' q1 q2
    by_cases z : e = E
    · by_cases y : e' = E
      · rw [z, y]
      · rw [z, u0, u1 e' y] at q1
        rw [z, l0, l1 e' y] at q2
        exact absurd ⟨q1.symm, q2.symm⟩ (hn e' (by omega))
    · by_cases y : e' = E
      · rw [y, u0, u1 e z] at q1
        rw [y, l0, l1 e z] at q2
        exact absurd ⟨q1, q2⟩ (hn e (by omega))
      · rw [u1 e z, u1 e' y] at q1
        rw [l1 e z, l1 e' y] at q2
        exact k5 e e' (by omega) (by omega) q1 q2
theorem dc_addE (R : dc_Rel C E F N O G H c B V P Q S L b p) (v1 : Int32) (ent : Int64) : ∃ (r : Int32) (u' : SX) (v' : SY), dc_St u' v' ∧ (∀ post : Int32 → SX → Prop, post r u' → wpX_addInner post (nI C, nI E, nI F, N, O, G, c, B, S, P) v1 ent) ∧ (∀ post : Int32 → SY → Prop, post r v' → wpY_addInner post (nI C, nI E, nI F, N, O, H, L, V, S, Q) v1 ent) := by
  have hC := dc_C R
  have hE := dc_E R
  obtain ⟨w, hw, ew, _⟩ := em_w v1
  have ha := dc_0lt ent
  have ho := dc_1lt ent
  have e2 := dc_2lt ent
  have e3 := dc_3lt ent
  rcases dc_look R (nI w) with ⟨h, hh, eh, hX, hY⟩ | ⟨hn, hX, hY⟩
  · have hp0 : (0 : Int32) ≤ nI h := nI_pos' (by omega)
    by_cases a0 : dc_0 ent = 0
    · refine ⟨2, _, _, dc_mk R, ?_, ?_⟩
      · intro post hp
        unfold wpX_addInner
        try dsimp only
        exact nm_r ew (hX _ (br_t hp0 (nm_r (dc_x0 ent) (nm_r (dc_x1 ent) (nm_r (dc_x2 ent) (nm_r (dc_x3 ent) (br_t (by rw [a0]; rfl) hp)))))))
      · intro post hp
        unfold wpY_addInner
        try dsimp only
        exact nm_r ew (hY _ (br_t hp0 (nm_r (dc_y0 ent) (br_t (by rw [a0]; rfl) hp))))
    · have az : ¬ nI (dc_0 ent) = 0 := nI_ne0 (by omega) (by omega)
      by_cases ao : dc_0 ent = dc_1 ent
      · refine ⟨3, _, _, dc_mk R, ?_, ?_⟩
        · intro post hp
          unfold wpX_addInner
          try dsimp only
          exact nm_r ew (hX _ (br_t hp0 (nm_r (dc_x0 ent) (nm_r (dc_x1 ent) (nm_r (dc_x2 ent) (nm_r (dc_x3 ent) (br_f az (br_t (by rw [ao]) hp))))))))
        · intro post hp
          unfold wpY_addInner
          try dsimp only
          exact nm_r ew (hY _ (br_t hp0 (nm_r (dc_y0 ent) (br_f az (nm_r (dc_y1 ent) (br_t (by rw [ao]) hp))))))
      · have aoz : ¬ nI (dc_0 ent) = nI (dc_1 ent) := fun q => ao ((dc_q ha ho).mp q)
        have hys : ∀ post : Int32 → SY → Prop, (∃ n, wY_addInner_54 post ent (nI w) (nI (dc_0 ent)) (nI (dc_1 ent)) (nI C) (nI E) (nI F) N O H L V S Q n 0 0) → wpY_addInner post (nI C, nI E, nI F, N, O, H, L, V, S, Q) v1 ent := by
          intro post q
          unfold wpY_addInner
          try dsimp only
          exact nm_r ew (hY _ (br_t hp0 (nm_r (dc_y0 ent) (br_f az (nm_r (dc_y1 ent) (br_f aoz q))))))
        rcases dc_find R hh ha with ⟨e, he, hb, h0, hf⟩ | ⟨hno, hf⟩
        · have hu : ∀ k, k < E → b k = h ∧ dc_0 (L k) = dc_0 ent → k = e := fun k hk hm => R.2.1.2.2.2.2 k e hk he (hm.1.trans hb.symm) (hm.2.trans h0.symm)
          have hps : ¬ nI e < 0 := nI_pos (by omega)
          by_cases same : L e = ent
          · refine ⟨4, _, _, dc_mk R, ?_, ?_⟩
            · intro post hp
              unfold wpX_addInner
              try dsimp only
              refine nm_r ew (hX _ (br_t hp0 (nm_r (dc_x0 ent) (nm_r (dc_x1 ent) (nm_r (dc_x2 ent) (nm_r (dc_x3 ent) (br_f az (br_f aoz (hf _ (br_f hps ⟨dc_i1 (by omega), ?_⟩))))))))))
              rw [dc_c1 R he, dc_c2 R he, dc_c3 R he, same]
              exact br_t rfl ⟨dc_i2 (by omega), br_t rfl ⟨dc_i3 (by omega), br_t rfl hp⟩⟩
            · intro post hp
              exact hys post (dc_dupY R hh eh ha ent _ post (fun _ _ _ _ => hp) (fun k hk hm q => absurd same (q e he hb)) (fun q => absurd ⟨hb, h0⟩ (q e he)))
          · have hdiff : dc_1 (L e) = dc_1 ent → dc_2 (L e) = dc_2 ent → dc_3 (L e) = dc_3 ent → False := fun q1 q2 q3 => same (dc_ext h0 q1 q2 q3)
            refine ⟨5, _, _, dc_mk R, ?_, ?_⟩
            · intro post hp
              unfold wpX_addInner
              try dsimp only
              refine nm_r ew (hX _ (br_t hp0 (nm_r (dc_x0 ent) (nm_r (dc_x1 ent) (nm_r (dc_x2 ent) (nm_r (dc_x3 ent) (br_f az (br_f aoz (hf _ (br_f hps ⟨dc_i1 (by omega), ?_⟩))))))))))
              rw [dc_c1 R he, dc_c2 R he, dc_c3 R he]
              exact ek_if (dc_q (dc_1lt _) ho) (fun q1 => ⟨dc_i2 (by omega), ek_if (dc_q (dc_2lt _) e2) (fun q2 => ⟨dc_i3 (by omega), ek_if (dc_q (dc_3lt _) e3) (fun q3 => (hdiff q1 q2 q3).elim) (fun _ => hp)⟩) (fun _ => hp)⟩) (fun _ => hp)
            · intro post hp
              exact hys post (dc_dupY R hh eh ha ent _ post (fun k hk q1 q2 => absurd q2 (by
                intro z
                have q3 := hu k hk ⟨q1, by rw [z]⟩
                rw [q3] at z
                exact same z)) (fun _ _ _ _ => hp) (fun q => absurd ⟨hb, h0⟩ (q e he)))
        · have hxs : ∀ post : Int32 → SX → Prop, (∃ n, wX_addInner_150 post (nI h) (nI (dc_0 ent)) (nI (dc_1 ent)) (nI (dc_2 ent)) (nI (dc_3 ent)) (nI C) (nI E) (nI F) N O G c B S P n (nI (dc_1 ent)) 0) → wpX_addInner post (nI C, nI E, nI F, N, O, G, c, B, S, P) v1 ent := by
            intro post q
            unfold wpX_addInner
            try dsimp only
            exact nm_r ew (hX _ (br_t hp0 (nm_r (dc_x0 ent) (nm_r (dc_x1 ent) (nm_r (dc_x2 ent) (nm_r (dc_x3 ent) (br_f az (br_f aoz (hf _ (br_t (by decide) q))))))))))
          have hyk : ∀ post : Int32 → SY → Prop, (∃ n, wY_addInner_124 post ent (nI w) (nI (dc_0 ent)) (nI C) (nI E) (nI F) N O H L V S Q n (nI (dc_1 ent)) 0) → wpY_addInner post (nI C, nI E, nI F, N, O, H, L, V, S, Q) v1 ent := fun post q => hys post (dc_dupY R hh eh ha ent _ post (fun k hk q1 q2 => absurd ⟨q1, by rw [q2]⟩ (hno k hk)) (fun k hk hm _ => absurd hm (hno k hk)) (fun _ => q))
          have hmeet : (∃ j, j < 9 ∧ dc_T (dc_nx b L h E) (dc_1 ent) (j + 1) = dc_0 ent) ↔ (∃ j, j < E ∧ dc_T (dc_nx b L h E) (dc_1 ent) (j + 1) = dc_0 ent) := by
            constructor
            · intro q
              obtain ⟨j, _, e⟩ := q
              exact dc_chain (fun e => dc_0 (L e)) (dc_g0 R h) a0 (fun z hz => by
                obtain ⟨k, hk, _, q⟩ := dc_nx_ex hz
                exact ⟨k, hk, q⟩) e
            · intro q
              obtain ⟨j, hj, e⟩ := q
              exact ⟨j, by omega, e⟩
          by_cases hit : ∃ j, j < E ∧ dc_T (dc_nx b L h E) (dc_1 ent) (j + 1) = dc_0 ent
          · exact ⟨6, _, _, dc_mk R, fun post hp => hxs post (dc_stX R hh ha a0 ho _ _ post (fun _ => hp) (fun q => absurd (hmeet.mpr hit) q)), fun post hp => hyk post (dc_stY R hh eh ha ho ent post (fun _ => hp) (fun q => absurd hit q))⟩
          · have hit9 : ¬ ∃ j, j < 9 ∧ dc_T (dc_nx b L h E) (dc_1 ent) (j + 1) = dc_0 ent := fun q => hit (hmeet.mp q)
            by_cases h8 : E < 8
            · have hl : nI E < 8 := nI_lt (b := 8) h8 (by decide)
              have hin : vp_in (nI E) 8 := vp_in_nI h8 (by decide)
              have ec := nI_clamp (n := E) (by omega)
              refine ⟨0, _, _, dc_mk (dc_Re R hh eh h8 a0 hno), ?_, ?_⟩
              · intro post hp
                refine hxs post (dc_stX R hh ha a0 ho _ _ post (fun q => absurd q hit9) (fun _ => ?_))
                unfold wX_addInner_212
                refine br_t hl ⟨dc_i0 h8, ?_⟩
                rw [dc_k0 h8, dc_k1 h8, dc_k2 h8, dc_k3 h8, ec, dc_sc ha, dc_sc ho, dc_sc e2, dc_sc e3, dc_sB (by omega), nI_1 E]
                exact nm_e ⟨dc_i1 h8, nm_e ⟨dc_i2 h8, nm_e ⟨dc_i3 h8, nm_e ⟨hin, nm_e (nm_e hp)⟩⟩⟩⟩
              · intro post hp
                refine hyk post (dc_stY R hh eh ha ho ent post (fun q => absurd q hit) (fun _ n cur => ?_))
                refine br_t (nI_le (Nat.le_refl E) (by omega)) (br_t hl ⟨hin, ?_⟩)
                rw [ec, dc_sc' hw, nI_1 E]
                exact nm_e (nm_e ⟨hin, nm_e hp⟩)
            · have hl : ¬ nI E < 8 := nI_nlt (b := 8) (by omega) (by omega)
              refine ⟨7, _, _, dc_mk R, ?_, ?_⟩
              · intro post hp
                refine hxs post (dc_stX R hh ha a0 ho _ _ post (fun q => absurd q hit9) (fun _ => ?_))
                unfold wX_addInner_212
                exact br_f hl hp
              · intro post hp
                exact hyk post (dc_stY R hh eh ha ho ent post (fun q => absurd q hit) (fun _ n cur => br_t (nI_le (Nat.le_refl E) (by omega)) (br_f hl hp)))
  · refine ⟨1, _, _, dc_mk R, ?_, ?_⟩
    · intro post hp
      unfold wpX_addInner
      try dsimp only
      exact nm_r ew (hX _ (br_f (by decide) hp))
    · intro post hp
      unfold wpY_addInner
      try dsimp only
      exact nm_r ew (hY _ (br_f (by decide) hp))
end
end
section
def i_Rel (_ : Nat) (u : SX) (v : SY) : Prop := dc_St u v
theorem i_up {k : Nat} {u : SX} {v : SY} (h : i_Rel k u v) : i_Rel (k + 4) u v := h
theorem i_vc0 : wpX_init (fun u => wpY_init (fun v => i_Rel 0 u v)) := by
  refine dc_mk (C := 0) (E := 0) (F := 0) (N := fun _ => 0) (O := fun _ => 0) (G := fun _ => 0) (H := fun _ => 0) (c := fun _ => 0) (B := fun _ => 0) (V := fun _ => 0) (P := fun _ => 0) (Q := fun _ => 0) (S := fun _ => 0) (L := fun _ => 0) (b := fun _ => 0) (p := fun _ => 0) ?_
  refine ⟨⟨by decide, fun i h => absurd h (Nat.not_lt_zero i), fun i _ h => absurd h (Nat.not_lt_zero i), fun i => ⟨0, by decide, rfl, (by decide : (0 : Int32) &&& 65535 = nI 0), ⟨fun _ => rfl, fun _ => rfl⟩⟩, fun _ _ => rfl⟩, ⟨by decide, fun e h => absurd h (Nat.not_lt_zero e), fun e h => absurd h (Nat.not_lt_zero e), fun e h => absurd h (Nat.not_lt_zero e), fun e _ h => absurd h (Nat.not_lt_zero e)⟩, ⟨by decide, fun k h => absurd h (Nat.not_lt_zero k)⟩⟩
theorem i_vc_addClass {k : Nat} {u : SX} {v : SY} (I : i_Rel k u v) (hk : k + 4 ≤ 2048) (v1 : Int32) (v2 : Int32) : wpX_addClass (fun r u' => wpY_addClass (fun r' v' => r' = r ∧ i_Rel (k + 4) u' v') v v1 v2) u v1 v2 := by
  obtain ⟨C, E, F, N, O, G, H, c, B, V, P, Q, S, L, b, p, rfl, rfl, R⟩ := I
  obtain ⟨r, u', v', hr, hX, hY⟩ := dc_addC R v1 v2
  exact hX _ (hY _ ⟨rfl, hr⟩)
theorem i_vc_addInner {k : Nat} {u : SX} {v : SY} (I : i_Rel k u v) (hk : k + 4 ≤ 2048) (v1 : Int32) (a1 : Int64) : wpX_addInner (fun r u' => wpY_addInner (fun r' v' => r' = r ∧ i_Rel (k + 4) u' v') v v1 a1) u v1 a1 := by
  obtain ⟨C, E, F, N, O, G, H, c, B, V, P, Q, S, L, b, p, rfl, rfl, R⟩ := I
  obtain ⟨r, u', v', hr, hX, hY⟩ := dc_addE R v1 a1
  exact hX _ (hY _ ⟨rfl, hr⟩)
theorem i_vc_setEnclosing {k : Nat} {u : SX} {v : SY} (I : i_Rel k u v) (hk : k + 4 ≤ 2048) (v1 : Int32) (v2 : Int32) : wpX_setEnclosing (fun r u' => wpY_setEnclosing (fun r' v' => r' = r ∧ i_Rel (k + 4) u' v') v v1 v2) u v1 v2 := by
  obtain ⟨C, E, F, N, O, G, H, c, B, V, P, Q, S, L, b, p, rfl, rfl, R⟩ := I
  obtain ⟨r, u', v', hr, hX, hY⟩ := dc_setE R v1 v2
  exact hX _ (hY _ ⟨rfl, hr⟩)
theorem i_vc_addInterface {k : Nat} {u : SX} {v : SY} (I : i_Rel k u v) (hk : k + 4 ≤ 2048) (v1 : Int32) (v2 : Int32) : wpX_addInterface (fun r u' => wpY_addInterface (fun r' v' => r' = r ∧ i_Rel (k + 4) u' v') v v1 v2) u v1 v2 := by
  obtain ⟨C, E, F, N, O, G, H, c, B, V, P, Q, S, L, b, p, rfl, rfl, R⟩ := I
  obtain ⟨r, u', v', hr, hX, hY⟩ := dc_addI R v1 v2
  exact hX _ (hY _ ⟨rfl, hr⟩)
theorem i_vc_declaringClass {k : Nat} {u : SX} {v : SY} (I : i_Rel k u v) (hk : k + 4 ≤ 2048) (v1 : Int32) : wpX_declaringClass (fun r => wpY_declaringClass (fun r' => r' = r ∧ i_Rel (k + 4) u v) v v1) u v1 := by
  obtain ⟨C, E, F, N, O, G, H, c, B, V, P, Q, S, L, b, p, rfl, rfl, R⟩ := I
  obtain ⟨r, hX, hY⟩ := dc_decl R v1
  exact hX _ (hY _ ⟨rfl, dc_mk R⟩)
theorem i_vc_enclosingClass {k : Nat} {u : SX} {v : SY} (I : i_Rel k u v) (hk : k + 4 ≤ 2048) (v1 : Int32) : wpX_enclosingClass (fun r => wpY_enclosingClass (fun r' => r' = r ∧ i_Rel (k + 4) u v) v v1) u v1 := by
  obtain ⟨C, E, F, N, O, G, H, c, B, V, P, Q, S, L, b, p, rfl, rfl, R⟩ := I
  obtain ⟨r, hX, hY⟩ := dc_encl R v1
  exact hX _ (hY _ ⟨rfl, dc_mk R⟩)
theorem i_vc_interfaceAt {k : Nat} {u : SX} {v : SY} (I : i_Rel k u v) (hk : k + 4 ≤ 2048) (v1 : Int32) (v2 : Int32) : wpX_interfaceAt (fun r => wpY_interfaceAt (fun r' => r' = r ∧ i_Rel (k + 4) u v) v v1 v2) u v1 v2 := by
  obtain ⟨C, E, F, N, O, G, H, c, B, V, P, Q, S, L, b, p, rfl, rfl, R⟩ := I
  obtain ⟨r, hX, hY⟩ := dc_ifAt R v1 v2
  exact hX _ (hY _ ⟨rfl, dc_mk R⟩)
theorem i_vc_entryAt {k : Nat} {u : SX} {v : SY} (I : i_Rel k u v) (hk : k + 4 ≤ 2048) (v1 : Int32) (v2 : Int32) : wpX_entryAt (fun r => wpY_entryAt (fun r' => r' = r ∧ i_Rel (k + 4) u v) v v1 v2) u v1 v2 := by
  obtain ⟨C, E, F, N, O, G, H, c, B, V, P, Q, S, L, b, p, rfl, rfl, R⟩ := I
  obtain ⟨r, hX, hY⟩ := dc_enAt R v1 v2
  exact hX _ (hY _ ⟨rfl, dc_mk R⟩)
end
