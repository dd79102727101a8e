section
/-! pure rows to paste: stores, nI and lN arithmetic, masks, shifts, narrowing, branches by naturals (pk_le, pk_lt, pk_eq), loops (lp1 .. lp16: the measure of the state; rp1 ..: recursion), negatives. Take what you need -/
theorem pk_us {f : Nat → Int32} {k : Nat} {x : Int32} : upd f k x k = x := if_pos rfl
theorem pk_un {f : Nat → Int32} {k j : Nat} {x : Int32} (h : j ≠ k) : upd f k x j = f j := if_neg h
theorem pk_uLs {f : Nat → Int64} {k : Nat} {x : Int64} : vp_updL f k x k = x := if_pos rfl
theorem pk_uLn {f : Nat → Int64} {k j : Nat} {x : Int64} (h : j ≠ k) : vp_updL f k x j = f j := if_neg h
theorem pk_sub {a b : Nat} (h : b ≤ a) : nI a - nI b = nI (a - b) := by
  obtain ⟨c, rfl⟩ : ∃ c, a = c + b := ⟨a - b, by omega⟩
  rw [← nI_add, Int32.add_sub_cancel, Nat.add_sub_cancel]
theorem pk_m1 (n : Nat) : nI (n + 1) + (-1) = nI n := by
  rw [← nI_1, Int32.add_assoc, show (1 : Int32) + (-1) = 0 from rfl, Int32.add_zero]
theorem pk_mul (a b : Nat) : nI a * nI b = nI (a * b) := (Int32.ofNat_mul a b).symm
theorem pk_div {a d : Nat} (ha : a < 2 ^ 31) (h0 : 0 < d) (hd : d < 2 ^ 31) : nI a / nI d = nI (a / d) := by
  apply Int32.toInt_inj.mp
  rw [lg_idiv_nonneg (by rw [nI_toInt ha]; omega) (by rw [nI_toInt hd]; omega), nI_toInt ha, nI_toInt hd, nI_toInt (Nat.lt_of_le_of_lt (Nat.div_le_self a d) ha)]
  first | rfl | exact (Int.natCast_ediv _ _).symm
theorem pk_rem {a d : Nat} (ha : a < 2 ^ 31) (h0 : 0 < d) (hd : d < 2 ^ 31) : nI a - nI a / nI d * nI d = nI (a % d) := by
  rw [pk_div ha h0 hd, pk_mul, pk_sub (Nat.div_mul_le_self a d)]
  exact congrArg nI (by have := Nat.div_add_mod' a d; omega)
theorem pk_sub_toInt {a b : Nat} (ha : a < 2 ^ 30) (hb : b < 2 ^ 30) : (nI a - nI b).toInt = (a : Int) - b := by
  rw [Int32.toInt_sub, nI_toInt (by omega), nI_toInt (by omega)]
  exact Int.bmod_eq_of_le (by omega) (by omega)
theorem pk_sneg {a b : Nat} (hb : b < 2 ^ 30) (h : a < b) : nI a - nI b < 0 := by
  rw [Int32.lt_iff_toInt_lt, pk_sub_toInt (by omega) hb, show (0 : Int32).toInt = 0 from by decide]
  omega
theorem pk_ix (x : Int32) {n : Nat} (hn : n < 2 ^ 31) : x < 0 ∨ nI n ≤ x ∨ ∃ j : Nat, j < n ∧ x = nI j := by
  by_cases h : x < 0
  · exact Or.inl h
  · obtain ⟨j, hj, rfl⟩ := nI_of h
    by_cases h2 : j < n
    · exact Or.inr (Or.inr ⟨j, h2, rfl⟩)
    · exact Or.inr (Or.inl (nI_le (by omega) hj))
theorem pk_le {x y : Int32} {A B : Prop} (a b : Nat) (f : a ≤ b → A) (g : b < a → B) (hx : x = nI a := by rfl) (hy : y = nI b := by rfl) (ha : a < 2 ^ 31 := by omega) (hb : b < 2 ^ 31 := by omega) : (x ≤ y → A) ∧ (¬ x ≤ y → B) := by
  subst hx hy
  rw [nI_leI ha hb]
  exact ⟨f, fun z => g (by omega)⟩
theorem pk_lt {x y : Int32} {A B : Prop} (a b : Nat) (f : a < b → A) (g : b ≤ a → B) (hx : x = nI a := by rfl) (hy : y = nI b := by rfl) (ha : a < 2 ^ 31 := by omega) (hb : b < 2 ^ 31 := by omega) : (x < y → A) ∧ (¬ x < y → B) := by
  subst hx hy
  rw [nI_ltI ha hb]
  exact ⟨f, fun z => g (by omega)⟩
theorem pk_eq {x y : Int32} {A B : Prop} (a b : Nat) (f : a = b → A) (g : a ≠ b → B) (hx : x = nI a := by rfl) (hy : y = nI b := by rfl) (ha : a < 2 ^ 31 := by omega) (hb : b < 2 ^ 31 := by omega) : (x = y → A) ∧ (¬ x = y → B) := by
  subst hx hy
  rw [nI_eq ha hb]
  exact ⟨f, g⟩
theorem pk_in {x : Int32} (n N : Nat) (h : n < N) (hx : x = nI n := by rfl) (hN : N < 2 ^ 31 := by omega) : vp_in x N := by
  subst hx
  exact vp_in_nI h hN
theorem pk_cl {x : Int32} (n : Nat) (hx : x = nI n := by rfl) (h : n < 2 ^ 31 := by omega) : x.toNatClampNeg = n := by
  subst hx
  exact nI_clamp h
theorem pk_tn {n : Nat} (h : n < 2 ^ 32) : (nI n).toBitVec.toNat = n := Nat.mod_eq_of_lt h
theorem pk_and (x : Int32) {m : Int32} (k : Nat) (hm : m.toBitVec.toNat = 2 ^ k - 1) : x &&& m = nI (x.toBitVec.toNat % 2 ^ k) := by
  apply Int32.toBitVec_inj.mp
  apply BitVec.eq_of_toNat_eq
  rw [Int32.toBitVec_and, BitVec.toNat_and, hm, Nat.and_two_pow_sub_one_eq_mod]
  show _ = (BitVec.ofNat 32 _).toNat
  rw [BitVec.toNat_ofNat]
  exact (Nat.mod_eq_of_lt (Nat.lt_of_le_of_lt (Nat.mod_le _ _) x.toBitVec.isLt)).symm
theorem pk_andN {n : Nat} (h : n < 2 ^ 32) {m : Int32} (k : Nat) (hm : m.toBitVec.toNat = 2 ^ k - 1) : nI n &&& m = nI (n % 2 ^ k) := by
  rw [pk_and _ k hm, pk_tn h]
theorem pk_andE (x : Int32) {m : Int32} (k : Nat) (hm : m.toBitVec.toNat = 2 ^ k - 1) : ∃ j : Nat, j < 2 ^ k ∧ x &&& m = nI j := ⟨_, Nat.mod_lt _ (Nat.two_pow_pos k), pk_and x k hm⟩
theorem pk_andIn (x : Int32) {m : Int32} (k : Nat) (hm : m.toBitVec.toNat = 2 ^ k - 1) (hk : k ≤ 30) : vp_in (x &&& m) (2 ^ k) := by
  obtain ⟨j, hj, e⟩ := pk_andE x k hm
  rw [e]
  exact vp_in_nI hj (Nat.lt_of_le_of_lt (Nat.pow_le_pow_right (by decide) hk) (by decide))
theorem pk_shl (a s : Int32) (k : Nat) (hs : (s.toBitVec.smod 32).toNat = k) : (a <<< s).toBitVec.toNat = a.toBitVec.toNat * 2 ^ k % 2 ^ 32 := by
  show (a.toBitVec <<< (s.toBitVec.smod 32).toNat).toNat = _
  rw [hs, BitVec.toNat_shiftLeft, Nat.shiftLeft_eq]
theorem pk_shlN {n : Nat} (s : Int32) (k : Nat) (hs : (s.toBitVec.smod 32).toNat = k) (h : n * 2 ^ k < 2 ^ 32) : nI n <<< s = nI (n * 2 ^ k) := by
  apply Int32.toBitVec_inj.mp
  apply BitVec.eq_of_toNat_eq
  have hn : n < 2 ^ 32 := Nat.lt_of_le_of_lt (Nat.le_mul_of_pos_right n (Nat.two_pow_pos k)) h
  rw [pk_shl _ _ k hs, pk_tn hn, pk_tn h, Nat.mod_eq_of_lt h]
theorem pk_shr (a s : Int32) (k : Nat) (hs : (s.toBitVec.smod 32).toNat = k) : (a >>> s).toInt = a.toInt >>> k := by
  show (a.toBitVec.sshiftRight (s.toBitVec.smod 32).toNat).toInt = _
  rw [hs, BitVec.toInt_sshiftRight]
  rfl
theorem pk_shrN {n : Nat} (h : n < 2 ^ 31) (s : Int32) (k : Nat) (hs : (s.toBitVec.smod 32).toNat = k) : nI n >>> s = nI (n / 2 ^ k) := by
  apply Int32.toInt_inj.mp
  have h2 : n / 2 ^ k ≤ n := Nat.div_le_self _ _
  rw [pk_shr _ _ k hs, nI_toInt h, nI_toInt (by omega), Int.shiftRight_eq_div_pow]
  rfl
theorem pk_ushr (x s : Int32) (k : Nat) (hs : ((s.toUInt32 &&& Int32.toUInt32 31).toBitVec % 32).toNat = k) : (x.toUInt32 >>> (s.toUInt32 &&& Int32.toUInt32 31)).toInt32.toBitVec.toNat = x.toBitVec.toNat / 2 ^ k := by
  have e : (x.toUInt32 >>> (s.toUInt32 &&& Int32.toUInt32 31)).toInt32.toBitVec = x.toBitVec >>> k := by
    rw [← hs]
    exact UInt32.toBitVec_shiftRight _ _
  rw [e, BitVec.toNat_ushiftRight, Nat.shiftRight_eq_div_pow]
theorem pk_ushrN {n : Nat} (hn : n < 2 ^ 32) (s : Int32) (k : Nat) (hs : ((s.toUInt32 &&& Int32.toUInt32 31).toBitVec % 32).toNat = k) : ((nI n).toUInt32 >>> (s.toUInt32 &&& Int32.toUInt32 31)).toInt32 = nI (n / 2 ^ k) := by
  apply Int32.toBitVec_inj.mp
  apply BitVec.eq_of_toNat_eq
  rw [pk_ushr _ s k hs, pk_tn hn, pk_tn (Nat.lt_of_le_of_lt (Nat.div_le_self _ _) hn)]
theorem pk_nb (z : Int32) : narrow .byte (.int z.toInt8.toInt32) = .int z.toInt8.toInt32 := congrArg Value.int (by simp)
theorem pk_ns (z : Int32) : narrow .short (.int z.toInt16.toInt32) = .int z.toInt16.toInt32 := congrArg Value.int (by simp)
theorem pk_fb (r : Int32) : fits .byte (.int r.toInt8.toInt32) = true := by
  have ⟨a, b⟩ := lg_i2b_range r
  have h1 : (-128 : Int32).toInt = -128 := by decide
  have h2 : (127 : Int32).toInt = 127 := by decide
  simp only [fits, Bool.and_eq_true, decide_eq_true_eq, Int32.le_iff_toInt_le, h1, h2]
  omega
theorem pk_fs (r : Int32) : fits .short (.int r.toInt16.toInt32) = true := by
  have ⟨a, b⟩ := lg_i2s_range r
  have h1 : (-32768 : Int32).toInt = -32768 := by decide
  have h2 : (32767 : Int32).toInt = 32767 := by decide
  simp only [fits, Bool.and_eq_true, decide_eq_true_eq, Int32.le_iff_toInt_le, h1, h2]
  omega
theorem pk_charN {q : Nat} (hq : q < 65536) : narrow .char (.int (nI q)) = .int (nI q) ∧ fits .char (.int (nI q)) = true := by
  constructor
  · have e : (nI q).toUInt32.toUInt16.toUInt32.toInt32 = nI q := by
      apply Int32.toBitVec_inj.mp
      apply BitVec.eq_of_toNat_eq
      show (nI q).toUInt32.toUInt16.toUInt32.toNat = q % 2 ^ 32
      rw [UInt16.toNat_toUInt32, UInt32.toNat_toUInt16, show (nI q).toUInt32.toNat = q % 2 ^ 32 from rfl]
      omega
    exact congrArg Value.int e
  · have a : (0 : Int32) ≤ nI q := nI_pos' (by omega)
    have b : nI q ≤ 65535 := nI_le (b := 65535) (by omega) (by decide)
    show (decide ((0 : Int32) ≤ nI q) && decide (nI q ≤ 65535)) = true
    rw [decide_eq_true a, decide_eq_true b]
    rfl
theorem pk_char (x : Int32) : (x.toUInt32 % 65536).toInt32 = nI (x.toBitVec.toNat % 65536) := by
  apply Int32.toBitVec_inj.mp
  apply BitVec.eq_of_toNat_eq
  rw [pk_tn (by omega)]
  show (x.toUInt32 % 65536).toNat = _
  rw [UInt32.toNat_mod]
  rfl
theorem pk_nc (x : Int32) : narrow .char (.int (x.toUInt32 % 65536).toInt32) = .int (x.toUInt32 % 65536).toInt32 := by
  rw [pk_char]
  exact (pk_charN (Nat.mod_lt _ (by decide))).1
theorem pk_fc (x : Int32) : fits .char (.int (x.toUInt32 % 65536).toInt32) = true := by
  rw [pk_char]
  exact (pk_charN (Nat.mod_lt _ (by decide))).2
theorem pk_vb (z : Int32) : vp_nar .byte z.toInt8.toInt32 = z.toInt8.toInt32 := by rw [vp_nar_byte]; simp
theorem pk_vs (z : Int32) : vp_nar .short z.toInt16.toInt32 = z.toInt16.toInt32 := by rw [vp_nar_short]; simp
theorem pk_vc (z : Int32) : vp_nar .char (z.toUInt32 % 65536).toInt32 = (z.toUInt32 % 65536).toInt32 := Value.int.inj (pk_nc z)
theorem pk_lT {n : Nat} (h : n < 2 ^ 63) : (lN n).toInt = (n : Int) := lg_ofNat_toInt h
theorem pk_lLT {a b : Nat} (ha : a < 2 ^ 63) (hb : b < 2 ^ 63) : lN a < lN b ↔ a < b := by
  rw [Int64.lt_iff_toInt_lt, pk_lT ha, pk_lT hb]; omega
theorem pk_lLE {a b : Nat} (ha : a < 2 ^ 63) (hb : b < 2 ^ 63) : lN a ≤ lN b ↔ a ≤ b := by
  rw [Int64.le_iff_toInt_le, pk_lT ha, pk_lT hb]; omega
theorem pk_lEQ {a b : Nat} (ha : a < 2 ^ 63) (hb : b < 2 ^ 63) : lN a = lN b ↔ a = b := by
  rw [← Int64.toInt_inj, pk_lT ha, pk_lT hb]; omega
theorem pk_lOf {x : Int64} (h : ¬ x < 0) : ∃ k : Nat, k < 2 ^ 63 ∧ x = lN k := by
  rw [Int64.lt_iff_toInt_lt] at h
  have h0 : (0 : Int64).toInt = 0 := by decide
  have hx := Int64.toInt_lt x
  refine ⟨x.toInt.toNat, by omega, Int64.toInt_inj.mp ?_⟩
  rw [pk_lT (by omega)]
  omega
theorem pk_lDiv {a b : Nat} (ha : a < 2 ^ 63) (h0 : 0 < b) (hb : b < 2 ^ 63) : lN a / lN b = lN (a / b) := by
  apply Int64.toInt_inj.mp
  rw [lg_ldiv_nonneg (by rw [pk_lT ha]; omega) (by rw [pk_lT hb]; omega), pk_lT ha, pk_lT hb, pk_lT (Nat.lt_of_le_of_lt (Nat.div_le_self a b) ha)]
  rfl
theorem pk_lRem {a b : Nat} (ha : a < 2 ^ 63) (h0 : 0 < b) (hb : b < 2 ^ 63) : lN a - lN a / lN b * lN b = lN (a % b) := by
  rw [pk_lDiv ha h0 hb, lN_mul, lN_sub (Nat.div_mul_le_self a b)]
  exact congrArg lN (by have := Nat.div_add_mod' a b; omega)
theorem pk_loop {σ : Type} (W : Nat → Nat → σ → Prop) (I : Nat → σ → Prop) (e i0 : Nat) (s : σ) (hi : i0 ≤ e) (h0 : I i0 s) (hx : ∀ n s, I e s → W (n + 1) e s)
    (hs : ∀ n i s, i < e → I i s → (∀ s', I (i + 1) s' → W n (i + 1) s') → W (n + 1) i s) : ∃ n, W n i0 s :=
  ⟨e + 1, loop_i W I e hx hs (e + 1) i0 s hi (by omega) h0⟩
theorem pk_loopD {σ : Type} (W : Nat → Nat → σ → Prop) (I : Nat → σ → Prop) (hx : ∀ n s, I 0 s → W (n + 1) 0 s)
    (hs : ∀ n i s, I (i + 1) s → (∀ s', I i s' → W n i s') → W (n + 1) (i + 1) s) : ∀ (e : Nat) (s : σ), I e s → W (e + 1) e s := by
  intro e
  induction e with
  | zero => exact fun s h => hx 0 s h
  | succ e ih => exact fun s h => hs (e + 1) e s h (fun s' h' => ih s' h')
theorem pk_least (P : Nat → Prop) (h : ∃ k, P k) : ∃ k, P k ∧ ∀ j, j < k → ¬ P j := by
  obtain ⟨k, hk⟩ := h
  induction k using Nat.strongRecOn with
  | ind k ih =>
    by_cases e : ∃ j, j < k ∧ P j
    · obtain ⟨j, hj, pj⟩ := e
      exact ih j hj pj
    · exact ⟨k, hk, fun j hj pj => e ⟨j, hj, pj⟩⟩
theorem ts_nf {x : Bool} (h : ¬ x = false) : x = true := by cases x <;> first | rfl | exact absurd rfl h
theorem ts_nt {x : Bool} (h : ¬ x = true) : x = false := by cases x <;> first | rfl | exact absurd rfl h
theorem ts_bit {w : Int64} {s : UInt64} {j : Nat} (hj : j < 64) (hs : s.toNat = j) : ((w.toUInt64 >>> s).toInt64 &&& 1) = 0 ↔ w.toBitVec.getLsbD j = false := by
  have e : (w.toUInt64 >>> s).toInt64.toBitVec = w.toBitVec >>> j := by
    apply BitVec.eq_of_toNat_eq
    show (w.toUInt64 >>> s).toNat = _
    rw [UInt64.toNat_shiftRight, hs, Nat.mod_eq_of_lt hj, BitVec.toNat_ushiftRight]
    rfl
  rw [← Int64.toBitVec_inj, Int64.toBitVec_and, e]
  show w.toBitVec >>> j &&& 1#64 = 0#64 ↔ _
  constructor
  · intro h
    have t := congrArg (fun x => x.getLsbD 0) h
    simpa using t
  · intro h
    apply BitVec.eq_of_getLsbD_eq
    intro i hi
    cases i with
    | zero => simp [h]
    | succ i => simp
theorem wb_tb (n : Nat) : (lN n).toBitVec = BitVec.ofNat 64 n := rfl
theorem wb_inj {a b : Int64} (h : a.toBitVec = b.toBitVec) : a = b := Int64.toBitVec_inj.mp h
theorem wb_tn {n : Nat} (h : n < 2 ^ 64) : (lN n).toBitVec.toNat = n := by rw [wb_tb, BitVec.toNat_ofNat, Nat.mod_eq_of_lt h]
theorem wb_of (x : Int64) : ∃ n, n < 2 ^ 64 ∧ x = lN n := ⟨x.toBitVec.toNat, x.toBitVec.isLt, wb_inj (by rw [wb_tb]; simp)⟩
theorem wb_of32 (x : Int32) : ∃ n, n < 2 ^ 32 ∧ x = nI n := ⟨x.toBitVec.toNat, x.toBitVec.isLt, Int32.toBitVec_inj.mp (by show _ = BitVec.ofNat 32 _; simp)⟩
theorem wb_c : ∀ k, k < 64 → ((nI k).toInt64 &&& 63) = lN k := by decide +kernel
theorem wb_cu : ∀ k, k < 64 → ((nI k).toInt64.toUInt64 &&& Int64.toUInt64 63) = UInt64.ofNat k := by decide +kernel
theorem wb_sm : ∀ k, k < 64 → (BitVec.ofNat 64 k).smod 64 = BitVec.ofNat 64 k := by decide +kernel
theorem u_tn {n : Nat} (h : n < 2 ^ 64) : (UInt64.ofNat n).toNat = n := Nat.mod_eq_of_lt h
end
section
/-! bytes, counts, scans, bits -/
theorem zb_lt128 : ∀ n, n < 128 → (nI n).toInt8.toInt32 = nI n := by decide +kernel
theorem zb_nar {n : Nat} (h : n < 128) : vp_nar .byte (nI n) = nI n := by rw [vp_nar_byte]; exact zb_lt128 n h
theorem zb_nar8 {n : Nat} (h : n < 128) : vp_nar .byte (nI n).toInt8.toInt32 = nI n := by rw [zb_lt128 n h]; exact zb_nar h
theorem zb_m1 : vp_nar .byte (-1) = -1 := by rw [vp_nar_byte]; decide
theorem zb_0 : vp_nar .byte 0 = 0 := by rw [vp_nar_byte]; decide
theorem zb_1 : vp_nar .byte 1 = 1 := by rw [vp_nar_byte]; decide
theorem zb_2 : vp_nar .byte 2 = 2 := by rw [vp_nar_byte]; decide
theorem zb_b0 : vp_nar .boolean 0 = 0 := rfl
theorem zb_b1 : vp_nar .boolean 1 = 1 := rfl
theorem zi_m4 (p : Nat) : (4 : Int32) * nI p = nI (4 * p) := pk_mul 4 p
theorem zi_m5 (p : Nat) : (5 : Int32) * nI p = nI (5 * p) := pk_mul 5 p
theorem zi_m6 (p : Nat) : (6 : Int32) * nI p = nI (6 * p) := pk_mul 6 p
theorem zi_m15 (p : Nat) : (15 : Int32) * nI p = nI (15 * p) := pk_mul 15 p
theorem zi_m20 (p : Nat) : (20 : Int32) * nI p = nI (20 * p) := pk_mul 20 p
theorem zi_m2 (p : Nat) : (2 : Int32) * nI p = nI (2 * p) := pk_mul 2 p
theorem zi_a3 (p : Nat) : nI p + 3 = nI (p + 3) := nI_add p 3
theorem zi_a4 (p : Nat) : nI p + 4 = nI (p + 4) := nI_add p 4
theorem zi_a15 (p : Nat) : nI p + 15 = nI (p + 15) := nI_add p 15
theorem zi_1a (p : Nat) : 1 + nI p = nI (1 + p) := nI_add 1 p
theorem zi_16a (p : Nat) : 16 + nI p = nI (16 + p) := nI_add 16 p
theorem zi_101a (p : Nat) : 101 + nI p = nI (101 + p) := nI_add 101 p
theorem zi_201a (p : Nat) : 201 + nI p = nI (201 + p) := nI_add 201 p
theorem zi_d4 {n : Nat} (h : n < 2 ^ 31) : nI n / 4 = nI (n / 4) := pk_div (d := 4) h (by decide) (by decide)
theorem zi_r4 {n : Nat} (h : n < 2 ^ 31) : nI n - nI n / 4 * 4 = nI (n % 4) := pk_rem (d := 4) h (by decide) (by decide)
theorem zi_inT {n N : Nat} (h : n < N) (hN : N < 2 ^ 31) : vp_in (nI n) N = True := eq_true (vp_in_nI h hN)
theorem zi_m1lt : (-1 : Int32) < 0 := by decide
theorem zi_m1ne {n : Nat} (h : n < 2 ^ 31) : nI n ≠ -1 := fun e => absurd (e ▸ zi_m1lt) (nI_pos h)
theorem zi_inj {a b : Nat} (ha : a < 2 ^ 31) (hb : b < 2 ^ 31) (h : nI a = nI b) : a = b := (nI_eq ha hb).mp h
theorem zi_us {f : Nat → Int32} {k : Nat} {x : Int32} : upd f k x k = x := if_pos rfl
/-- writing what stands there -/
theorem zi_uid {f : Nat → Int32} {k : Nat} {x : Int32} (h : f k = x) : upd f k x = f := by
  funext j
  by_cases e : j = k
  · rw [e, pk_us, h]
  · rw [pk_un e]
theorem zi_ucomm {f : Nat → Int32} {a b : Nat} {x y : Int32} (h : a ≠ b) : upd (upd f a x) b y = upd (upd f b y) a x := by
  funext j
  by_cases e : j = b
  · subst e; rw [pk_us, pk_un (Ne.symm h), pk_us]
  · by_cases e2 : j = a
    · subst e2; rw [pk_un e, pk_us, pk_us]
    · rw [pk_un e, pk_un e2, pk_un e2, pk_un e]
theorem zi_utw {f : Nat → Int32} {a : Nat} {x y : Int32} : upd (upd f a x) a y = upd f a y := by
  funext j
  by_cases e : j = a
  · subst e; rw [pk_us, pk_us]
  · rw [pk_un e, pk_un e, pk_un e]
def zu (f : Nat → Nat) (k x : Nat) : Nat → Nat := fun j => if j = k then x else f j
theorem zu_s {f : Nat → Nat} {k x : Nat} : zu f k x k = x := if_pos rfl
theorem zu_n {f : Nat → Nat} {k x j : Nat} (h : j ≠ k) : zu f k x j = f j := if_neg h
theorem zu_id {f : Nat → Nat} {k x : Nat} (h : f k = x) : zu f k x = f := by
  funext j
  by_cases e : j = k
  · rw [e, zu_s, h]
  · rw [zu_n e]
/-! counts -/
noncomputable def zb1 (P : Prop) : Nat := @ite Nat P (Classical.propDecidable P) 1 0
theorem zb1_t {P : Prop} (h : P) : zb1 P = 1 := by unfold zb1; rw [if_pos h]
theorem zb1_f {P : Prop} (h : ¬ P) : zb1 P = 0 := by unfold zb1; rw [if_neg h]
theorem zb1_le (P : Prop) : zb1 P ≤ 1 := by
  rcases Classical.em P with h | h
  · rw [zb1_t h]; omega
  · rw [zb1_f h]; omega
theorem zb1_eq {P Q : Prop} (h : P ↔ Q) : zb1 P = zb1 Q := by rw [propext h]
noncomputable def zc (h : Nat → Prop) : Nat → Nat
  | 0 => 0
  | n + 1 => zc h n + zb1 (h n)
theorem zc_eq {p q : Nat → Prop} : ∀ {N : Nat}, (∀ k, k < N → (p k ↔ q k)) → zc p N = zc q N
  | 0, _ => rfl
  | N + 1, h => by
    have a := zc_eq (p := p) (q := q) (N := N) (fun k hk => h k (by omega))
    have b := zb1_eq (h N (by omega))
    simp only [zc]; omega
theorem zc_le (p : Nat → Prop) : ∀ N, zc p N ≤ N
  | 0 => Nat.le_refl _
  | N + 1 => by have := zc_le p N; have := zb1_le (p N); simp only [zc]; omega
theorem zc_none {p : Nat → Prop} : ∀ {N : Nat}, (∀ k, k < N → ¬ p k) → zc p N = 0
  | 0, _ => rfl
  | N + 1, h => by
    have a := zc_none (p := p) (N := N) (fun k hk => h k (by omega))
    have b := zb1_f (h N (by omega))
    simp only [zc]; omega
theorem zc_inc {p q : Nat → Prop} {a : Nat} (hp : ¬ p a) (hq : q a) : ∀ {N : Nat}, a < N → (∀ k, k < N → k ≠ a → (p k ↔ q k)) → zc q N = zc p N + 1
  | 0, h, _ => by omega
  | N + 1, ha, h => by
    simp only [zc]
    rcases Nat.lt_or_ge a N with z | z
    · have x := zc_inc hp hq (N := N) z (fun k hk => h k (by omega))
      have b := zb1_eq (h N (by omega) (by omega))
      omega
    · have e : a = N := by omega
      subst e
      have x := zc_eq (p := p) (q := q) (N := a) (fun k hk => h k (by omega) (by omega))
      rw [zb1_t hq, zb1_f hp]; omega
theorem zc_pos {p : Nat → Prop} {N a : Nat} (ha : a < N) (h : p a) : 0 < zc p N := by
  have := zc_inc (p := fun k => p k ∧ k ≠ a) (q := p) (a := a) (fun z => z.2 rfl) h ha (fun k _ hn => ⟨fun z => z.1, fun z => ⟨z, hn⟩⟩)
  omega
theorem zc_ex {p : Nat → Prop} {N : Nat} (h : 0 < zc p N) : ∃ k, k < N ∧ p k := by
  refine Classical.byContradiction fun z => ?_
  have := zc_none (p := p) (N := N) (fun k hk hp => z ⟨k, hk, hp⟩)
  omega
theorem zc_one {p : Nat → Prop} {N a b : Nat} (h : zc p N = 1) (ha : a < N) (hb : b < N) (pa : p a) (pb : p b) : a = b := by
  refine Classical.byContradiction fun z => ?_
  have := zc_inc (p := fun k => p k ∧ k ≠ a) (q := p) (a := a) (fun z => z.2 rfl) pa ha (fun k _ hn => ⟨fun z => z.1, fun z => ⟨z, hn⟩⟩)
  have := zc_pos (p := fun k => p k ∧ k ≠ a) hb ⟨pb, fun e => z e.symm⟩
  omega
theorem zc_mono {p q : Nat → Prop} : ∀ {N : Nat}, (∀ k, k < N → p k → q k) → zc p N ≤ zc q N
  | 0, _ => Nat.le_refl _
  | N + 1, h => by
    have a := zc_mono (p := p) (q := q) (N := N) (fun k hk => h k (by omega))
    have hN := h N (by omega)
    simp only [zc]
    rcases Classical.em (p N) with z | z
    · rw [zb1_t z, zb1_t (hN z)]; omega
    · rw [zb1_f z]; omega
theorem zc_split (p : Nat → Prop) (a : Nat) : ∀ b, zc p (a + b) = zc p a + zc (fun k => p (a + k)) b
  | 0 => rfl
  | b + 1 => by
    have := zc_split p a b
    show zc p (a + b) + zb1 (p (a + b)) = zc p a + (zc (fun k => p (a + k)) b + zb1 (p (a + b)))
    omega
theorem zc_blk {p : Nat → Prop} {c : Nat} : ∀ {n : Nat}, (∀ d, d < n → zc (fun m => p (15 * d + m)) 15 ≤ c) → zc p (15 * n) ≤ c * n
  | 0, _ => Nat.le_refl _
  | n + 1, h => by
    have a := zc_blk (p := p) (c := c) (n := n) (fun d hd => h d (by omega))
    have b := h n (by omega)
    rw [show 15 * (n + 1) = 15 * n + 15 by omega, zc_split, show c * (n + 1) = c * n + c from Nat.mul_succ c n]
    omega
/-! the pigeonhole -/
theorem zp_ph : ∀ (M N : Nat) (f : Nat → Nat), (∀ i, i < N → f i < M) → (∀ i j, i < N → j < N → f i = f j → i = j) → N ≤ M
  | 0, N, f, h, _ => by
    rcases Nat.eq_zero_or_pos N with z | z
    · omega
    · exact absurd (h 0 z) (by omega)
  | M + 1, N, f, h, hi => by
    rcases Classical.em (∃ i, i < N ∧ f i = M) with ⟨i, hiN, hf⟩ | z
    · have := zp_ph M (N - 1) (fun j => if j < i then f j else f (j + 1)) (by
        intro j hj
        show (if j < i then f j else f (j + 1)) < M
        by_cases c : j < i
        · rw [if_pos c]
          have a := h j (by omega)
          have b : f j ≠ M := fun e => absurd (hi j i (by omega) hiN (e.trans hf.symm)) (by omega)
          omega
        · rw [if_neg c]
          have a := h (j + 1) (by omega)
          have b : f (j + 1) ≠ M := fun e => absurd (hi (j + 1) i (by omega) hiN (e.trans hf.symm)) (by omega)
          omega) (by
        intro j k hj hk
        show (if j < i then f j else f (j + 1)) = (if k < i then f k else f (k + 1)) → j = k
        by_cases c : j < i
        · by_cases c2 : k < i
          · rw [if_pos c, if_pos c2]; exact fun e => hi j k (by omega) (by omega) e
          · rw [if_pos c, if_neg c2]; exact fun e => absurd (hi j (k + 1) (by omega) (by omega) e) (by omega)
        · by_cases c2 : k < i
          · rw [if_neg c, if_pos c2]; exact fun e => absurd (hi (j + 1) k (by omega) (by omega) e) (by omega)
          · rw [if_neg c, if_neg c2]; exact fun e => by have := hi (j + 1) (k + 1) (by omega) (by omega) e; omega)
      omega
    · have := zp_ph M N f (fun i hN => by
        have a := h i hN
        have b : f i ≠ M := fun e => z ⟨i, hN, e⟩
        omega) hi
      omega
/-! first hit of a scan -/
def zf_F (h : Nat → Prop) (N : Nat) (r : Int32) : Prop := (r = -1 ∧ ∀ i, i < N → ¬ h i) ∨ ∃ i, i < N ∧ r = nI i ∧ h i ∧ ∀ j, j < i → ¬ h j
theorem zf_ex (h : Nat → Prop) (N : Nat) : ∃ r, zf_F h N r := by
  rcases Classical.em (∃ i, i < N ∧ h i) with z | z
  · obtain ⟨i, ⟨hi, hh⟩, hm⟩ := pk_least (fun i => i < N ∧ h i) z
    exact ⟨nI i, Or.inr ⟨i, hi, rfl, hh, fun j hj hj2 => hm j hj ⟨by omega, hj2⟩⟩⟩
  · exact ⟨-1, Or.inl ⟨rfl, fun i hi hh => z ⟨i, hi, hh⟩⟩⟩
theorem zf_cg {h g : Nat → Prop} {N : Nat} {r : Int32} (e : ∀ i, i < N → (h i ↔ g i)) (H : zf_F h N r) : zf_F g N r := by
  rcases H with ⟨e1, z⟩ | ⟨i, hi, e1, hh, z⟩
  · exact Or.inl ⟨e1, fun i hi hg => z i hi ((e i hi).mpr hg)⟩
  · exact Or.inr ⟨i, hi, e1, (e i hi).mp hh, fun j hj hg => z j hj ((e j (by omega)).mpr hg)⟩
theorem zf_go {Wq : Nat → Int32 → Prop} {h : Nat → Prop} {N a0 : Nat}
    (hx : (∀ i, i < N → ¬ h i) → ∀ n, Wq (n + 1) (nI N))
    (hh : ∀ n i, a0 ≤ i → i < N → h i → (∀ j, j < i → ¬ h j) → Wq (n + 1) (nI i))
    (hs : ∀ n i, a0 ≤ i → i < N → ¬ h i → Wq n (nI (i + 1)) → Wq (n + 1) (nI i)) :
    ∀ d a, a0 ≤ a → a + d = N → (∀ j, j < a → ¬ h j) → Wq (d + 1) (nI a) := by
  intro d
  induction d with
  | zero => intro a _ ha hl; have e : a = N := by omega
            rw [e]; exact hx (fun i hi => hl i (by omega)) 0
  | succ d ih =>
    intro a h0 ha hl
    rcases Classical.em (h a) with z | z
    · exact hh (d + 1) a h0 (by omega) z hl
    · refine hs (d + 1) a h0 (by omega) z (ih (a + 1) (by omega) (by omega) ?_)
      intro j hj
      rcases Nat.lt_or_ge j a with c | c
      · exact hl j c
      · rw [show j = a by omega]; exact z
/-- a scan from a, whose outcome r is named ahead -/
theorem zf_scan {Wq : Nat → Int32 → Prop} {h : Nat → Prop} {N : Nat} {r : Int32} (H : zf_F h N r) (a : Nat) (ha : a ≤ N) (hl : ∀ j, j < a → ¬ h j)
    (hx : r = -1 → ∀ n, Wq (n + 1) (nI N))
    (hh : ∀ n i, a ≤ i → i < N → h i → r = nI i → Wq (n + 1) (nI i))
    (hs : ∀ n i, a ≤ i → i < N → ¬ h i → Wq n (nI (i + 1)) → Wq (n + 1) (nI i)) : ∃ n, Wq n (nI a) := by
  refine ⟨N - a + 1, zf_go (h := h) (N := N) (a0 := a) ?_ ?_ hs (N - a) a (Nat.le_refl a) (by omega) hl⟩
  · intro hn n
    rcases H with ⟨e, _⟩ | ⟨i, hi, _, hh2, _⟩
    · exact hx e n
    · exact absurd hh2 (hn i hi)
  · intro n i h0 hi hi2 hm
    rcases H with ⟨_, z⟩ | ⟨k, hk, e, hk2, hkm⟩
    · exact absurd hi2 (z i hi)
    · have : i = k := by
        rcases Nat.lt_trichotomy i k with c | c | c
        · exact absurd hi2 (hkm i c)
        · exact c
        · exact absurd hk2 (hm k c)
      subst this
      exact hh n i h0 hi hi2 e
/-- a scan that only asks whether there is one -/
theorem zf_any {Wq : Nat → Int32 → Prop} (h : Nat → Prop) (N : Nat)
    (hx : (∀ i, i < N → ¬ h i) → ∀ n, Wq (n + 1) (nI N))
    (hh : ∀ n i, i < N → h i → Wq (n + 1) (nI i))
    (hs : ∀ n i, i < N → ¬ h i → Wq n (nI (i + 1)) → Wq (n + 1) (nI i)) : ∃ n, Wq n (nI 0) :=
  ⟨N + 1, zf_go (h := h) (N := N) (a0 := 0) hx (fun n i _ hi h2 _ => hh n i hi h2) (fun n i _ => hs n i) N 0 (Nat.le_refl 0) (by omega) (fun j hj => absurd hj (by omega))⟩
/-! bits of the used blocks -/
def zub (w : Int64) (b : Nat) : Bool := w.toBitVec.getLsbD b
theorem zub_tst (w : Int64) {b : Nat} (hb : b < 64) : ((w.toUInt64 >>> ((nI b).toInt64.toUInt64 &&& Int64.toUInt64 63)).toInt64 &&& 1) = 0 ↔ zub w b = false := by
  rw [wb_cu b hb]
  exact ts_bit hb (u_tn (by omega))
theorem zub_pow : ∀ b, b < 64 → ((1 : Int64) <<< ((nI b).toInt64 &&& 63)).toBitVec = BitVec.twoPow 64 b := by decide +kernel
theorem zub_or (w : Int64) {b c : Nat} (hb : b < 64) (hc : c < 64) : zub (w ||| ((1 : Int64) <<< ((nI b).toInt64 &&& 63))) c = (zub w c || decide (c = b)) := by
  unfold zub
  rw [Int64.toBitVec_or, zub_pow b hb, BitVec.getLsbD_or, BitVec.getLsbD_twoPow]
  by_cases e : c = b
  · subst e; simp [hc]
  · simp [e, Ne.symm e]
theorem zub_and (w : Int64) {b c : Nat} (hb : b < 64) (hc : c < 64) : zub (w &&& (((1 : Int64) <<< ((nI b).toInt64 &&& 63)) ^^^ (-1))) c = (zub w c && !decide (c = b)) := by
  have ha : (-1 : Int64).toBitVec = BitVec.allOnes 64 := by decide
  unfold zub
  rw [Int64.toBitVec_and, Int64.toBitVec_xor, zub_pow b hb, ha, BitVec.getLsbD_and, BitVec.getLsbD_xor, BitVec.getLsbD_twoPow, BitVec.getLsbD_allOnes]
  by_cases e : c = b
  · subst e; simp [hc]
  · simp [hc, e, Ne.symm e]
theorem zub_0 (c : Nat) : zub 0 c = false := by unfold zub; simp
end
section
/-! the pieces of the relation -/
def zxn (c : Nat) : Nat := if c ≤ 8 then c else if c ≤ 10 then 16 + 2 * (c - 9) else 17 + 2 * (c - 11)
def zyn (c : Nat) : Nat := if c ≤ 8 then c else if c ≤ 10 then 101 + (c - 9) else 201 + (c - 11)
def zq_h : List Nat → Int32
  | [] => -1
  | p :: _ => nI p
def zq_l : List Nat → Int32
  | [] => -1
  | [p] => nI p
  | _ :: q :: t => zq_l (q :: t)
def zq_c (bh : Nat → Int32) : List Nat → Prop
  | [] => True
  | p :: t => bh p = zq_h t ∧ zq_c bh t
def zq_y (qy : Nat → Int32) : Nat → List Nat → Prop
  | _, [] => True
  | o, p :: t => qy o = nI p ∧ zq_y qy (o + 1) t
def zr_K1 (K : Nat → Int32) : Prop := (∀ n, n < 10 → K n = 0 ∨ K n = 1 ∨ K n = 2) ∧ K 0 = 2
def zr_K2 (K U : Nat → Int32) : Prop := U 0 = 0 ∧ ∀ n, n < 10 → K n = 2 → ∃ m, m < 10 ∧ U n = nI m ∧ K m = 2
def zr_K3 (K U E : Nat → Int32) : Prop := ∀ k, k < 150 → E k = -1 ∨ ∃ n, 1 ≤ n ∧ n < 10 ∧ E k = nI n ∧ K n ≠ 0 ∧ K (k / 15) = 2 ∧ (K n = 2 → U n = nI (k / 15))
def zr_K4 (K E : Nat → Int32) : Prop := ∀ n, 1 ≤ n → n < 10 → K n = 2 → zc (fun k => E k = nI n) 150 = 1
def zr_PL (K S L : Nat → Int32) : Prop := ∀ p, p < 5 → (S p = 1 ∨ S p = 2) → ∃ m, m < 10 ∧ L p = nI m ∧ K m = 2
def zr_D1 (d l : Nat) (eN eV E : Nat → Int32) : Prop := (∀ e, e < l → ∃ m, m < 15 ∧ eN (6 * d + e) = nI m ∧ eV (6 * d + e) = E (15 * d + m) ∧ E (15 * d + m) ≠ -1) ∧
  (∀ e e', e < l → e' < l → eN (6 * d + e) = eN (6 * d + e') → e = e') ∧ (∀ m, m < 15 → E (15 * d + m) ≠ -1 → ∃ e, e < l ∧ eN (6 * d + e) = nI m) ∧ zc (fun m => E (15 * d + m) ≠ -1) 15 = l
def zr_DR (K lx eN eV E : Nat → Int32) : Prop := ∀ d, d < 10 → K d = 2 → ∃ l, l ≤ 6 ∧ lx d = nI l ∧ zr_D1 d l eN eV E
def zr_LK (K E lk : Nat → Int32) : Prop := ∀ n, n < 10 → K n ≠ 0 → lk n = nI (zc (fun k => E k = nI n) 150)
/-- tree: kinds, uppers, entries, places, the component's directories and link counts -/
def zg_T (K U E S L lx eN eV lk : Nat → Int32) : Prop := zr_K1 K ∧ zr_K2 K U ∧ zr_K3 K U E ∧ zr_K4 K E ∧ zr_PL K S L ∧ zr_DR K lx eN eV E ∧ zr_LK K E lk
/-- the store and what is kept at hand: C is what the blocks hold -/
def zr_SO (fu : Int64) (nk lv : Int32) (st kb ch kw C : Nat → Int32) : Prop := (∃ t, t < 3 ∧ nk = nI t) ∧ (∀ s, s < 3 → kb s = -1 ∨ ∃ b, b < 48 ∧ kb s = nI b ∧ zub fu b = true) ∧
  (∀ s s', s < 3 → s' < 3 → kb s = kb s' → kb s ≠ -1 → s = s') ∧ (lv = 0 → ∀ s, s < 3 → kb s = -1) ∧
  (∀ s b, s < 3 → b < 48 → kb s = nI b → ∀ k, k < 4 → kw (4 * s + k) = C (4 * b + k)) ∧
  (∀ b, b < 48 → (∀ s, s < 3 → kb s ≠ nI b) → ∀ k, k < 4 → st (4 * b + k) = C (4 * b + k)) ∧
  (∀ s b, s < 3 → b < 48 → kb s = nI b → ch s = 0 → ∀ k, k < 4 → st (4 * b + k) = C (4 * b + k))
def zr_V (K : Nat → Int32) (ln : Nat → Nat) (q : Nat) : Prop := K (q / 5) = 1 ∧ 4 * (q % 5) < ln (q / 5)
def zr_FX (K : Nat → Int32) (ln bl : Nat → Nat) (fu : Int64) (bo lx : Nat → Int32) : Prop := (∀ n, n < 10 → K n = 1 → ln n ≤ 20 ∧ lx n = nI (ln n)) ∧
  (∀ q, q < 50 → zr_V K ln q → bl q < 48 ∧ bo q = nI (bl q) ∧ zub fu (bl q) = true) ∧
  (∀ q q', q < 50 → q' < 50 → zr_V K ln q → zr_V K ln q' → bl q = bl q' → q = q') ∧
  (∀ b, b < 48 → zub fu b = true → ∃ q, q < 50 ∧ zr_V K ln q ∧ bl q = b)
def zr_FY (K : Nat → Int32) (ln bl : Nat → Nat) (C ly wd : Nat → Int32) : Prop := ∀ n, n < 10 → K n = 1 → ly n = nI (ln n) ∧ ∀ i, i < ln n → wd (20 * n + i) = C (4 * bl (5 * n + i / 4) + i % 4)
def zg_B (fu : Int64) (nk lv : Int32) (st kb ch kw C K : Nat → Int32) (ln bl : Nat → Nat) (bo lx ly wd : Nat → Int32) : Prop :=
  zr_SO fu nk lv st kb ch kw C ∧ zr_FX K ln bl fu bo lx ∧ zr_FY K ln bl C ly wd
/-- descriptors and openings: dc is the code (0 nothing, 1 .. 8 openings, 9, 10 reading, 11, 12 writing ends) -/
def zr_OD (dc : Nat → Nat) (D A : Nat → Int32) : Prop := ∀ k, k < 20 → dc k ≤ 12 ∧ D k = nI (zxn (dc k)) ∧ A k = nI (zyn (dc k))
def zr_OS (dc : Nat → Nat) (os rd wr : Nat → Int32) : Prop := (∀ o, o < 8 → os o = nI (zc (fun k => dc k = 1 + o) 20)) ∧
  ∀ j, j < 2 → rd j = nI (zc (fun k => dc k = 9 + j) 20) ∧ wr j = nI (zc (fun k => dc k = 11 + j) 20)
def zh_o (dc : Nat → Nat) (c : Nat) : Prop := ∃ k, k < 20 ∧ dc k = c
def zr_OF (dc : Nat → Nat) (K F Q : Nat → Int32) : Prop := ∀ o, o < 8 → zh_o dc (1 + o) → (∃ n, 1 ≤ n ∧ n < 10 ∧ F o = nI n ∧ K n = 1) ∧ ∃ q, q ≤ 20 ∧ Q o = nI q
def zr_OC (dc : Nat → Nat) (K F oc : Nat → Int32) : Prop := ∀ n, n < 10 → K n ≠ 0 → oc n = nI (zc (fun o => F o = nI n ∧ zh_o dc (1 + o)) 8)
def zh_l (E : Nat → Int32) (n : Nat) : Prop := ∃ k, k < 150 ∧ E k = nI n
def zh_f (dc : Nat → Nat) (F : Nat → Int32) (n : Nat) : Prop := ∃ o, o < 8 ∧ F o = nI n ∧ zh_o dc (1 + o)
def zr_NZ (dc : Nat → Nat) (K E F : Nat → Int32) : Prop := ∀ n, n < 10 → K n = 1 → zh_l E n ∨ zh_f dc F n
def zr_DD (dc : Nat → Nat) (S : Nat → Int32) : Prop := ∀ p, p < 5 → S p ≠ 1 → S p ≠ 2 → ∀ i, i < 4 → dc (4 * p + i) = 0
def zg_O (dc : Nat → Nat) (D A os rd wr K F Q oc E S : Nat → Int32) : Prop := zr_OD dc D A ∧ zr_OS dc os rd wr ∧ zr_OF dc K F Q ∧ zr_OC dc K F oc ∧ zr_NZ dc K E F ∧ zr_DD dc S
def zg_P (dc : Nat → Nat) (ps pc pw fl pp : Nat → Int32) : Prop := ∀ j, j < 2 → (zh_o dc (9 + j) ∨ zh_o dc (11 + j)) →
  ∃ s c, s < 4 ∧ c ≤ 4 ∧ ps j = nI s ∧ pc j = nI c ∧ fl j = nI c ∧ ∀ i, i < c → pw (4 * j + (s + i) % 4) = pp (4 * j + i)
def zr_QX (ql : List Nat) (qa qz : Int32) (bh : Nat → Int32) (qn : Int32) (qy : Nat → Int32) : Prop := (∀ p, p ∈ ql → p < 5) ∧ ql.Nodup ∧ qa = zq_h ql ∧ qz = zq_l ql ∧ zq_c bh ql ∧ qn = nI ql.length ∧ zq_y qy 0 ql
def zr_QS (ql : List Nat) (S : Nat → Int32) (cur : Nat) : Prop := ∀ q, q < 5 → (q ∈ ql ↔ S q = 1 ∧ q ≠ cur)
def zg_Q (ql : List Nat) (qa qz : Int32) (bh : Nat → Int32) (qn : Int32) (qy S : Nat → Int32) (cur : Nat) : Prop := zr_QX ql qa qz bh qn qy ∧ zr_QS ql S cur
def zr_SR (S : Nat → Int32) : Prop := ∀ p, p < 5 → S p = 0 ∨ S p = 1 ∨ S p = 2 ∨ S p = 3
def zr_PA (S pr py : Nat → Int32) : Prop := ∀ p, p < 5 → S p ≠ 0 → pr p = py p ∧ pr p ≠ nI p
def zr_PG (S Z gx gy : Nat → Int32) : Prop := ∀ p, p < 5 → (S p = 1 ∨ S p = 2) → ∃ z, z ≤ 20 ∧ Z p = nI z ∧ ∀ i, i < z → gx (20 * p + i) = gy (20 * p + i)
def zr_WS (S P Z : Nat → Int32) : Prop := ∀ p, p < 5 → S p = 2 → ∃ i z, i < z ∧ z ≤ 20 ∧ P p = nI i ∧ Z p = nI z
def zr_PB (B : Nat) (pn : Int32) : Prop := B < 1000000 ∧ ∃ n, n ≤ B ∧ pn = nI n
def zg_R (B : Nat) (pn : Int32) (S pr py Z gx gy P : Nat → Int32) : Prop := zr_SR S ∧ zr_PA S pr py ∧ zr_PG S Z gx gy ∧ zr_WS S P Z ∧ zr_PB B pn
/-- the whole: B bounds the printed count, cur is the process at work (5: none) -/
def zz_I (B : Nat) (cur : Nat) (C : Nat → Int32) (ln bl dc : Nat → Nat) (ql : List Nat) (fu : Int64) (nk lv qa qz pn : Int32) (st kb ch kw K lx bo lk oc eN eV U F Q os ps pc pw rd wr S pr P Z gx L D bh : Nat → Int32) (qn : Int32) (ly wd E py gy A fl pp qy : Nat → Int32) : Prop :=
  zg_T K U E S L lx eN eV lk ∧ zg_B fu nk lv st kb ch kw C K ln bl bo lx ly wd ∧ zg_O dc D A os rd wr K F Q oc E S ∧ zg_P dc ps pc pw fl pp ∧ zg_Q ql qa qz bh qn qy S cur ∧ zg_R B pn S pr py Z gx gy P
/-- what the reference's clean makes of the kinds -/
noncomputable def zk_c (dc : Nat → Nat) (E F K : Nat → Int32) : Nat → Int32 := fun n => @ite Int32 (n < 10 ∧ K n = 1 ∧ ¬ zh_l E n ∧ ¬ zh_f dc F n) (Classical.propDecidable _) 0 (K n)
theorem zk_t {dc : Nat → Nat} {E F K : Nat → Int32} {n : Nat} (h : n < 10) (h1 : K n = 1) (h2 : ¬ zh_l E n) (h3 : ¬ zh_f dc F n) : zk_c dc E F K n = 0 := by unfold zk_c; exact if_pos ⟨h, h1, h2, h3⟩
theorem zk_f {dc : Nat → Nat} {E F K : Nat → Int32} {n : Nat} (h : ¬ (n < 10 ∧ K n = 1 ∧ ¬ zh_l E n ∧ ¬ zh_f dc F n)) : zk_c dc E F K n = K n := by unfold zk_c; exact if_neg h
theorem zk_id {dc : Nat → Nat} {E F K : Nat → Int32} (h : zr_NZ dc K E F) : zk_c dc E F K = K := by
  funext n
  refine zk_f fun z => ?_
  rcases h n z.1 z.2.1 with a | a
  · exact z.2.2.1 a
  · exact z.2.2.2 a
end
section
/-! what the component's readers answer -/
def za_r (N : Nat) (x : Int32) : Prop := ∃ m, m < N ∧ x = nI m
def zn_v (E : Nat → Int32) (d : Nat) (nm r : Int32) : Prop := (∃ m, m < 15 ∧ nm = nI m ∧ r = E (15 * d + m)) ∨ (¬ za_r 15 nm ∧ r = -1)
theorem zn_ex (E : Nat → Int32) (d : Nat) (nm : Int32) : ∃ r, zn_v E d nm r := by
  rcases Classical.em (za_r 15 nm) with ⟨m, hm, e⟩ | z
  · exact ⟨_, Or.inl ⟨m, hm, e, rfl⟩⟩
  · exact ⟨_, Or.inr ⟨z, rfl⟩⟩
def za_c (dc : Nat → Nat) (p : Nat) (x : Int32) (c : Nat) : Prop := (∃ j, j < 4 ∧ x = nI j ∧ c = dc (4 * p + j)) ∨ (¬ za_r 4 x ∧ c = 0)
theorem za_ex (dc : Nat → Nat) (p : Nat) (x : Int32) : ∃ c, za_c dc p x c := by
  rcases Classical.em (za_r 4 x) with ⟨m, hm, e⟩ | z
  · exact ⟨_, Or.inl ⟨m, hm, e, rfl⟩⟩
  · exact ⟨_, Or.inr ⟨z, rfl⟩⟩
theorem za_neg {N : Nat} {x : Int32} (hN : N < 2 ^ 31) (h : x < 0) : ¬ za_r N x := fun ⟨m, hm, e⟩ => nI_pos (n := m) (by omega) (e ▸ h)
theorem za_big {N : Nat} {x : Int32} (hN : N < 2 ^ 31) (h : nI N ≤ x) : ¬ za_r N x := fun ⟨m, hm, e⟩ => nI_ge hm hN (e ▸ h)
theorem zcl {f : Nat → Int32} {i : Nat} (h : i < 2 ^ 31) : f (nI i).toNatClampNeg = f i := by rw [nI_clamp h]
theorem zlt_le {x y z : Int32} (h : x ≤ y) (h2 : ¬ x < z) : ¬ y < z := fun q => h2 (Int32.lt_of_le_of_lt h q)
def za_l (S : Nat → Int32) (x : Int32) : Prop := ∃ q, q < 5 ∧ x = nI q ∧ (S q = 1 ∨ S q = 2)
section
variable {fu : Int64} {nk lv qa qz : Int32} {ec : Int64} {pn : Int32} {st kb ch kw K lx bo lk oc eN eV U F Ww Q os ps pc pw rd wr S pr P Z gx R L D bh O : Nat → Int32}
theorem xr_isName {post : Int32 → Prop} {x : Int32} (h1 : za_r 15 x → post 1) (h0 : ¬ za_r 15 x → post 0) : wpX_isName post (fu, nk, lv, qa, qz, ec, pn, st, kb, ch, kw, K, lx, bo, lk, oc, eN, eV, U, F, Ww, Q, os, ps, pc, pw, rd, wr, S, pr, P, Z, gx, R, L, D, bh, O) x := by
  rcases pk_ix x (n := 15) (by decide) with h | h | ⟨j, hj, e⟩
  · exact br_t h (h0 (za_neg (by decide) h))
  · exact br_f (zlt_le h (by decide)) (br_t h (h0 (za_big (by decide) h)))
  · subst e; exact br_f (nI_pos (by omega)) (br_f (nI_ge (b := 15) hj (by decide)) (h1 ⟨j, hj, rfl⟩))
theorem xr_isNode {post : Int32 → Prop} {x : Int32} (h1 : za_r 10 x → post 1) (h0 : ¬ za_r 10 x → post 0) : wpX_isNode post (fu, nk, lv, qa, qz, ec, pn, st, kb, ch, kw, K, lx, bo, lk, oc, eN, eV, U, F, Ww, Q, os, ps, pc, pw, rd, wr, S, pr, P, Z, gx, R, L, D, bh, O) x := by
  rcases pk_ix x (n := 10) (by decide) with h | h | ⟨j, hj, e⟩
  · exact br_t h (h0 (za_neg (by decide) h))
  · exact br_f (zlt_le h (by decide)) (br_t h (h0 (za_big (by decide) h)))
  · subst e; exact br_f (nI_pos (by omega)) (br_f (nI_ge (b := 10) hj (by decide)) (h1 ⟨j, hj, rfl⟩))
theorem xr_isProcess {post : Int32 → Prop} {x : Int32} (h1 : za_r 5 x → post 1) (h0 : ¬ za_r 5 x → post 0) : wpX_isProcess post (fu, nk, lv, qa, qz, ec, pn, st, kb, ch, kw, K, lx, bo, lk, oc, eN, eV, U, F, Ww, Q, os, ps, pc, pw, rd, wr, S, pr, P, Z, gx, R, L, D, bh, O) x := by
  rcases pk_ix x (n := 5) (by decide) with h | h | ⟨j, hj, e⟩
  · exact br_t h (h0 (za_neg (by decide) h))
  · exact br_f (zlt_le h (by decide)) (br_t h (h0 (za_big (by decide) h)))
  · subst e; exact br_f (nI_pos (by omega)) (br_f (nI_ge (b := 5) hj (by decide)) (h1 ⟨j, hj, rfl⟩))
theorem xr_freeNode {post : Int32 → Prop} {r : Int32} (h0 : K 0 ≠ 0) (H : zf_F (fun n => K n = 0) 10 r) (hp : post r) : wpX_freeNode post (fu, nk, lv, qa, qz, ec, pn, st, kb, ch, kw, K, lx, bo, lk, oc, eN, eV, U, F, Ww, Q, os, ps, pc, pw, rd, wr, S, pr, P, Z, gx, R, L, D, bh, O) := by
  show ∃ n, wX_freeNode_2 post fu nk lv qa qz ec pn st kb ch kw K lx bo lk oc eN eV U F Ww Q os ps pc pw rd wr S pr P Z gx R L D bh O n (nI 1)
  refine zf_scan (Wq := fun n i => wX_freeNode_2 post fu nk lv qa qz ec pn st kb ch kw K lx bo lk oc eN eV U F Ww Q os ps pc pw rd wr S pr P Z gx R L D bh O n i) H 1 (by decide) (fun j hj => by rw [show j = 0 by omega]; exact h0) ?_ ?_ ?_
  · intro e n; exact br_t (nI_le (a := 10) (b := 10) (by decide) (by decide)) (e ▸ hp)
  · intro n i _ hi hh e; exact br_f (nI_ge (b := 10) hi (by decide)) ⟨vp_in_nI hi (by decide), br_t ((zcl (by omega)).trans hh) (e ▸ hp)⟩
  · intro n i _ hi hh k; exact br_f (nI_ge (b := 10) hi (by decide)) ⟨vp_in_nI hi (by decide), br_f (fun z => hh ((zcl (by omega)).symm.trans z)) (nm_r (nI_1 i) k)⟩
theorem xr_freeProcess {post : Int32 → Prop} {r : Int32} (H : zf_F (fun n => S n = 0) 5 r) (hp : post r) : wpX_freeProcess post (fu, nk, lv, qa, qz, ec, pn, st, kb, ch, kw, K, lx, bo, lk, oc, eN, eV, U, F, Ww, Q, os, ps, pc, pw, rd, wr, S, pr, P, Z, gx, R, L, D, bh, O) := by
  show ∃ n, wX_freeProcess_2 post fu nk lv qa qz ec pn st kb ch kw K lx bo lk oc eN eV U F Ww Q os ps pc pw rd wr S pr P Z gx R L D bh O n (nI 0)
  refine zf_scan (Wq := fun n i => wX_freeProcess_2 post fu nk lv qa qz ec pn st kb ch kw K lx bo lk oc eN eV U F Ww Q os ps pc pw rd wr S pr P Z gx R L D bh O n i) H 0 (by decide) (fun j hj => absurd hj (by omega)) ?_ ?_ ?_
  · intro e n; exact br_t (nI_le (a := 5) (b := 5) (by decide) (by decide)) (e ▸ hp)
  · intro n i _ hi hh e; exact br_f (nI_ge (b := 5) hi (by decide)) ⟨vp_in_nI hi (by decide), br_t ((zcl (by omega)).trans hh) (e ▸ hp)⟩
  · intro n i _ hi hh k; exact br_f (nI_ge (b := 5) hi (by decide)) ⟨vp_in_nI hi (by decide), br_f (fun z => hh ((zcl (by omega)).symm.trans z)) (nm_r (nI_1 i) k)⟩
theorem xr_freeOpening {post : Int32 → Prop} {r : Int32} (H : zf_F (fun n => os n = 0) 8 r) (hp : post r) : wpX_freeOpening post (fu, nk, lv, qa, qz, ec, pn, st, kb, ch, kw, K, lx, bo, lk, oc, eN, eV, U, F, Ww, Q, os, ps, pc, pw, rd, wr, S, pr, P, Z, gx, R, L, D, bh, O) := by
  show ∃ n, wX_freeOpening_2 post fu nk lv qa qz ec pn st kb ch kw K lx bo lk oc eN eV U F Ww Q os ps pc pw rd wr S pr P Z gx R L D bh O n (nI 0)
  refine zf_scan (Wq := fun n i => wX_freeOpening_2 post fu nk lv qa qz ec pn st kb ch kw K lx bo lk oc eN eV U F Ww Q os ps pc pw rd wr S pr P Z gx R L D bh O n i) H 0 (by decide) (fun j hj => absurd hj (by omega)) ?_ ?_ ?_
  · intro e n; exact br_t (nI_le (a := 8) (b := 8) (by decide) (by decide)) (e ▸ hp)
  · intro n i _ hi hh e; exact br_f (nI_ge (b := 8) hi (by decide)) ⟨vp_in_nI hi (by decide), br_t ((zcl (by omega)).trans hh) (e ▸ hp)⟩
  · intro n i _ hi hh k; exact br_f (nI_ge (b := 8) hi (by decide)) ⟨vp_in_nI hi (by decide), br_f (fun z => hh ((zcl (by omega)).symm.trans z)) (nm_r (nI_1 i) k)⟩
theorem xr_emptyDescriptor {post : Int32 → Prop} {r : Int32} {p a : Nat} (hp5 : p < 5) (ha : a ≤ 4) (H : zf_F (fun d => a ≤ d ∧ D (4 * p + d) = 0) 4 r) (hp : post r) : wpX_emptyDescriptor post (fu, nk, lv, qa, qz, ec, pn, st, kb, ch, kw, K, lx, bo, lk, oc, eN, eV, U, F, Ww, Q, os, ps, pc, pw, rd, wr, S, pr, P, Z, gx, R, L, D, bh, O) (nI p) (nI a) := by
  show ∃ n, wX_emptyDescriptor_2 post (nI p) fu nk lv qa qz ec pn st kb ch kw K lx bo lk oc eN eV U F Ww Q os ps pc pw rd wr S pr P Z gx R L D bh O n (nI a)
  have ei : ∀ i, 4 * nI p + nI i = nI (4 * p + i) := fun i => by rw [zi_m4, nI_add]
  refine zf_scan (Wq := fun n i => wX_emptyDescriptor_2 post (nI p) fu nk lv qa qz ec pn st kb ch kw K lx bo lk oc eN eV U F Ww Q os ps pc pw rd wr S pr P Z gx R L D bh O n i) H a ha (fun j hj z => absurd z.1 (by omega)) ?_ ?_ ?_
  · intro e n; exact br_t (nI_le (a := 4) (b := 4) (by decide) (by decide)) (e ▸ hp)
  · intro n i _ hi hh e; refine br_f (nI_ge (b := 4) hi (by decide)) ?_
    rw [ei]
    exact ⟨vp_in_nI (by omega) (by decide), br_t ((zcl (by omega)).trans hh.2) (e ▸ hp)⟩
  · intro n i h0 hi hh k; refine br_f (nI_ge (b := 4) hi (by decide)) ?_
    rw [ei]
    exact ⟨vp_in_nI (by omega) (by decide), br_f (fun z => hh ⟨h0, (zcl (by omega)).symm.trans z⟩) (nm_r (nI_1 i) k)⟩
theorem xr_hasChild {post : Int32 → Prop} {p : Int32} (h1 : (∃ c, c < 5 ∧ S c ≠ 0 ∧ pr c = p) → post 1) (h0 : (∀ c, c < 5 → ¬ (S c ≠ 0 ∧ pr c = p)) → post 0) : wpX_hasChild post (fu, nk, lv, qa, qz, ec, pn, st, kb, ch, kw, K, lx, bo, lk, oc, eN, eV, U, F, Ww, Q, os, ps, pc, pw, rd, wr, S, pr, P, Z, gx, R, L, D, bh, O) p := by
  show ∃ n, wX_hasChild_2 post p fu nk lv qa qz ec pn st kb ch kw K lx bo lk oc eN eV U F Ww Q os ps pc pw rd wr S pr P Z gx R L D bh O n (nI 0)
  refine zf_any (Wq := fun n i => wX_hasChild_2 post p fu nk lv qa qz ec pn st kb ch kw K lx bo lk oc eN eV U F Ww Q os ps pc pw rd wr S pr P Z gx R L D bh O n i) (fun c => S c ≠ 0 ∧ pr c = p) 5 ?_ ?_ ?_
  · intro h n; exact br_t (nI_le (a := 5) (b := 5) (by decide) (by decide)) (h0 h)
  · intro n i hi hh; exact br_f (nI_ge (b := 5) hi (by decide)) ⟨vp_in_nI hi (by decide), br_f (fun z => hh.1 ((zcl (by omega)).symm.trans z)) ⟨vp_in_nI hi (by decide), br_t ((zcl (by omega)).trans hh.2) (h1 ⟨i, hi, hh⟩)⟩⟩
  · intro n i hi hh k; refine br_f (nI_ge (b := 5) hi (by decide)) ⟨vp_in_nI hi (by decide), ?_⟩
    by_cases c : S i = 0
    · exact br_t ((zcl (by omega)).trans c) (nm_r (nI_1 i) k)
    · exact br_f (fun z => c ((zcl (by omega)).symm.trans z)) ⟨vp_in_nI hi (by decide), br_f (fun z => hh ⟨c, (zcl (by omega)).symm.trans z⟩) (nm_r (nI_1 i) k)⟩
theorem xr_endedChild {post : Int32 → Prop} {p r : Int32} (H : zf_F (fun c => S c = 3 ∧ pr c = p) 5 r) (hp : post r) : wpX_endedChild post (fu, nk, lv, qa, qz, ec, pn, st, kb, ch, kw, K, lx, bo, lk, oc, eN, eV, U, F, Ww, Q, os, ps, pc, pw, rd, wr, S, pr, P, Z, gx, R, L, D, bh, O) p := by
  show ∃ n, wX_endedChild_2 post p fu nk lv qa qz ec pn st kb ch kw K lx bo lk oc eN eV U F Ww Q os ps pc pw rd wr S pr P Z gx R L D bh O n (nI 0)
  refine zf_scan (Wq := fun n i => wX_endedChild_2 post p fu nk lv qa qz ec pn st kb ch kw K lx bo lk oc eN eV U F Ww Q os ps pc pw rd wr S pr P Z gx R L D bh O n i) H 0 (by decide) (fun j hj => absurd hj (by omega)) ?_ ?_ ?_
  · intro e n; exact br_t (nI_le (a := 5) (b := 5) (by decide) (by decide)) (e ▸ hp)
  · intro n i _ hi hh e; exact br_f (nI_ge (b := 5) hi (by decide)) ⟨vp_in_nI hi (by decide), br_t ((zcl (by omega)).trans hh.1) ⟨vp_in_nI hi (by decide), br_t ((zcl (by omega)).trans hh.2) (e ▸ hp)⟩⟩
  · intro n i _ hi hh k; refine br_f (nI_ge (b := 5) hi (by decide)) ⟨vp_in_nI hi (by decide), ?_⟩
    by_cases c : S i = 3
    · exact br_t ((zcl (by omega)).trans c) ⟨vp_in_nI hi (by decide), br_f (fun z => hh ⟨c, (zcl (by omega)).symm.trans z⟩) (nm_r (nI_1 i) k)⟩
    · exact br_f (fun z => c ((zcl (by omega)).symm.trans z)) (nm_r (nI_1 i) k)
theorem xr_isAlive {post : Int32 → Prop} {x : Int32} (h1 : za_l S x → post 1) (h0 : ¬ za_l S x → post 0) : wpX_isAlive post (fu, nk, lv, qa, qz, ec, pn, st, kb, ch, kw, K, lx, bo, lk, oc, eN, eV, U, F, Ww, Q, os, ps, pc, pw, rd, wr, S, pr, P, Z, gx, R, L, D, bh, O) x := by
  unfold wpX_isAlive
  refine xr_isProcess ?_ ?_
  · rintro ⟨q, hq, rfl⟩
    refine br_f (by decide) ⟨vp_in_nI hq (by decide), ?_⟩
    by_cases c : S q = 1
    · exact br_t ((zcl (by omega)).trans c) (h1 ⟨q, hq, rfl, Or.inl c⟩)
    · refine br_f (fun z => c ((zcl (by omega)).symm.trans z)) ⟨vp_in_nI hq (by decide), ?_⟩
      by_cases c2 : S q = 2
      · exact br_t ((zcl (by omega)).trans c2) (h1 ⟨q, hq, rfl, Or.inr c2⟩)
      · refine br_f (fun z => c2 ((zcl (by omega)).symm.trans z)) (h0 ?_)
        rintro ⟨q', hq', e, h⟩
        rw [zi_inj (by omega) (by omega) e] at c c2
        exact h.elim c c2
  · intro h
    exact br_t rfl (h0 fun ⟨q, hq, e, _⟩ => h ⟨q, hq, e⟩)
theorem xr_isPlace {post : Int32 → Prop} {x : Int32} (h1 : (∃ q, q < 5 ∧ (S q = 1 ∨ S q = 2) ∧ L q = x) → post 1) (h0 : (∀ q, q < 5 → ¬ ((S q = 1 ∨ S q = 2) ∧ L q = x)) → post 0) : wpX_isPlace post (fu, nk, lv, qa, qz, ec, pn, st, kb, ch, kw, K, lx, bo, lk, oc, eN, eV, U, F, Ww, Q, os, ps, pc, pw, rd, wr, S, pr, P, Z, gx, R, L, D, bh, O) x := by
  show ∃ n, wX_isPlace_2 post x fu nk lv qa qz ec pn st kb ch kw K lx bo lk oc eN eV U F Ww Q os ps pc pw rd wr S pr P Z gx R L D bh O n (nI 0)
  refine zf_any (Wq := fun n i => wX_isPlace_2 post x fu nk lv qa qz ec pn st kb ch kw K lx bo lk oc eN eV U F Ww Q os ps pc pw rd wr S pr P Z gx R L D bh O n i) (fun q => (S q = 1 ∨ S q = 2) ∧ L q = x) 5 ?_ ?_ ?_
  · intro h n; exact br_t (nI_le (a := 5) (b := 5) (by decide) (by decide)) (h0 h)
  · intro n i hi hh
    refine br_f (nI_ge (b := 5) hi (by decide)) (xr_isAlive ?_ ?_)
    · exact fun _ => br_f (by decide) ⟨vp_in_nI hi (by decide), br_t ((zcl (by omega)).trans hh.2) (h1 ⟨i, hi, hh⟩)⟩
    · exact fun z => absurd ⟨i, hi, rfl, hh.1⟩ z
  · intro n i hi hh k
    refine br_f (nI_ge (b := 5) hi (by decide)) (xr_isAlive ?_ ?_)
    · rintro ⟨q, hq, e, hl⟩
      have e2 := zi_inj (by omega) (by omega) e
      subst e2
      exact br_f (by decide) ⟨vp_in_nI hi (by decide), br_f (fun z => hh ⟨hl, (zcl (by omega)).symm.trans z⟩) (nm_r (nI_1 i) k)⟩
    · exact fun z => br_t rfl (nm_r (nI_1 i) k)
end
end
section
/-! names, entries, ends, waits (component) -/
theorem zx_cs {c : Nat} (h : c ≤ 12) : c = 0 ∨ (∃ o, o < 8 ∧ c = 1 + o) ∨ (∃ j, j < 2 ∧ c = 9 + j) ∨ ∃ j, j < 2 ∧ c = 11 + j := by
  rcases Nat.eq_zero_or_pos c with a | a
  · exact Or.inl a
  · rcases Nat.lt_or_ge c 9 with b | b
    · exact Or.inr (Or.inl ⟨c - 1, by omega, by omega⟩)
    · rcases Nat.lt_or_ge c 11 with d | d
      · exact Or.inr (Or.inr (Or.inl ⟨c - 9, by omega, by omega⟩))
      · exact Or.inr (Or.inr (Or.inr ⟨c - 11, by omega, by omega⟩))
theorem zx_0 : zxn 0 = 0 := rfl
theorem zx_o {o : Nat} (h : o < 8) : zxn (1 + o) = 1 + o := by unfold zxn; rw [if_pos (by omega)]
theorem zx_r {j : Nat} (h : j < 2) : zxn (9 + j) = 16 + 2 * j := by unfold zxn; rw [if_neg (by omega), if_pos (by omega)]; omega
theorem zx_w {j : Nat} (h : j < 2) : zxn (11 + j) = 17 + 2 * j := by unfold zxn; rw [if_neg (by omega), if_neg (by omega)]; omega
theorem zx_le {c : Nat} (h : c ≤ 12) : zxn c < 20 := by
  rcases zx_cs h with e | ⟨o, ho, e⟩ | ⟨o, ho, e⟩ | ⟨o, ho, e⟩ <;> subst e
  · rw [zx_0]; omega
  · rw [zx_o ho]; omega
  · rw [zx_r ho]; omega
  · rw [zx_w ho]; omega
theorem zy_0 : zyn 0 = 0 := rfl
theorem zy_o {o : Nat} (h : o < 8) : zyn (1 + o) = 1 + o := by unfold zyn; rw [if_pos (by omega)]
theorem zy_r {j : Nat} (h : j < 2) : zyn (9 + j) = 101 + j := by unfold zyn; rw [if_neg (by omega), if_pos (by omega)]; omega
theorem zy_w {j : Nat} (h : j < 2) : zyn (11 + j) = 201 + j := by unfold zyn; rw [if_neg (by omega), if_neg (by omega)]; omega
theorem zy_le {c : Nat} (h : c ≤ 12) : zyn c < 203 := by
  rcases zx_cs h with e | ⟨o, ho, e⟩ | ⟨o, ho, e⟩ | ⟨o, ho, e⟩ <;> subst e
  · rw [zy_0]; omega
  · rw [zy_o ho]; omega
  · rw [zy_r ho]; omega
  · rw [zy_w ho]; omega
theorem zy_inj : ∀ c, c ≤ 12 → ∀ d, d ≤ 12 → zyn c = zyn d → c = d := by decide
theorem zx_inj : ∀ c, c ≤ 12 → ∀ d, d ≤ 12 → zxn c = zxn d → c = d := by decide
theorem zx_pipeR : ∀ j, j < 2 → (nI (16 + 2 * j) - 16) / 2 = nI j := by decide
theorem zx_pipeW : ∀ j, j < 2 → (nI (17 + 2 * j) - 16) / 2 = nI j := by decide
theorem zx_evR : ∀ j, j < 2 → nI (16 + 2 * j) &&& 1 = 0 := by decide
theorem zx_evW : ∀ j, j < 2 → ¬ nI (17 + 2 * j) &&& 1 = 0 := by decide
theorem zx_opn : ∀ o, o < 8 → nI (1 + o) - 1 = nI o := by decide
theorem zc_20 {p : Nat → Prop} : zc p 20 < 128 := Nat.lt_of_le_of_lt (zc_le p 20) (by decide)
theorem zc_8 {p : Nat → Prop} : zc p 8 < 128 := Nat.lt_of_le_of_lt (zc_le p 8) (by decide)
theorem zh_pos {dc : Nat → Nat} {c : Nat} : zh_o dc c ↔ 0 < zc (fun k => dc k = c) 20 := ⟨fun ⟨_, hk, e⟩ => zc_pos hk e, fun h => zc_ex h⟩
section
variable {fu : Int64} {nk lv qa qz : Int32} {ec : Int64} {pn : Int32} {st kb ch kw K lx bo lk oc eN eV U F Ww Q os ps pc pw rd wr S pr P Z gx R L D bh O : Nat → Int32} {dc : Nat → Nat} {E : Nat → Int32}
theorem xr_entryAt {post : Int32 → Prop} {d l : Nat} {nm r : Int32} (hd : d < 10) (hl : l ≤ 6) (el : lx d = nI l) (H : zf_F (fun i => 6 * d ≤ i ∧ eN i = nm) (6 * d + l) r) (hp : post r) : wpX_entryAt post (fu, nk, lv, qa, qz, ec, pn, st, kb, ch, kw, K, lx, bo, lk, oc, eN, eV, U, F, Ww, Q, os, ps, pc, pw, rd, wr, S, pr, P, Z, gx, R, L, D, bh, O) (nI d) nm := by
  refine nm_r (e' := nI (6 * d)) (zi_m6 d) ?_
  have e0 : 6 * nI d + lx (nI d).toNatClampNeg = nI (6 * d + l) := by rw [zcl (f := lx) (by omega), el, zi_m6, nI_add]
  refine zf_scan (Wq := fun n i => wX_entryAt_5 post (nI d) nm fu nk lv qa qz ec pn st kb ch kw K lx bo lk oc eN eV U F Ww Q os ps pc pw rd wr S pr P Z gx R L D bh O n i) H (6 * d) (by omega) (fun j hj z => absurd z.1 (by omega)) ?_ ?_ ?_
  · intro e n
    refine ⟨vp_in_nI hd (by decide), ?_⟩
    rw [e0]
    exact br_t (nI_le (Nat.le_refl _) (by omega)) (e ▸ hp)
  · intro n i _ hi hh e
    refine ⟨vp_in_nI hd (by decide), ?_⟩
    rw [e0]
    exact br_f (nI_ge hi (by omega)) ⟨vp_in_nI (by omega) (by decide), br_t ((zcl (by omega)).trans hh.2) (e ▸ hp)⟩
  · intro n i h0 hi hh k
    refine ⟨vp_in_nI hd (by decide), ?_⟩
    rw [e0]
    exact br_f (nI_ge hi (by omega)) ⟨vp_in_nI (by omega) (by decide), br_f (fun z => hh ⟨h0, (zcl (by omega)).symm.trans z⟩) (nm_r (nI_1 i) k)⟩
/-- the entry's place in the component, if there is one -/
theorem xr_entry {d l : Nat} {nm : Int32} (hd : d < 10) (hl : l ≤ 6) (el : lx d = nI l) (H : zr_D1 d l eN eV E) :
    ∃ r : Int32, ((r = -1 ∧ ∀ m, m < 15 → nm = nI m → E (15 * d + m) = -1) ∨ ∃ e m, e < l ∧ m < 15 ∧ nm = nI m ∧ r = nI (6 * d + e) ∧ eN (6 * d + e) = nI m ∧ eV (6 * d + e) = E (15 * d + m) ∧ E (15 * d + m) ≠ -1) ∧
      ∀ post : Int32 → Prop, post r → wpX_entryAt post (fu, nk, lv, qa, qz, ec, pn, st, kb, ch, kw, K, lx, bo, lk, oc, eN, eV, U, F, Ww, Q, os, ps, pc, pw, rd, wr, S, pr, P, Z, gx, R, L, D, bh, O) (nI d) nm := by
  obtain ⟨r, hr⟩ := zf_ex (fun i => 6 * d ≤ i ∧ eN i = nm) (6 * d + l)
  refine ⟨r, ?_, fun post hp => xr_entryAt hd hl el hr hp⟩
  rcases hr with ⟨e, hn⟩ | ⟨i, hi, e, hh, _⟩
  · refine Or.inl ⟨e, fun m hm em => Classical.byContradiction fun hE => ?_⟩
    obtain ⟨x, hx, ex⟩ := H.2.2.1 m hm hE
    exact hn (6 * d + x) (by omega) ⟨by omega, ex.trans em.symm⟩
  · obtain ⟨m, hm, e1, e2, e3⟩ := H.1 (i - 6 * d) (by omega)
    have ei : 6 * d + (i - 6 * d) = i := by omega
    rw [ei] at e1 e2
    refine Or.inr ⟨i - 6 * d, m, by omega, hm, hh.2.symm.trans e1, ?_, ?_, ?_, e3⟩
    · rw [ei]; exact e
    · rw [ei]; exact e1
    · rw [ei]; exact e2
theorem xr_find {post : Int32 → Prop} {d : Nat} {nm r : Int32} (hd : d < 10) (hK : K d = 2) (H : zr_DR K lx eN eV E) (hv : zn_v E d nm r) (hp : post r) : wpX_find post (fu, nk, lv, qa, qz, ec, pn, st, kb, ch, kw, K, lx, bo, lk, oc, eN, eV, U, F, Ww, Q, os, ps, pc, pw, rd, wr, S, pr, P, Z, gx, R, L, D, bh, O) (nI d) nm := by
  obtain ⟨l, hl, el, hD⟩ := H d hd hK
  obtain ⟨r0, h0, hX⟩ := xr_entry (nm := nm) hd hl el hD
  refine hX _ ?_
  rcases h0 with ⟨e, hn⟩ | ⟨e, m, he, hm, en, er, e1, e2, e3⟩
  · have er : r = -1 := by
      rcases hv with ⟨m, hm, em, e2⟩ | ⟨_, e2⟩
      · rw [e2, hn m hm em]
      · exact e2
    rw [e]
    exact br_f (by decide) (er ▸ hp)
  · have e4 : r = eV (6 * d + e) := by
      rcases hv with ⟨m', hm', em, e4⟩ | ⟨hz, _⟩
      · have := zi_inj (by omega) (by omega) (en.symm.trans em)
        subst this
        rw [e4, e2]
      · exact absurd ⟨m, hm, en⟩ hz
    rw [er]
    exact br_t (nI_pos' (by omega)) ⟨vp_in_nI (by omega) (by decide), by rw [zcl (f := eV) (by omega)]; exact e4 ▸ hp⟩
theorem xr_endAt {post : Int32 → Prop} {p : Nat} {x : Int32} {c : Nat} {A : Nat → Int32} (hp5 : p < 5) (H : zr_OD dc D A) (hc : za_c dc p x c) (hp : post (nI (zxn c))) : wpX_endAt post (fu, nk, lv, qa, qz, ec, pn, st, kb, ch, kw, K, lx, bo, lk, oc, eN, eV, U, F, Ww, Q, os, ps, pc, pw, rd, wr, S, pr, P, Z, gx, R, L, D, bh, O) (nI p) x := by
  rcases pk_ix x (n := 4) (by decide) with h | h | ⟨j, hj, e⟩
  · rcases hc with ⟨j, hj, e, _⟩ | ⟨_, e⟩
    · exact absurd ⟨j, hj, e⟩ (za_neg (by decide) h)
    · subst e; exact br_t h hp
  · rcases hc with ⟨j, hj, e, _⟩ | ⟨_, e⟩
    · exact absurd ⟨j, hj, e⟩ (za_big (by decide) h)
    · subst e; exact br_f (zlt_le h (by decide)) (br_f (fun z => absurd (Int32.le_trans h z) (by decide)) hp)
  · subst e
    rcases hc with ⟨j', hj', e, ec⟩ | ⟨hz, _⟩
    · have := zi_inj (by omega) (by omega) e
      subst this
      refine br_f (nI_pos (by omega)) (br_t (nI_le (b := 3) (by omega) (by decide)) ?_)
      rw [show 4 * nI p + nI j = nI (4 * p + j) by rw [zi_m4, nI_add]]
      refine ⟨vp_in_nI (by omega) (by decide), ?_⟩
      rw [zcl (f := D) (by omega), (H (4 * p + j) (by omega)).2.1, ← ec]
      exact hp
    · exact absurd ⟨j, hj, rfl⟩ hz
theorem xr_isRd0 {post : Int32 → Prop} {j : Nat} (hj : j < 2) (hp : post 1) : wpX_isReading post (fu, nk, lv, qa, qz, ec, pn, st, kb, ch, kw, K, lx, bo, lk, oc, eN, eV, U, F, Ww, Q, os, ps, pc, pw, rd, wr, S, pr, P, Z, gx, R, L, D, bh, O) (nI (16 + 2 * j)) := br_t (zx_evR j hj) hp
theorem xr_isRd1 {post : Int32 → Prop} {j : Nat} (hj : j < 2) (hp : post 0) : wpX_isReading post (fu, nk, lv, qa, qz, ec, pn, st, kb, ch, kw, K, lx, bo, lk, oc, eN, eV, U, F, Ww, Q, os, ps, pc, pw, rd, wr, S, pr, P, Z, gx, R, L, D, bh, O) (nI (17 + 2 * j)) := br_f (zx_evW j hj) hp
theorem xr_pipe0 {post : Int32 → Prop} {j : Nat} (hj : j < 2) (hp : post (nI j)) : wpX_pipeOf post (fu, nk, lv, qa, qz, ec, pn, st, kb, ch, kw, K, lx, bo, lk, oc, eN, eV, U, F, Ww, Q, os, ps, pc, pw, rd, wr, S, pr, P, Z, gx, R, L, D, bh, O) (nI (16 + 2 * j)) := ⟨by decide, by rw [zx_pipeR j hj]; exact hp⟩
theorem xr_pipe1 {post : Int32 → Prop} {j : Nat} (hj : j < 2) (hp : post (nI j)) : wpX_pipeOf post (fu, nk, lv, qa, qz, ec, pn, st, kb, ch, kw, K, lx, bo, lk, oc, eN, eV, U, F, Ww, Q, os, ps, pc, pw, rd, wr, S, pr, P, Z, gx, R, L, D, bh, O) (nI (17 + 2 * j)) := ⟨by decide, by rw [zx_pipeW j hj]; exact hp⟩
theorem xr_isThere {post : Int32 → Prop} {j : Nat} (hj : j < 2) (H : zr_OS dc os rd wr) (h1 : (zh_o dc (9 + j) ∨ zh_o dc (11 + j)) → post 1) (h0 : ¬ zh_o dc (9 + j) → ¬ zh_o dc (11 + j) → post 0) : wpX_isThere post (fu, nk, lv, qa, qz, ec, pn, st, kb, ch, kw, K, lx, bo, lk, oc, eN, eV, U, F, Ww, Q, os, ps, pc, pw, rd, wr, S, pr, P, Z, gx, R, L, D, bh, O) (nI j) := by
  refine ⟨vp_in_nI hj (by decide), vp_in_nI hj (by decide), ?_⟩
  obtain ⟨e1, e2⟩ := H.2 j hj
  have a := zc_20 (p := fun k => dc k = 9 + j)
  have b := zc_20 (p := fun k => dc k = 11 + j)
  rw [zcl (f := rd) (by omega), zcl (f := wr) (by omega), e1, e2, nI_add]
  by_cases z : zc (fun k => dc k = 9 + j) 20 + zc (fun k => dc k = 11 + j) 20 = 0
  · refine br_t (by rw [z]; decide) (h0 ?_ ?_)
    · rw [zh_pos]; omega
    · rw [zh_pos]; omega
  · refine br_f (nI_nle (by omega) (by omega)) (h1 ?_)
    rw [zh_pos, zh_pos]; omega
end
end
section
/-! does the component's process wait -/
def zw_W (S pr : Nat → Int32) (dc : Nat → Nat) (pc : Nat → Int32) (p : Nat) (w : Int32) (c : Nat) : Prop :=
  (w &&& 31 = 11 ∧ (∃ c, c < 5 ∧ S c ≠ 0 ∧ pr c = nI p) ∧ ∀ c, c < 5 → ¬ (S c = 3 ∧ pr c = nI p)) ∨
  (w &&& 31 = 15 ∧ ∃ j, j < 2 ∧ c = 9 + j ∧ pc j = 0 ∧ zh_o dc (11 + j)) ∨ (w &&& 31 = 16 ∧ ∃ j, j < 2 ∧ c = 11 + j ∧ pc j = 4 ∧ zh_o dc (9 + j))
theorem zw_no {S pr : Nat → Int32} {dc : Nat → Nat} {pc : Nat → Int32} {p : Nat} {w : Int32} {c : Nat} (h : c < 9) (h1 : ¬ w &&& 31 = 11) : ¬ zw_W S pr dc pc p w c := by
  rintro (a | ⟨_, j, _, e, _⟩ | ⟨_, j, _, e, _⟩)
  · exact h1 a.1
  · omega
  · omega
section
variable {fu : Int64} {nk lv qa qz : Int32} {ec : Int64} {pn : Int32} {st kb ch kw K lx bo lk oc eN eV U F Ww Q os ps pc pw rd wr S pr P Z gx R L D bh O : Nat → Int32} {dc : Nat → Nat} {A : Nat → Int32}
theorem xr_ww64 {post : Int32 → Prop} {p b c : Nat} {w : Int32} (hp5 : p < 5) (hb : (w >>> ((7 : Int32) &&& 31)) &&& 3 = nI b) (hb4 : b < 4)
    (H : zr_OD dc D A) (HS : zr_OS dc os rd wr) (hc : za_c dc p (R (4 * p + b)) c) (hc12 : c ≤ 12) (ho : w &&& 31 = 15 ∨ w &&& 31 = 16)
    (h1 : zw_W S pr dc pc p w c → post 1) (h0 : ¬ zw_W S pr dc pc p w c → post 0) : wX_wouldWait_64 post (nI p) w (w &&& 31) fu nk lv qa qz ec pn st kb ch kw K lx bo lk oc eN eV U F Ww Q os ps pc pw rd wr S pr P Z gx R L D bh O := by
  have h11 : ¬ w &&& 31 = 11 := by rcases ho with e | e <;> rw [e] <;> decide
  unfold wX_wouldWait_64
  rw [hb, zi_m4, nI_add, zcl (f := R) (by omega)]
  refine ⟨vp_in_nI (by omega) (by decide), xr_endAt hp5 H hc ?_⟩
  rcases zx_cs hc12 with e | ⟨o, ho8, e⟩ | ⟨j, hj, e⟩ | ⟨j, hj, e⟩
  · subst e
    exact br_t (by decide) (h0 (zw_no (by decide) h11))
  · subst e
    rw [zx_o ho8]
    exact br_t (nI_lt (b := 16) (by omega) (by decide)) (h0 (zw_no (by omega) h11))
  · subst e
    rw [zx_r hj]
    refine br_f (nI_nlt (b := 16) (by omega) (by omega)) (xr_isRd0 hj ?_)
    have hw := (HS.2 j hj).2
    have hz := zc_20 (p := fun k => dc k = 11 + j)
    rcases ho with e | e
    · refine br_t e ?_
      unfold wX_wouldWait_110
      refine br_t rfl (xr_pipe0 hj (br_t e ⟨vp_in_nI hj (by decide), ?_⟩))
      by_cases z : pc j = 0
      · refine br_t ((zcl (by omega)).trans z) ⟨vp_in_nI hj (by decide), ?_⟩
        rw [zcl (f := wr) (by omega), hw]
        by_cases y : zh_o dc (11 + j)
        · exact br_f (nI_nle (zh_pos.mp y) (by omega)) (h1 (Or.inr (Or.inl ⟨e, j, hj, rfl, z, y⟩)))
        · refine br_t ?_ (h0 ?_)
          · rw [show zc (fun k => dc k = 11 + j) 20 = 0 by rw [zh_pos] at y; omega]; decide
          · rintro (a | ⟨_, i, _, ei, _, q⟩ | ⟨q, _⟩)
            · exact h11 a.1
            · rw [show i = j by omega] at q; exact y q
            · rw [e] at q; exact absurd q (by decide)
      · refine br_f (fun q => z ((zcl (by omega)).symm.trans q)) (h0 ?_)
        rintro (a | ⟨_, i, _, ei, q, _⟩ | ⟨q, _⟩)
        · exact h11 a.1
        · rw [show i = j by omega] at q; exact z q
        · rw [e] at q; exact absurd q (by decide)
    · refine br_f (by rw [e]; decide) ?_
      unfold wX_wouldWait_110
      refine br_f (by decide) (h0 ?_)
      rintro (a | ⟨q, _⟩ | ⟨_, i, _, ei, _⟩)
      · exact h11 a.1
      · rw [e] at q; exact absurd q (by decide)
      · omega
  · subst e
    rw [zx_w hj]
    refine br_f (nI_nlt (b := 16) (by omega) (by omega)) (xr_isRd1 hj ?_)
    have hw := (HS.2 j hj).1
    have hz := zc_20 (p := fun k => dc k = 9 + j)
    rcases ho with e | e
    · refine br_t e ?_
      unfold wX_wouldWait_110
      refine br_f (by decide) (h0 ?_)
      rintro (a | ⟨_, i, _, ei, _⟩ | ⟨q, _⟩)
      · exact h11 a.1
      · omega
      · rw [e] at q; exact absurd q (by decide)
    · have n15 : ¬ w &&& 31 = 15 := by rw [e]; decide
      refine br_f n15 ?_
      unfold wX_wouldWait_110
      refine br_t rfl (xr_pipe1 hj (br_f n15 ⟨vp_in_nI hj (by decide), ?_⟩))
      by_cases z : pc j = 4
      · refine br_t ((zcl (by omega)).trans z) ⟨vp_in_nI hj (by decide), ?_⟩
        rw [zcl (f := rd) (by omega), hw]
        by_cases y : zh_o dc (9 + j)
        · exact br_f (nI_nle (zh_pos.mp y) (by omega)) (h1 (Or.inr (Or.inr ⟨e, j, hj, rfl, z, y⟩)))
        · refine br_t ?_ (h0 ?_)
          · rw [show zc (fun k => dc k = 9 + j) 20 = 0 by rw [zh_pos] at y; omega]; decide
          · rintro (a | ⟨q, _⟩ | ⟨_, i, _, ei, _, q⟩)
            · exact h11 a.1
            · exact n15 q
            · rw [show i = j by omega] at q; exact y q
      · refine br_f (fun q => z ((zcl (by omega)).symm.trans q)) (h0 ?_)
        rintro (a | ⟨q, _⟩ | ⟨_, i, _, ei, q, _⟩)
        · exact h11 a.1
        · exact n15 q
        · rw [show i = j by omega] at q; exact z q
theorem xr_wouldWait {post : Int32 → Prop} {p s b c : Nat} {w : Int32} (hp5 : p < 5) (hs : P p = nI s) (hs2 : s < 20) (hw : gx (20 * p + s) = w) (hb : (w >>> ((7 : Int32) &&& 31)) &&& 3 = nI b) (hb4 : b < 4)
    (H : zr_OD dc D A) (HS : zr_OS dc os rd wr) (hc : za_c dc p (R (4 * p + b)) c) (hc12 : c ≤ 12)
    (h1 : zw_W S pr dc pc p w c → post 1) (h0 : ¬ zw_W S pr dc pc p w c → post 0) : wpX_wouldWait post (fu, nk, lv, qa, qz, ec, pn, st, kb, ch, kw, K, lx, bo, lk, oc, eN, eV, U, F, Ww, Q, os, ps, pc, pw, rd, wr, S, pr, P, Z, gx, R, L, D, bh, O) (nI p) := by
  refine ⟨vp_in_nI hp5 (by decide), ?_⟩
  rw [zcl (f := P) (by omega), hs, zi_m20, nI_add]
  refine ⟨vp_in_nI (by omega) (by decide), nm_r (e' := w) ((zcl (by omega)).trans hw) (nm_e ?_)⟩
  by_cases o11 : w &&& 31 = 11
  · have n15 : ¬ w &&& 31 = 15 := by rw [o11]; decide
    have n16 : ¬ w &&& 31 = 16 := by rw [o11]; decide
    refine br_t o11 (xr_hasChild (fun h => br_f (by decide) ?_) (fun h => br_t rfl (h0 ?_)))
    · obtain ⟨r, hr⟩ := zf_ex (fun c => S c = 3 ∧ pr c = nI p) 5
      refine xr_endedChild hr ?_
      rcases hr with ⟨e, hn⟩ | ⟨i, hi, e, hh, _⟩
      · rw [e]; exact br_f (by decide) (h1 (Or.inl ⟨o11, h, hn⟩))
      · rw [e]; refine br_t (nI_pos' (by omega)) (h0 ?_)
        rintro (a | ⟨q, _⟩ | ⟨q, _⟩)
        · exact a.2.2 i hi hh
        · exact n15 q
        · exact n16 q
    · rintro (a | ⟨q, _⟩ | ⟨q, _⟩)
      · obtain ⟨x, hx, hx2⟩ := a.2.1
        exact h x hx hx2
      · exact n15 q
      · exact n16 q
  · refine br_f o11 ?_
    by_cases o15 : w &&& 31 = 15
    · exact br_t o15 (xr_ww64 hp5 hb hb4 H HS hc hc12 (Or.inl o15) h1 h0)
    · refine br_f o15 ?_
      by_cases o16 : w &&& 31 = 16
      · exact br_t o16 (xr_ww64 hp5 hb hb4 H HS hc hc12 (Or.inr o16) h1 h0)
      · refine br_f o16 (h0 ?_)
        rintro (a | ⟨q, _⟩ | ⟨q, _⟩)
        · exact o11 a.1
        · exact o15 q
        · exact o16 q
end
end
section
/-! the store and what is kept at hand -/
theorem zs_4 (g : Nat → Int32) (b : Nat) (f : Nat → Int32) : ∃ g' : Nat → Int32, g' = upd (upd (upd (upd g (4 * b + 0) (f 0)) (4 * b + 1) (f 1)) (4 * b + 2) (f 2)) (4 * b + 3) (f 3) ∧
    (∀ j, j / 4 ≠ b → g' j = g j) ∧ ∀ k, k < 4 → g' (4 * b + k) = f k := by
  refine ⟨_, rfl, ?_, ?_⟩
  · intro j hj
    rw [pk_un (by omega), pk_un (by omega), pk_un (by omega), pk_un (by omega)]
  · intro k hk
    rcases (show k = 0 ∨ k = 1 ∨ k = 2 ∨ k = 3 by omega) with e | e | e | e <;> subst e
    · rw [pk_un (by omega), pk_un (by omega), pk_un (by omega), pk_us]
    · rw [pk_un (by omega), pk_un (by omega), pk_us]
    · rw [pk_un (by omega), pk_us]
    · rw [pk_us]
theorem zs_wb {fu : Int64} {nk lv : Int32} {st st' kb ch kw C : Nat → Int32} {s : Nat} (H : zr_SO fu nk lv st kb ch kw C) (hs : s < 3)
    (h1 : ∀ b k, b < 48 → k < 4 → st' (4 * b + k) = st (4 * b + k) ∨ st' (4 * b + k) = C (4 * b + k)) (h2 : ∀ b, b < 48 → kb s = nI b → ∀ k, k < 4 → st' (4 * b + k) = C (4 * b + k)) :
    zr_SO fu nk lv st' (upd kb s (-1)) (upd ch s 0) kw C := by
  obtain ⟨a1, a2, a3, a4, a5, a6, a7⟩ := H
  have key : ∀ s' b, upd kb s (-1) s' = nI b → b < 48 → s' ≠ s ∧ kb s' = nI b := by
    intro s' b e hb
    by_cases c : s' = s
    · subst c; rw [pk_us] at e; exact absurd e.symm (zi_m1ne (by omega))
    · rw [pk_un c] at e; exact ⟨c, e⟩
  refine ⟨a1, ?_, ?_, ?_, ?_, ?_, ?_⟩
  · intro s' h
    by_cases c : s' = s
    · subst c; rw [pk_us]; exact Or.inl rfl
    · rw [pk_un c]; exact a2 s' h
  · intro x y hx hy e ne
    by_cases c : x = s
    · subst c; rw [pk_us] at ne; exact absurd rfl ne
    · rw [pk_un c] at e ne
      by_cases c2 : y = s
      · subst c2; rw [pk_us] at e; exact absurd e ne
      · rw [pk_un c2] at e; exact a3 x y hx hy e ne
  · intro z x hx
    by_cases c : x = s
    · subst c; rw [pk_us]
    · rw [pk_un c]; exact a4 z x hx
  · intro s' b hs' hb e
    exact a5 s' b hs' hb (key s' b e hb).2
  · intro b hb hn k hk
    by_cases c : kb s = nI b
    · exact h2 b hb c k hk
    · have hall : ∀ x, x < 3 → kb x ≠ nI b := by
        intro x hx e
        by_cases c2 : x = s
        · subst c2; exact c e
        · exact hn x hx (by rw [pk_un c2]; exact e)
      rcases h1 b k hb hk with e | e
      · rw [e]; exact a6 b hb hall k hk
      · exact e
  · intro s' b hs' hb e ec k hk
    obtain ⟨c, e'⟩ := key s' b e hb
    rw [pk_un c] at ec
    rcases h1 b k hb hk with q | q
    · rw [q]; exact a7 s' b hs' hb e' ec k hk
    · exact q
theorem zs_ld {fu : Int64} {nk nk' lv : Int32} {st kb ch kw kw' C : Nat → Int32} {s b : Nat} (H : zr_SO fu nk lv st kb ch kw C) (hs : s < 3) (hb : b < 48) (hu : zub fu b = true) (hlv : lv ≠ 0) (hnk : ∃ t, t < 3 ∧ nk' = nI t)
    (hm : kb s = -1) (hc : ch s = 0) (hn : ∀ s', s' < 3 → kb s' ≠ nI b) (h1 : ∀ j, j / 4 ≠ s → kw' j = kw j) (h2 : ∀ k, k < 4 → kw' (4 * s + k) = st (4 * b + k)) :
    zr_SO fu nk' lv st (upd kb s (nI b)) ch kw' C := by
  obtain ⟨a1, a2, a3, a4, a5, a6, a7⟩ := H
  refine ⟨hnk, ?_, ?_, fun z => absurd z hlv, ?_, ?_, ?_⟩
  · intro s' h
    by_cases c : s' = s
    · subst c; rw [pk_us]; exact Or.inr ⟨b, hb, rfl, hu⟩
    · rw [pk_un c]; exact a2 s' h
  · intro x y hx hy e ne
    by_cases c : x = s
    · by_cases c2 : y = s
      · omega
      · rw [c, pk_us, pk_un c2] at e; exact absurd e.symm (hn y hy)
    · rw [pk_un c] at e ne
      by_cases c2 : y = s
      · subst c2; rw [pk_us] at e; exact absurd e (hn x hx)
      · rw [pk_un c2] at e; exact a3 x y hx hy e ne
  · intro s' b' hs' hb' e k hk
    by_cases c : s' = s
    · subst c
      rw [pk_us] at e
      have := zi_inj (by omega) (by omega) e
      subst this
      rw [h2 k hk]; exact a6 b hb hn k hk
    · rw [pk_un c] at e
      rw [h1 _ (by omega)]; exact a5 s' b' hs' hb' e k hk
  · intro b' hb' hn' k hk
    refine a6 b' hb' ?_ k hk
    intro x hx e
    by_cases c : x = s
    · subst c; rw [hm] at e; exact absurd e.symm (zi_m1ne (by omega))
    · exact hn' x hx (by rw [pk_un c]; exact e)
  · intro s' b' hs' hb' e ec k hk
    by_cases c : s' = s
    · subst c
      rw [pk_us] at e
      have := zi_inj (by omega) (by omega) e
      subst this
      exact a6 b hb hn k hk
    · rw [pk_un c] at e; exact a7 s' b' hs' hb' e ec k hk
theorem zs_put {fu : Int64} {nk lv : Int32} {st kb ch kw C : Nat → Int32} {s b k0 : Nat} {w : Int32} (H : zr_SO fu nk lv st kb ch kw C) (hs : s < 3) (hb : b < 48) (hk0 : k0 < 4) (hm : kb s = nI b) :
    zr_SO fu nk lv st kb (upd ch s 1) (upd kw (4 * s + k0) w) (upd C (4 * b + k0) w) := by
  obtain ⟨a1, a2, a3, a4, a5, a6, a7⟩ := H
  have hne : ∀ s' b', s' < 3 → b' < 48 → kb s' = nI b' → s' ≠ s → b' ≠ b := by
    intro s' b' hs' hb' e c eb
    subst eb
    exact c (a3 s' s hs' hs (e.trans hm.symm) (by rw [e]; exact zi_m1ne (by omega)))
  refine ⟨a1, a2, a3, a4, ?_, ?_, ?_⟩
  · intro s' b' hs' hb' e k hk
    by_cases c : s' = s
    · subst c
      have := zi_inj (by omega) (by omega) (e.symm.trans hm)
      subst this
      by_cases ck : k = k0
      · subst ck; rw [pk_us, pk_us]
      · rw [pk_un (by omega), pk_un (by omega)]; exact a5 s' b' hs' hb' e k hk
    · have := hne s' b' hs' hb' e c
      rw [pk_un (by omega), pk_un (by omega)]; exact a5 s' b' hs' hb' e k hk
  · intro b' hb' hn k hk
    have : b' ≠ b := fun e => hn s hs (by rw [e]; exact hm)
    rw [pk_un (by omega)]; exact a6 b' hb' hn k hk
  · intro s' b' hs' hb' e ec k hk
    have c : s' ≠ s := by intro c; subst c; rw [pk_us] at ec; exact absurd ec (by decide)
    rw [pk_un c] at ec
    have := hne s' b' hs' hb' e c
    rw [pk_un (by omega)]; exact a7 s' b' hs' hb' e ec k hk
theorem zs_put0 {fu : Int64} {nk lv : Int32} {st kb ch kw C : Nat → Int32} {b k0 : Nat} {w : Int32} (H : zr_SO fu nk lv st kb ch kw C) (hlv : lv = 0) (hb : b < 48) (hk0 : k0 < 4) :
    zr_SO fu nk lv (upd st (4 * b + k0) w) kb ch kw (upd C (4 * b + k0) w) := by
  obtain ⟨a1, a2, a3, a4, a5, a6, a7⟩ := H
  have hno : ∀ s b', s < 3 → b' < 48 → ¬ kb s = nI b' := fun s b' hs hb' e => zi_m1ne (n := b') (by omega) (e.symm.trans (a4 hlv s hs))
  refine ⟨a1, a2, a3, a4, fun s b' hs hb' e => absurd e (hno s b' hs hb'), ?_, fun s b' hs hb' e => absurd e (hno s b' hs hb')⟩
  intro b' hb' hn k hk
  by_cases c : 4 * b' + k = 4 * b + k0
  · rw [c, pk_us, pk_us]
  · rw [pk_un c, pk_un c]; exact a6 b' hb' hn k hk
theorem zs_new {fu fu' : Int64} {nk lv : Int32} {st st' kb ch kw C C' : Nat → Int32} {b : Nat} (H : zr_SO fu nk lv st kb ch kw C) (hb : b < 48) (hu : zub fu b = false) (hu' : ∀ c, c < 48 → zub fu c = true → zub fu' c = true)
    (h1 : ∀ j, j / 4 ≠ b → st' j = st j) (h2 : ∀ j, j / 4 ≠ b → C' j = C j) (h3 : ∀ k, k < 4 → C' (4 * b + k) = st' (4 * b + k)) : zr_SO fu' nk lv st' kb ch kw C' := by
  obtain ⟨a1, a2, a3, a4, a5, a6, a7⟩ := H
  have hne : ∀ s b', s < 3 → b' < 48 → kb s = nI b' → b' ≠ b := by
    intro s b' hs hb' e eb
    subst eb
    rcases a2 s hs with q | ⟨c, hc, q, r⟩
    · exact zi_m1ne (n := b') (by omega) (e.symm.trans q)
    · rw [zi_inj (by omega) (by omega) (q.symm.trans e)] at r
      rw [hu] at r; exact absurd r (by decide)
  refine ⟨a1, ?_, a3, a4, ?_, ?_, ?_⟩
  · intro s hs
    rcases a2 s hs with q | ⟨c, hc, q, r⟩
    · exact Or.inl q
    · exact Or.inr ⟨c, hc, q, hu' c hc r⟩
  · intro s b' hs hb' e k hk
    have := hne s b' hs hb' e
    rw [h2 _ (by omega)]; exact a5 s b' hs hb' e k hk
  · intro b' hb' hn k hk
    by_cases c : b' = b
    · subst c; exact (h3 k hk).symm
    · rw [h1 _ (by omega), h2 _ (by omega)]; exact a6 b' hb' hn k hk
  · intro s b' hs hb' e ec k hk
    have := hne s b' hs hb' e
    rw [h1 _ (by omega), h2 _ (by omega)]; exact a7 s b' hs hb' e ec k hk
noncomputable def zs_fk (b i : Nat) (kb : Nat → Int32) : Nat → Int32 := fun s => if i ≤ s ∧ s < 3 ∧ kb s = nI b then -1 else kb s
theorem zs_free {fu fu' : Int64} {nk lv : Int32} {st kb ch kw C C' : Nat → Int32} {b : Nat} (H : zr_SO fu nk lv st kb ch kw C) (hb : b < 48) (hu' : ∀ c, c < 48 → c ≠ b → zub fu c = true → zub fu' c = true)
    (h2 : ∀ j, j / 4 ≠ b → C' j = C j) (h3 : ∀ k, k < 4 → C' (4 * b + k) = st (4 * b + k)) : zr_SO fu' nk lv st (zs_fk b 0 kb) ch kw C' := by
  obtain ⟨a1, a2, a3, a4, a5, a6, a7⟩ := H
  have e1 : ∀ s, s < 3 → kb s = nI b → zs_fk b 0 kb s = -1 := fun s hs e => if_pos ⟨by omega, hs, e⟩
  have e2 : ∀ s, s < 3 → kb s ≠ nI b → zs_fk b 0 kb s = kb s := fun s hs e => if_neg fun z => e z.2.2
  have key : ∀ s b', s < 3 → b' < 48 → zs_fk b 0 kb s = nI b' → kb s = nI b' ∧ b' ≠ b := by
    intro s b' hs hb' e
    by_cases c : kb s = nI b
    · rw [e1 s hs c] at e; exact absurd e.symm (zi_m1ne (by omega))
    · rw [e2 s hs c] at e; exact ⟨e, fun q => c (by rw [← q]; exact e)⟩
  refine ⟨a1, ?_, ?_, ?_, ?_, ?_, ?_⟩
  · intro s hs
    by_cases c : kb s = nI b
    · exact Or.inl (e1 s hs c)
    · rw [e2 s hs c]
      rcases a2 s hs with q | ⟨x, hx, q, r⟩
      · exact Or.inl q
      · exact Or.inr ⟨x, hx, q, hu' x hx (fun z => c (by rw [← z]; exact q)) r⟩
  · intro x y hx hy e ne
    by_cases c : kb x = nI b
    · rw [e1 x hx c] at ne; exact absurd rfl ne
    · rw [e2 x hx c] at e ne
      by_cases c2 : kb y = nI b
      · rw [e1 y hy c2] at e; exact absurd e ne
      · rw [e2 y hy c2] at e; exact a3 x y hx hy e ne
  · intro z s hs
    by_cases c : kb s = nI b
    · exact e1 s hs c
    · rw [e2 s hs c]; exact a4 z s hs
  · intro s b' hs hb' e k hk
    obtain ⟨q, ne⟩ := key s b' hs hb' e
    rw [h2 _ (by omega)]; exact a5 s b' hs hb' q k hk
  · intro b' hb' hn k hk
    by_cases c : b' = b
    · subst c; exact (h3 k hk).symm
    · rw [h2 _ (by omega)]
      refine a6 b' hb' ?_ k hk
      intro s hs e
      exact hn s hs (by rw [e2 s hs (fun z => c (zi_inj (by omega) (by omega) (e.symm.trans z)))]; exact e)
  · intro s b' hs hb' e ec k hk
    obtain ⟨q, ne⟩ := key s b' hs hb' e
    rw [h2 _ (by omega)]; exact a7 s b' hs hb' q ec k hk
end
section
/-! walks over the store -/
section
variable {fu : Int64} {nk lv qa qz : Int32} {ec : Int64} {pn : Int32} {st kb ch kw K lx bo lk oc eN eV U F Ww Q os ps pc pw rd wr S pr P Z gx R L D bh O : Nat → Int32} {C : Nat → Int32}
theorem xs_wb53 {post : SX → Prop} {s : Nat} (hs : s < 3) (h : post (fu, nk, lv, qa, qz, ec, pn, st, upd kb s (-1), upd ch s 0, kw, K, lx, bo, lk, oc, eN, eV, U, F, Ww, Q, os, ps, pc, pw, rd, wr, S, pr, P, Z, gx, R, L, D, bh, O)) : wX_writeBack_53 post (nI s) fu nk lv qa qz ec pn st kb ch kw K lx bo lk oc eN eV U F Ww Q os ps pc pw rd wr S pr P Z gx R L D bh O := by
  unfold wX_writeBack_53
  rw [nI_clamp (by omega), zb_m1, zb_b0]
  exact ⟨vp_in_nI hs (by decide), nm_e ⟨vp_in_nI hs (by decide), nm_e h⟩⟩
theorem xs_wb22 {post : SX → Prop} {s b n i : Nat} (hs : s < 3) (hb : b < 48) (hi : i < 4) (h : wX_writeBack_22 post (nI s) (nI b) fu nk lv qa qz ec pn n (nI (i + 1)) (upd st (4 * b + i) (kw (4 * s + i))) kb ch kw K lx bo lk oc eN eV U F Ww Q os ps pc pw rd wr S pr P Z gx R L D bh O) :
    wX_writeBack_22 post (nI s) (nI b) fu nk lv qa qz ec pn (n + 1) (nI i) st kb ch kw K lx bo lk oc eN eV U F Ww Q os ps pc pw rd wr S pr P Z gx R L D bh O := by
  refine br_f (nI_ge (b := 4) hi (by decide)) ?_
  rw [zi_m4, zi_m4, nI_add, nI_add, zcl (f := kw) (by omega), nI_clamp (by omega)]
  exact ⟨vp_in_nI (by omega) (by decide), vp_in_nI (by omega) (by decide), nm_e (nm_r (nI_1 i) h)⟩
theorem xs_wb22e {post : SX → Prop} {s b n : Nat} (h : wX_writeBack_53 post (nI s) fu nk lv qa qz ec pn st kb ch kw K lx bo lk oc eN eV U F Ww Q os ps pc pw rd wr S pr P Z gx R L D bh O) : wX_writeBack_22 post (nI s) (nI b) fu nk lv qa qz ec pn (n + 1) (nI 4) st kb ch kw K lx bo lk oc eN eV U F Ww Q os ps pc pw rd wr S pr P Z gx R L D bh O :=
  br_t (nI_le (a := 4) (b := 4) (by decide) (by decide)) h
theorem xs_writeBack {s : Nat} (H : zr_SO fu nk lv st kb ch kw C) (hs : s < 3) : ∃ st' : Nat → Int32, zr_SO fu nk lv st' (upd kb s (-1)) (upd ch s 0) kw C ∧
    ∀ post : SX → Prop, post (fu, nk, lv, qa, qz, ec, pn, st', upd kb s (-1), upd ch s 0, kw, K, lx, bo, lk, oc, eN, eV, U, F, Ww, Q, os, ps, pc, pw, rd, wr, S, pr, P, Z, gx, R, L, D, bh, O) → wpX_writeBack post (fu, nk, lv, qa, qz, ec, pn, st, kb, ch, kw, K, lx, bo, lk, oc, eN, eV, U, F, Ww, Q, os, ps, pc, pw, rd, wr, S, pr, P, Z, gx, R, L, D, bh, O) (nI s) := by
  have H' := H
  obtain ⟨a1, a2, a3, a4, a5, a6, a7⟩ := H'
  rcases a2 s hs with e | ⟨b, hb, e, _⟩
  · refine ⟨st, zs_wb H hs (fun _ _ _ _ => Or.inl rfl) (fun b hb q => absurd (q.symm.trans e) (zi_m1ne (by omega))), fun post h => ?_⟩
    refine ⟨vp_in_nI hs (by decide), nm_r (e' := -1) ((zcl (by omega)).trans e) (br_t (by decide) (xs_wb53 hs h))⟩
  · by_cases z : ch s = 0
    · refine ⟨st, zs_wb H hs (fun _ _ _ _ => Or.inl rfl) (fun b hb q => a7 s b hs hb q z), fun post h => ?_⟩
      exact ⟨vp_in_nI hs (by decide), nm_r (e' := nI b) ((zcl (by omega)).trans e) (br_f (nI_pos (by omega)) ⟨vp_in_nI hs (by decide), br_t ((zcl (by omega)).trans z) (xs_wb53 hs h)⟩)⟩
    · obtain ⟨st', es, h1, h2⟩ := zs_4 st b (fun k => kw (4 * s + k))
      refine ⟨st', zs_wb H hs ?_ ?_, fun post h => ?_⟩
      · intro b' k hb' hk
        by_cases c : b' = b
        · subst c; exact Or.inr ((h2 k hk).trans (a5 s b' hs hb' e k hk))
        · exact Or.inl (h1 _ (by omega))
      · intro b' hb' q k hk
        have := zi_inj (by omega) (by omega) (q.symm.trans e)
        subst this
        exact (h2 k hk).trans (a5 s b' hs hb' e k hk)
      · refine ⟨vp_in_nI hs (by decide), nm_r (e' := nI b) ((zcl (by omega)).trans e) (br_f (nI_pos (by omega)) ⟨vp_in_nI hs (by decide), br_f (fun q => z ((zcl (by omega)).symm.trans q)) ?_⟩)⟩
        exact ⟨5, xs_wb22 (i := 0) hs hb (by decide) (xs_wb22 (i := 1) hs hb (by decide) (xs_wb22 (i := 2) hs hb (by decide) (xs_wb22 (i := 3) hs hb (by decide) (xs_wb22e (xs_wb53 hs (es ▸ h))))))⟩
theorem xs_sf57 {post : Int32 → SX → Prop} {s b n i : Nat} (hs : s < 3) (hb : b < 48) (hi : i < 4) (h : wX_slotFor_57 post (nI b) (nI s) fu nk lv qa qz ec pn n (nI (i + 1)) st kb ch (upd kw (4 * s + i) (st (4 * b + i))) K lx bo lk oc eN eV U F Ww Q os ps pc pw rd wr S pr P Z gx R L D bh O) :
    wX_slotFor_57 post (nI b) (nI s) fu nk lv qa qz ec pn (n + 1) (nI i) st kb ch kw K lx bo lk oc eN eV U F Ww Q os ps pc pw rd wr S pr P Z gx R L D bh O := by
  refine br_f (nI_ge (b := 4) hi (by decide)) ?_
  rw [zi_m4, zi_m4, nI_add, nI_add, zcl (f := st) (by omega), nI_clamp (by omega)]
  exact ⟨vp_in_nI (by omega) (by decide), vp_in_nI (by omega) (by decide), nm_e (nm_r (nI_1 i) h)⟩
theorem xs_sf57e {post : Int32 → SX → Prop} {s b n : Nat} (h : post (nI s) (fu, nk, lv, qa, qz, ec, pn, st, kb, ch, kw, K, lx, bo, lk, oc, eN, eV, U, F, Ww, Q, os, ps, pc, pw, rd, wr, S, pr, P, Z, gx, R, L, D, bh, O)) : wX_slotFor_57 post (nI b) (nI s) fu nk lv qa qz ec pn (n + 1) (nI 4) st kb ch kw K lx bo lk oc eN eV U F Ww Q os ps pc pw rd wr S pr P Z gx R L D bh O :=
  br_t (nI_le (a := 4) (b := 4) (by decide) (by decide)) h
theorem xs_slotFor {b : Nat} (H : zr_SO fu nk lv st kb ch kw C) (hlv : lv ≠ 0) (hb : b < 48) (hu : zub fu b = true) : ∃ (s : Nat) (nk' : Int32) (st' kb' ch' kw' : Nat → Int32), s < 3 ∧ kb' s = nI b ∧ zr_SO fu nk' lv st' kb' ch' kw' C ∧
    ∀ post : Int32 → SX → Prop, post (nI s) (fu, nk', lv, qa, qz, ec, pn, st', kb', ch', kw', K, lx, bo, lk, oc, eN, eV, U, F, Ww, Q, os, ps, pc, pw, rd, wr, S, pr, P, Z, gx, R, L, D, bh, O) → wpX_slotFor post (fu, nk, lv, qa, qz, ec, pn, st, kb, ch, kw, K, lx, bo, lk, oc, eN, eV, U, F, Ww, Q, os, ps, pc, pw, rd, wr, S, pr, P, Z, gx, R, L, D, bh, O) (nI b) := by
  obtain ⟨r, hr⟩ := zf_ex (fun s => kb s = nI b) 3
  have hr' := hr
  rcases hr' with ⟨er, hn⟩ | ⟨s, hs, er, hh, _⟩
  · obtain ⟨⟨t, ht, et⟩, _⟩ := id H
    obtain ⟨st', HS, hX⟩ := xs_writeBack (fu := fu) (nk := nI ((t + 1) % 3)) (lv := lv) (qa := qa) (qz := qz) (ec := ec) (pn := pn) (st := st) (kb := kb) (ch := ch) (kw := kw) (K := K) (lx := lx) (bo := bo) (lk := lk) (oc := oc) (eN := eN) (eV := eV) (U := U) (F := F) (Ww := Ww) (Q := Q) (os := os) (ps := ps) (pc := pc) (pw := pw) (rd := rd) (wr := wr) (S := S) (pr := pr) (P := P) (Z := Z) (gx := gx) (R := R) (L := L) (D := D) (bh := bh) (O := O) ⟨⟨(t + 1) % 3, Nat.mod_lt _ (by decide), rfl⟩, H.2⟩ ht
    obtain ⟨kw', ek, k1, k2⟩ := zs_4 kw t (fun k => st' (4 * b + k))
    have hn' : ∀ s', s' < 3 → upd kb t (-1) s' ≠ nI b := by
      intro s' hs' e
      by_cases c : s' = t
      · subst c; rw [pk_us] at e; exact zi_m1ne (n := b) (by omega) e.symm
      · rw [pk_un c] at e; exact hn s' hs' e
    refine ⟨t, nI ((t + 1) % 3), st', upd (upd kb t (-1)) t (nI b), upd ch t 0, kw', ht, pk_us, zs_ld HS ht hb hu hlv ⟨_, Nat.mod_lt _ (by decide), rfl⟩ pk_us pk_us hn' k1 k2, fun post h => ?_⟩
    show ∃ n, wX_slotFor_2 post (nI b) fu nk lv qa qz ec pn st kb ch kw K lx bo lk oc eN eV U F Ww Q os ps pc pw rd wr S pr P Z gx R L D bh O n (nI 0)
    refine zf_scan (Wq := fun n i => wX_slotFor_2 post (nI b) fu nk lv qa qz ec pn st kb ch kw K lx bo lk oc eN eV U F Ww Q os ps pc pw rd wr S pr P Z gx R L D bh O n i) hr 0 (by decide) (fun j hj => absurd hj (by omega)) ?_ ?_ ?_
    · intro _ n
      refine br_t (nI_le (a := 3) (b := 3) (by decide) (by decide)) ⟨by decide, ?_⟩
      rw [et, nI_1]
      refine nm_r (e' := nI ((t + 1) % 3)) (pk_rem (d := 3) (by omega) (by decide) (by decide)) (hX _ ?_)
      refine ⟨vp_in_nI ht (by decide), ?_⟩
      rw [nI_clamp (by omega), zb_nar8 (by omega)]
      refine nm_e ⟨5, ?_⟩
      exact xs_sf57 (i := 0) ht hb (by decide) (xs_sf57 (i := 1) ht hb (by decide) (xs_sf57 (i := 2) ht hb (by decide) (xs_sf57 (i := 3) ht hb (by decide) (xs_sf57e (ek ▸ h)))))
    · intro n i _ hi hh e
      exact absurd (er.symm.trans e).symm (zi_m1ne (by omega))
    · intro n i _ hi hh k
      exact br_f (nI_ge (b := 3) hi (by decide)) ⟨vp_in_nI hi (by decide), br_f (fun z => hh ((zcl (by omega)).symm.trans z)) (nm_r (nI_1 i) k)⟩
  · refine ⟨s, nk, st, kb, ch, kw, hs, hh, H, fun post h => ?_⟩
    show ∃ n, wX_slotFor_2 post (nI b) fu nk lv qa qz ec pn st kb ch kw K lx bo lk oc eN eV U F Ww Q os ps pc pw rd wr S pr P Z gx R L D bh O n (nI 0)
    refine zf_scan (Wq := fun n i => wX_slotFor_2 post (nI b) fu nk lv qa qz ec pn st kb ch kw K lx bo lk oc eN eV U F Ww Q os ps pc pw rd wr S pr P Z gx R L D bh O n i) hr 0 (by decide) (fun j hj => absurd hj (by omega)) ?_ ?_ ?_
    · intro e n
      exact absurd (er.symm.trans e) (zi_m1ne (by omega))
    · intro n i _ hi hh e
      have := zi_inj (by omega) (by omega) (er.symm.trans e)
      subst this
      exact br_f (nI_ge (b := 3) hi (by decide)) ⟨vp_in_nI hi (by decide), br_t ((zcl (by omega)).trans hh) h⟩
    · intro n i _ hi hh k
      exact br_f (nI_ge (b := 3) hi (by decide)) ⟨vp_in_nI hi (by decide), br_f (fun z => hh ((zcl (by omega)).symm.trans z)) (nm_r (nI_1 i) k)⟩
theorem xs_wordAt {n i b : Nat} (H : zr_SO fu nk lv st kb ch kw C) (hn : n < 10) (hi : i < 20) (hb : b < 48) (hu : zub fu b = true) (hbo : bo (5 * n + i / 4) = nI b) : ∃ (nk' : Int32) (st' kb' ch' kw' : Nat → Int32), zr_SO fu nk' lv st' kb' ch' kw' C ∧
    ∀ post : Int32 → SX → Prop, post (C (4 * b + i % 4)) (fu, nk', lv, qa, qz, ec, pn, st', kb', ch', kw', K, lx, bo, lk, oc, eN, eV, U, F, Ww, Q, os, ps, pc, pw, rd, wr, S, pr, P, Z, gx, R, L, D, bh, O) → wpX_wordAt post (fu, nk, lv, qa, qz, ec, pn, st, kb, ch, kw, K, lx, bo, lk, oc, eN, eV, U, F, Ww, Q, os, ps, pc, pw, rd, wr, S, pr, P, Z, gx, R, L, D, bh, O) (nI n) (nI i) := by
  by_cases z : lv = 0
  · refine ⟨nk, st, kb, ch, kw, H, fun post h => ?_⟩
    refine ⟨by decide, ?_⟩
    rw [zi_d4 (n := i) (by omega), zi_m5, nI_add]
    refine ⟨vp_in_nI (by omega) (by decide), nm_r (e' := nI b) ((zcl (by omega)).trans hbo) (br_t z ⟨by decide, ?_⟩)⟩
    rw [← zi_d4 (n := i) (by omega), zi_r4 (by omega), zi_m4, nI_add, zcl (f := st) (by omega)]
    have e : st (4 * b + i % 4) = C (4 * b + i % 4) := H.2.2.2.2.2.1 b hb (fun s hs e => zi_m1ne (n := b) (by omega) (e.symm.trans (H.2.2.2.1 z s hs))) (i % 4) (Nat.mod_lt _ (by decide))
    exact ⟨vp_in_nI (by omega) (by decide), e ▸ h⟩
  · obtain ⟨s, nk', st', kb', ch', kw', hs, ek, HS, hX⟩ := xs_slotFor (fu := fu) (nk := nk) (lv := lv) (qa := qa) (qz := qz) (ec := ec) (pn := pn) (st := st) (kb := kb) (ch := ch) (kw := kw) (K := K) (lx := lx) (bo := bo) (lk := lk) (oc := oc) (eN := eN) (eV := eV) (U := U) (F := F) (Ww := Ww) (Q := Q) (os := os) (ps := ps) (pc := pc) (pw := pw) (rd := rd) (wr := wr) (S := S) (pr := pr) (P := P) (Z := Z) (gx := gx) (R := R) (L := L) (D := D) (bh := bh) (O := O) H z hb hu
    refine ⟨nk', st', kb', ch', kw', HS, fun post h => ?_⟩
    refine ⟨by decide, ?_⟩
    rw [zi_d4 (n := i) (by omega), zi_m5, nI_add]
    refine ⟨vp_in_nI (by omega) (by decide), nm_r (e' := nI b) ((zcl (by omega)).trans hbo) (br_f z (hX _ ⟨by decide, ?_⟩))⟩
    rw [← zi_d4 (n := i) (by omega), zi_r4 (by omega), zi_m4, nI_add, zcl (f := kw') (by omega)]
    have e : kw' (4 * s + i % 4) = C (4 * b + i % 4) := HS.2.2.2.2.1 s b hs hb ek (i % 4) (Nat.mod_lt _ (by decide))
    exact ⟨vp_in_nI (by omega) (by decide), e ▸ h⟩
end
end
section
/-! new blocks, freed blocks, words put, files emptied -/
theorem zs_V1 {K : Nat → Int32} {ln : Nat → Nat} {n q : Nat} (hK : K n = 1) (h20 : ln n < 20) (h4 : ln n % 4 = 0) : zr_V K (zu ln n (ln n + 1)) q ↔ zr_V K ln q ∨ q = 5 * n + ln n / 4 := by
  unfold zr_V
  by_cases c : q / 5 = n
  · rw [c, zu_s]
    constructor
    · rintro ⟨_, h⟩
      by_cases e : q = 5 * n + ln n / 4
      · exact Or.inr e
      · exact Or.inl ⟨hK, by omega⟩
    · rintro (⟨_, h⟩ | h)
      · exact ⟨hK, by omega⟩
      · exact ⟨hK, by omega⟩
  · rw [zu_n c]
    constructor
    · exact Or.inl
    · rintro (h | h)
      · exact h
      · omega
theorem zs_V2 {K : Nat → Int32} {ln : Nat → Nat} {n q : Nat} (h4 : ¬ ln n % 4 = 0) : zr_V K (zu ln n (ln n + 1)) q ↔ zr_V K ln q := by
  unfold zr_V
  by_cases c : q / 5 = n
  · rw [c, zu_s]
    constructor <;> rintro ⟨a, h⟩ <;> exact ⟨a, by omega⟩
  · rw [zu_n c]
theorem zs_FXnew {K : Nat → Int32} {ln bl : Nat → Nat} {fu fu' : Int64} {bo lx : Nat → Int32} {n b : Nat} (H : zr_FX K ln bl fu bo lx) (hn : n < 10) (hK : K n = 1) (h20 : ln n < 20) (h4 : ln n % 4 = 0) (hb : b < 48) (hu : zub fu b = false)
    (hfu : ∀ c, c < 48 → zub fu' c = (zub fu c || decide (c = b))) : zr_FX K (zu ln n (ln n + 1)) (zu bl (5 * n + ln n / 4) b) fu' (upd bo (5 * n + ln n / 4) (nI b)) (upd lx n (nI (ln n + 1))) := by
  obtain ⟨a1, a2, a3, a4⟩ := H
  have hnv : ∀ q, q < 50 → zr_V K ln q → q ≠ 5 * n + ln n / 4 := by
    intro q hq h e
    have : q / 5 = n := by omega
    have h2 := h.2
    rw [this] at h2
    omega
  have hnb : ∀ q, q < 50 → zr_V K ln q → bl q ≠ b := by
    intro q hq h e
    have := (a2 q hq h).2.2
    rw [e, hu] at this
    exact absurd this (by decide)
  refine ⟨?_, ?_, ?_, ?_⟩
  · intro m hm hKm
    by_cases c : m = n
    · subst c; rw [zu_s, pk_us]; exact ⟨by omega, rfl⟩
    · rw [zu_n c, pk_un c]; exact a1 m hm hKm
  · intro q hq h
    rcases (zs_V1 hK h20 h4).mp h with h' | e
    · rw [zu_n (hnv q hq h'), pk_un (hnv q hq h')]
      obtain ⟨x, y, z⟩ := a2 q hq h'
      exact ⟨x, y, by rw [hfu _ x, z]; rfl⟩
    · rw [e, zu_s, pk_us]
      exact ⟨hb, rfl, by rw [hfu b hb, hu]; simp⟩
  · intro q q' hq hq' h h' e
    rcases (zs_V1 hK h20 h4).mp h with v | v
    · rcases (zs_V1 hK h20 h4).mp h' with v' | v'
      · rw [zu_n (hnv q hq v), zu_n (hnv q' hq' v')] at e; exact a3 q q' hq hq' v v' e
      · rw [zu_n (hnv q hq v), v', zu_s] at e; exact absurd e (hnb q hq v)
    · rcases (zs_V1 hK h20 h4).mp h' with v' | v'
      · rw [v, zu_s, zu_n (hnv q' hq' v')] at e; exact absurd e.symm (hnb q' hq' v')
      · rw [v, v']
  · intro c hc h
    rw [hfu c hc] at h
    by_cases e : c = b
    · exact ⟨5 * n + ln n / 4, by omega, (zs_V1 hK h20 h4).mpr (Or.inr rfl), by rw [zu_s, e]⟩
    · rw [decide_eq_false e, Bool.or_false] at h
      obtain ⟨q, hq, v, eq⟩ := a4 c hc h
      exact ⟨q, hq, (zs_V1 hK h20 h4).mpr (Or.inl v), by rw [zu_n (hnv q hq v)]; exact eq⟩
theorem zs_FXext {K : Nat → Int32} {ln bl : Nat → Nat} {fu : Int64} {bo lx : Nat → Int32} {n : Nat} (H : zr_FX K ln bl fu bo lx) (h20 : ln n < 20) (h4 : ¬ ln n % 4 = 0) : zr_FX K (zu ln n (ln n + 1)) bl fu bo (upd lx n (nI (ln n + 1))) := by
  obtain ⟨a1, a2, a3, a4⟩ := H
  refine ⟨?_, fun q hq h => a2 q hq ((zs_V2 h4).mp h), fun q q' hq hq' h h' => a3 q q' hq hq' ((zs_V2 h4).mp h) ((zs_V2 h4).mp h'), ?_⟩
  · intro m hm hKm
    by_cases c : m = n
    · subst c; rw [zu_s, pk_us]; exact ⟨by omega, rfl⟩
    · rw [zu_n c, pk_un c]; exact a1 m hm hKm
  · intro b hb h
    obtain ⟨q, hq, v, e⟩ := a4 b hb h
    exact ⟨q, hq, (zs_V2 h4).mpr v, e⟩
theorem zs_FYp {K : Nat → Int32} {ln ln' bl bl' : Nat → Nat} {C C' ly ly' wd : Nat → Int32} {n i : Nat} {w : Int32} (H : zr_FY K ln bl C ly wd) (hn : n < 10) (hi : i < 20) (h20 : ∀ m, m < 10 → K m = 1 → ln' m ≤ 20)
    (hly : ∀ m, m < 10 → K m = 1 → ly' m = nI (ln' m)) (hold : ∀ m i', m < 10 → K m = 1 → i' < ln' m → (m ≠ n ∨ i' ≠ i) → i' < ln m) (hbl : ∀ q, q < 50 → zr_V K ln q → bl' q = bl q)
    (hinj : ∀ q q', q < 50 → q' < 50 → zr_V K ln' q → zr_V K ln' q' → bl' q = bl' q' → q = q') (hi' : i < ln' n) (hK : K n = 1) (hC : ∀ q k, q < 50 → zr_V K ln q → k < 4 → C' (4 * bl q + k) = C (4 * bl q + k)) :
    zr_FY K ln' bl' (upd C' (4 * bl' (5 * n + i / 4) + i % 4) w) ly' (upd wd (20 * n + i) w) := by
  intro m hm hKm
  refine ⟨hly m hm hKm, ?_⟩
  intro i' hi2
  have b20 := h20 m hm hKm
  by_cases c : m = n ∧ i' = i
  · obtain ⟨c1, c2⟩ := c
    subst c1 c2
    rw [pk_us, pk_us]
  · have cc : m ≠ n ∨ i' ≠ i := by
      by_cases q : m = n
      · exact Or.inr fun r => c ⟨q, r⟩
      · exact Or.inl q
    have hio := hold m i' hm hKm hi2 cc
    have hq : 5 * m + i' / 4 < 50 := by omega
    have hv : zr_V K ln (5 * m + i' / 4) := by
      have e : (5 * m + i' / 4) / 5 = m := by omega
      refine ⟨by rw [e]; exact hKm, ?_⟩
      rw [e]; omega
    have hv' : zr_V K ln' (5 * m + i' / 4) := by
      have e : (5 * m + i' / 4) / 5 = m := by omega
      refine ⟨by rw [e]; exact hKm, ?_⟩
      rw [e]; omega
    have hvn : zr_V K ln' (5 * n + i / 4) := by
      have e : (5 * n + i / 4) / 5 = n := by omega
      refine ⟨by rw [e]; exact hK, ?_⟩
      rw [e]; omega
    rw [pk_un (by omega), pk_un (fun e => ?_), hbl _ hq hv, hC _ _ hq hv (Nat.mod_lt _ (by decide))]
    · exact (H m hm hKm).2 i' hio
    · have := hinj (5 * m + i' / 4) (5 * n + i / 4) hq (by omega) hv' hvn (by omega)
      omega
theorem zs_room {K : Nat → Int32} {ln bl : Nat → Nat} {fu : Int64} {bo lx : Nat → Int32} (H : zr_FX K ln bl fu bo lx) (hK : K 0 = 2) : ∃ b, b < 48 ∧ zub fu b = false := by
  refine Classical.byContradiction fun z => ?_
  have hall : ∀ b, ∃ q, b < 48 → (q < 50 ∧ zr_V K ln q ∧ bl q = b) := by
    intro b
    by_cases hb : b < 48
    · have hu : zub fu b = true := ts_nf fun q => z ⟨b, hb, q⟩
      obtain ⟨q, hq, hv, e⟩ := H.2.2.2 b hb hu
      exact ⟨q, fun _ => ⟨hq, hv, e⟩⟩
    · exact ⟨0, fun q => absurd q hb⟩
  have h5 : ∀ q, zr_V K ln q → 5 ≤ q := by
    intro q hv
    rcases Nat.lt_or_ge q 5 with c | c
    · have e : q / 5 = 0 := by omega
      have := hv.1
      rw [e, hK] at this
      exact absurd this (by decide)
    · exact c
  have := zp_ph 45 48 (fun b => (hall b).choose - 5) (fun b hb => by
    have h := (hall b).choose_spec hb
    have := h5 _ h.2.1
    show (hall b).choose - 5 < 45
    omega) (fun b c hb hc e => by
    have h := (hall b).choose_spec hb
    have h' := (hall c).choose_spec hc
    have q1 := h5 _ h.2.1
    have q2 := h5 _ h'.2.1
    have e' : (hall b).choose - 5 = (hall c).choose - 5 := e
    have e2 : (hall b).choose = (hall c).choose := by omega
    rw [← h.2.2, ← h'.2.2, e2])
  omega
theorem zs_fk3 {b : Nat} {kb : Nat → Int32} : zs_fk b 3 kb = kb := funext fun s => if_neg fun z => by omega
theorem zs_fkh {b i : Nat} {kb : Nat → Int32} (h : kb i = nI b) (hi : i < 3) : zs_fk b (i + 1) (upd kb i (-1)) = zs_fk b i kb := by
  funext s
  unfold zs_fk
  by_cases c : s = i
  · subst c
    rw [if_neg (fun z => by omega), pk_us, if_pos ⟨Nat.le_refl _, hi, h⟩]
  · rw [pk_un c]
    by_cases q : i ≤ s ∧ s < 3 ∧ kb s = nI b
    · rw [if_pos q, if_pos ⟨by omega, q.2.1, q.2.2⟩]
    · rw [if_neg q, if_neg (fun z => q ⟨by omega, z.2.1, z.2.2⟩)]
theorem zs_fkm {b i : Nat} {kb : Nat → Int32} (h : kb i ≠ nI b) : zs_fk b (i + 1) kb = zs_fk b i kb := by
  funext s
  unfold zs_fk
  by_cases q : i ≤ s ∧ s < 3 ∧ kb s = nI b
  · have : s ≠ i := fun e => h (by rw [← e]; exact q.2.2)
    rw [if_pos q, if_pos ⟨by omega, q.2.1, q.2.2⟩]
  · rw [if_neg q, if_neg (fun z => q ⟨by omega, z.2.1, z.2.2⟩)]
section
variable {fu : Int64} {nk lv qa qz : Int32} {ec : Int64} {pn : Int32} {st kb ch kw K lx bo lk oc eN eV U F Ww Q os ps pc pw rd wr S pr P Z gx R L D bh O : Nat → Int32} {C : Nat → Int32} {ln bl : Nat → Nat} {ly wd : Nat → Int32}
theorem xs_nb35 {post : Int32 → SX → Prop} {b n i : Nat} (hb : b < 48) (hi : i < 4) (h : wX_newBlock_35 post (nI b) fu nk lv qa qz ec pn n (nI (i + 1)) (upd st (4 * b + i) 0) kb ch kw K lx bo lk oc eN eV U F Ww Q os ps pc pw rd wr S pr P Z gx R L D bh O) :
    wX_newBlock_35 post (nI b) fu nk lv qa qz ec pn (n + 1) (nI i) st kb ch kw K lx bo lk oc eN eV U F Ww Q os ps pc pw rd wr S pr P Z gx R L D bh O := by
  refine br_f (nI_ge (b := 4) hi (by decide)) ?_
  rw [zi_m4, nI_add, nI_clamp (by omega)]
  exact ⟨vp_in_nI (by omega) (by decide), nm_e (nm_r (nI_1 i) h)⟩
theorem xs_nb35e {post : Int32 → SX → Prop} {b n : Nat} (h : post (nI b) (fu, nk, lv, qa, qz, ec, pn, st, kb, ch, kw, K, lx, bo, lk, oc, eN, eV, U, F, Ww, Q, os, ps, pc, pw, rd, wr, S, pr, P, Z, gx, R, L, D, bh, O)) : wX_newBlock_35 post (nI b) fu nk lv qa qz ec pn (n + 1) (nI 4) st kb ch kw K lx bo lk oc eN eV U F Ww Q os ps pc pw rd wr S pr P Z gx R L D bh O :=
  br_t (nI_le (a := 4) (b := 4) (by decide) (by decide)) h
theorem xs_newBlock (hex : ∃ b, b < 48 ∧ zub fu b = false) : ∃ (b : Nat) (st' : Nat → Int32), b < 48 ∧ zub fu b = false ∧ (∀ j, j / 4 ≠ b → st' j = st j) ∧ (∀ k, k < 4 → st' (4 * b + k) = 0) ∧
    ∀ post : Int32 → SX → Prop, post (nI b) (fu ||| ((1 : Int64) <<< ((nI b).toInt64 &&& 63)), nk, lv, qa, qz, ec, pn, st', kb, ch, kw, K, lx, bo, lk, oc, eN, eV, U, F, Ww, Q, os, ps, pc, pw, rd, wr, S, pr, P, Z, gx, R, L, D, bh, O) → wpX_newBlock post (fu, nk, lv, qa, qz, ec, pn, st, kb, ch, kw, K, lx, bo, lk, oc, eN, eV, U, F, Ww, Q, os, ps, pc, pw, rd, wr, S, pr, P, Z, gx, R, L, D, bh, O) := by
  obtain ⟨r, hr⟩ := zf_ex (fun b => zub fu b = false) 48
  have hr' := hr
  rcases hr' with ⟨_, hn⟩ | ⟨b, hb, er, hh, _⟩
  · obtain ⟨b, hb, e⟩ := hex
    exact absurd e (hn b hb)
  obtain ⟨st', es, h1, h2⟩ := zs_4 st b (fun _ => 0)
  refine ⟨b, st', hb, hh, h1, h2, fun post h => ?_⟩
  show ∃ n, wX_newBlock_2 post fu nk lv qa qz ec pn st kb ch kw K lx bo lk oc eN eV U F Ww Q os ps pc pw rd wr S pr P Z gx R L D bh O n (nI 0)
  refine zf_scan (Wq := fun n i => wX_newBlock_2 post fu nk lv qa qz ec pn st kb ch kw K lx bo lk oc eN eV U F Ww Q os ps pc pw rd wr S pr P Z gx R L D bh O n i) hr 0 (by decide) (fun j hj => absurd hj (by omega)) ?_ ?_ ?_
  · intro e n
    exact absurd (er.symm.trans e) (zi_m1ne (by omega))
  · intro n i _ hi hh2 e
    have := zi_inj (by omega) (by omega) (er.symm.trans e)
    subst this
    refine br_t ((zub_tst fu (by omega)).mpr hh2) (nm_e ⟨5, ?_⟩)
    exact xs_nb35 (i := 0) hb (by decide) (xs_nb35 (i := 1) hb (by decide) (xs_nb35 (i := 2) hb (by decide) (xs_nb35 (i := 3) hb (by decide) (xs_nb35e (es ▸ h)))))
  · intro n i _ hi hh2 k
    exact br_f (fun z => hh2 ((zub_tst fu (by omega)).mp z)) (nm_r (nI_1 i) k)
theorem xs_fb18 {post : SX → Prop} {b : Nat} : ∀ (d i : Nat) (kb : Nat → Int32), i + d = 3 → post (fu, nk, lv, qa, qz, ec, pn, st, zs_fk b i kb, ch, kw, K, lx, bo, lk, oc, eN, eV, U, F, Ww, Q, os, ps, pc, pw, rd, wr, S, pr, P, Z, gx, R, L, D, bh, O) → wX_freeBlock_18 post (nI b) fu nk lv qa qz ec pn (d + 1) (nI i) st kb ch kw K lx bo lk oc eN eV U F Ww Q os ps pc pw rd wr S pr P Z gx R L D bh O := by
  intro d
  induction d with
  | zero =>
    intro i kb hi h
    have e : i = 3 := by omega
    subst e
    rw [zs_fk3] at h
    exact br_t (nI_le (a := 3) (b := 3) (by decide) (by decide)) h
  | succ d ih =>
    intro i kb hi h
    refine br_f (nI_ge (b := 3) (by omega) (by decide)) ⟨vp_in_nI (by omega) (by decide), ?_⟩
    by_cases c : kb i = nI b
    · refine br_t ((zcl (by omega)).trans c) ⟨vp_in_nI (by omega) (by decide), ?_⟩
      rw [nI_clamp (by omega), zb_m1]
      refine nm_e (nm_r (nI_1 i) (ih (i + 1) (upd kb i (-1)) (by omega) ?_))
      rw [zs_fkh c (by omega)]
      exact h
    · refine br_f (fun z => c ((zcl (by omega)).symm.trans z)) (nm_r (nI_1 i) (ih (i + 1) kb (by omega) ?_))
      rw [zs_fkm c]
      exact h
theorem xs_freeBlock {post : SX → Prop} {b : Nat} (h : post (fu &&& (((1 : Int64) <<< ((nI b).toInt64 &&& 63)) ^^^ (-1)), nk, lv, qa, qz, ec, pn, st, zs_fk b 0 kb, ch, kw, K, lx, bo, lk, oc, eN, eV, U, F, Ww, Q, os, ps, pc, pw, rd, wr, S, pr, P, Z, gx, R, L, D, bh, O)) : wpX_freeBlock post (fu, nk, lv, qa, qz, ec, pn, st, kb, ch, kw, K, lx, bo, lk, oc, eN, eV, U, F, Ww, Q, os, ps, pc, pw, rd, wr, S, pr, P, Z, gx, R, L, D, bh, O) (nI b) :=
  nm_e ⟨4, xs_fb18 3 0 kb (by decide) h⟩
end
end
section
/-! empty, putWord -/
def zs_E (n l : Nat) (bl : Nat → Nat) (j : Nat) (b : Nat) : Prop := ∀ j', j' < j → 4 * j' < l → b ≠ bl (5 * n + j')
theorem zs_FXemp {K : Nat → Int32} {ln bl : Nat → Nat} {fu fu' : Int64} {bo lx : Nat → Int32} {n : Nat} (H : zr_FX K ln bl fu bo lx) (hn : n < 10) (hK : K n = 1)
    (hfu : ∀ b, b < 48 → (zub fu' b = true ↔ zub fu b = true ∧ zs_E n (ln n) bl 5 b)) : zr_FX K (zu ln n 0) bl fu' bo (upd lx n 0) := by
  obtain ⟨a1, a2, a3, a4⟩ := H
  have hV : ∀ q, zr_V K (zu ln n 0) q → zr_V K ln q ∧ q / 5 ≠ n := by
    intro q h
    unfold zr_V at h
    by_cases c : q / 5 = n
    · rw [c, zu_s] at h; exact absurd h.2 (by omega)
    · rw [zu_n c] at h; exact ⟨h, c⟩
  have h20 := (a1 n hn hK).1
  refine ⟨?_, ?_, fun q q' hq hq' h h' => a3 q q' hq hq' (hV q h).1 (hV q' h').1, ?_⟩
  · intro m hm hKm
    by_cases c : m = n
    · subst c; rw [zu_s, pk_us]; exact ⟨by omega, rfl⟩
    · rw [zu_n c, pk_un c]; exact a1 m hm hKm
  · intro q hq h
    obtain ⟨v, ne⟩ := hV q h
    obtain ⟨x, y, z⟩ := a2 q hq v
    refine ⟨x, y, (hfu _ x).mpr ⟨z, ?_⟩⟩
    intro j' hj' hl e
    have v' : zr_V K ln (5 * n + j') := by
      have e1 : (5 * n + j') / 5 = n := by omega
      refine ⟨by rw [e1]; exact hK, ?_⟩
      rw [e1]; omega
    have := a3 q (5 * n + j') hq (by omega) v v' e
    omega
  · intro b hb h
    obtain ⟨hu, hE⟩ := (hfu b hb).mp h
    obtain ⟨q, hq, v, e⟩ := a4 b hb hu
    refine ⟨q, hq, ?_, e⟩
    by_cases c : q / 5 = n
    · have h2 := v.2
      rw [c] at h2
      exact absurd (show b = bl (5 * n + q % 5) by rw [show 5 * n + q % 5 = q by omega]; exact e.symm) (hE (q % 5) (by omega) h2)
    · unfold zr_V
      rw [zu_n c]; exact v
section
variable {fu : Int64} {nk lv qa qz : Int32} {ec : Int64} {pn : Int32} {st kb ch kw K lx bo lk oc eN eV U F Ww Q os ps pc pw rd wr S pr P Z gx R L D bh O : Nat → Int32} {C : Nat → Int32} {ln bl : Nat → Nat} {ly wd : Nat → Int32}
theorem xs_empty2 {n l : Nat} {fu0 : Int64} {C0 : Nat → Int32} (hn : n < 10) (hl : l ≤ 20) (el : lx n = nI l) (hbo : ∀ j, 4 * j < l → bl (5 * n + j) < 48 ∧ bo (5 * n + j) = nI (bl (5 * n + j))) :
    ∀ (d j : Nat) (fu : Int64) (kb C : Nat → Int32), j + d = 5 → zr_SO fu nk lv st kb ch kw C → (∀ b, b < 48 → (zub fu b = true ↔ zub fu0 b = true ∧ zs_E n l bl j b)) → (∀ b k, b < 48 → zs_E n l bl j b → k < 4 → C (4 * b + k) = C0 (4 * b + k)) →
    ∃ (fu' : Int64) (kb' C' : Nat → Int32), zr_SO fu' nk lv st kb' ch kw C' ∧ (∀ b, b < 48 → (zub fu' b = true ↔ zub fu0 b = true ∧ zs_E n l bl 5 b)) ∧ (∀ b k, b < 48 → zs_E n l bl 5 b → k < 4 → C' (4 * b + k) = C0 (4 * b + k)) ∧
      ∀ post : SX → Prop, post (fu', nk, lv, qa, qz, ec, pn, st, kb', ch, kw, K, upd lx n 0, bo, lk, oc, eN, eV, U, F, Ww, Q, os, ps, pc, pw, rd, wr, S, pr, P, Z, gx, R, L, D, bh, O) → wX_empty_2 post (nI n) (d + 1) (nI (4 * j)) fu nk lv qa qz ec pn st kb ch kw K lx bo lk oc eN eV U F Ww Q os ps pc pw rd wr S pr P Z gx R L D bh O := by
  intro d
  induction d with
  | zero =>
    intro j fu kb C hj HS h1 h2
    have e : j = 5 := by omega
    subst e
    refine ⟨fu, kb, C, HS, h1, h2, fun post h => ?_⟩
    refine ⟨vp_in_nI hn (by decide), ?_⟩
    rw [zcl (f := lx) (by omega), el]
    refine br_t (nI_le (by omega) (by decide)) ⟨vp_in_nI hn (by decide), ?_⟩
    rw [nI_clamp (by omega), zb_0]
    exact nm_e h
  | succ d ih =>
    intro j fu kb C hj HS h1 h2
    by_cases c : l ≤ 4 * j
    · have hE : ∀ b, zs_E n l bl j b → zs_E n l bl 5 b := fun b h j' h5 hl' => h j' (by omega) hl'
      have hE' : ∀ b, zs_E n l bl 5 b → zs_E n l bl j b := fun b h j' h5 hl' => h j' (by omega) hl'
      refine ⟨fu, kb, C, HS, fun b hb => ⟨fun z => ⟨((h1 b hb).mp z).1, hE b ((h1 b hb).mp z).2⟩, fun z => (h1 b hb).mpr ⟨z.1, hE' b z.2⟩⟩, fun b k hb hz hk => h2 b k hb (hE' b hz) hk, fun post h => ?_⟩
      refine ⟨vp_in_nI hn (by decide), ?_⟩
      rw [zcl (f := lx) (by omega), el]
      refine br_t (nI_le c (by omega)) ⟨vp_in_nI hn (by decide), ?_⟩
      rw [nI_clamp (by omega), zb_0]
      exact nm_e h
    · obtain ⟨hb, eb⟩ := hbo j (by omega)
      have hfu : ∀ c, c < 48 → zub (fu &&& (((1 : Int64) <<< ((nI (bl (5 * n + j))).toInt64 &&& 63)) ^^^ (-1))) c = (zub fu c && !decide (c = bl (5 * n + j))) := fun c hc => zub_and fu (by omega) (by omega)
      have hE1 : ∀ b, zs_E n l bl (j + 1) b ↔ zs_E n l bl j b ∧ b ≠ bl (5 * n + j) := by
        intro b
        constructor
        · exact fun h => ⟨fun j' hj' => h j' (by omega), h j (by omega) (by omega)⟩
        · intro h j' hj' hl'
          by_cases q : j' = j
          · subst q; exact h.2
          · exact h.1 j' (by omega) hl'
      obtain ⟨fu', kb', C', g1, g2, g3, gX⟩ := ih (j + 1) _ (zs_fk (bl (5 * n + j)) 0 kb) (fun x => if x / 4 = bl (5 * n + j) then st x else C x) (by omega)
        (zs_free HS hb (fun c hc ne hu => by rw [hfu c hc, hu, decide_eq_false ne]; rfl) (fun x hx => if_neg hx) (fun k hk => if_pos (by omega)))
        (by
          intro b hb'
          rw [hfu b hb', hE1]
          by_cases q : b = bl (5 * n + j)
          · rw [decide_eq_true q]
            constructor
            · intro z; rw [Bool.not_true, Bool.and_false] at z; exact absurd z (by decide)
            · exact fun z => absurd q z.2.2
          · rw [decide_eq_false q, Bool.not_false, Bool.and_true, h1 b hb']
            exact ⟨fun z => ⟨z.1, z.2, q⟩, fun z => ⟨z.1, z.2.1⟩⟩)
        (by
          intro b k hb' hz hk
          have hz' := (hE1 b).mp hz
          show (if (4 * b + k) / 4 = bl (5 * n + j) then _ else _) = _
          rw [if_neg (by have := hz'.2; omega)]
          exact h2 b k hb' hz'.1 hk)
      refine ⟨fu', kb', C', g1, g2, g3, fun post h => ?_⟩
      refine ⟨vp_in_nI hn (by decide), ?_⟩
      rw [zcl (f := lx) (by omega), el]
      refine br_f (nI_ge (by omega) (by omega)) ⟨by decide, ?_⟩
      rw [zi_d4 (by omega), zi_m5, nI_add, show 4 * j / 4 = j by omega, zcl (f := bo) (by omega), eb]
      exact ⟨vp_in_nI (by omega) (by decide), xs_freeBlock (nm_r (e' := nI (4 * (j + 1))) (by rw [zi_a4]; rfl) (gX post h))⟩
theorem xs_empty {n : Nat} (HS : zr_SO fu nk lv st kb ch kw C) (HF : zr_FX K ln bl fu bo lx) (hn : n < 10) (hK : K n = 1) : ∃ (fu' : Int64) (kb' C' : Nat → Int32), zr_SO fu' nk lv st kb' ch kw C' ∧ zr_FX K (zu ln n 0) bl fu' bo (upd lx n 0) ∧
    (∀ q k, q < 50 → zr_V K ln q → q / 5 ≠ n → k < 4 → C' (4 * bl q + k) = C (4 * bl q + k)) ∧ ∀ post : SX → Prop, post (fu', nk, lv, qa, qz, ec, pn, st, kb', ch, kw, K, upd lx n 0, bo, lk, oc, eN, eV, U, F, Ww, Q, os, ps, pc, pw, rd, wr, S, pr, P, Z, gx, R, L, D, bh, O) → wpX_empty post (fu, nk, lv, qa, qz, ec, pn, st, kb, ch, kw, K, lx, bo, lk, oc, eN, eV, U, F, Ww, Q, os, ps, pc, pw, rd, wr, S, pr, P, Z, gx, R, L, D, bh, O) (nI n) := by
  obtain ⟨hl, el⟩ := HF.1 n hn hK
  have hv : ∀ j, 4 * j < ln n → zr_V K ln (5 * n + j) := by
    intro j hj
    have e1 : (5 * n + j) / 5 = n := by omega
    refine ⟨by rw [e1]; exact hK, ?_⟩
    rw [e1]; omega
  obtain ⟨fu', kb', C', g1, g2, g3, gX⟩ := xs_empty2 (nk := nk) (lv := lv) (qa := qa) (qz := qz) (ec := ec) (pn := pn) (st := st) (ch := ch) (kw := kw) (K := K) (lx := lx) (bo := bo) (lk := lk) (oc := oc) (eN := eN) (eV := eV) (U := U) (F := F) (Ww := Ww) (Q := Q) (os := os) (ps := ps) (pc := pc) (pw := pw) (rd := rd) (wr := wr) (S := S) (pr := pr) (P := P) (Z := Z) (gx := gx) (R := R) (L := L) (D := D) (bh := bh) (O := O) (bl := bl) (n := n) (l := ln n) (fu0 := fu) (C0 := C) hn hl el
    (fun j hj => ⟨(HF.2.1 (5 * n + j) (by omega) (hv j hj)).1, (HF.2.1 (5 * n + j) (by omega) (hv j hj)).2.1⟩) 5 0 fu kb C (by decide) HS
    (fun b _ => ⟨fun z => ⟨z, fun j' hj' => absurd hj' (by omega)⟩, fun z => z.1⟩) (fun _ _ _ _ _ => rfl)
  refine ⟨fu', kb', C', g1, zs_FXemp HF hn hK g2, ?_, fun post h => ⟨6, gX post h⟩⟩
  intro q k hq v ne hk
  refine g3 (bl q) k (HF.2.1 q hq v).1 ?_ hk
  intro j' hj' hl' e
  have := HF.2.2.1 q (5 * n + j') hq (by omega) v (hv j' hl') e
  omega
theorem xs_pw44 {n i b : Nat} {w : Int32} (H : zr_SO fu nk lv st kb ch kw C) (hn : n < 10) (hi : i < 20) (hb : b < 48) (hu : zub fu b = true) (hbo : bo (5 * n + i / 4) = nI b) : ∃ (nk' : Int32) (st' kb' ch' kw' : Nat → Int32), zr_SO fu nk' lv st' kb' ch' kw' (upd C (4 * b + i % 4) w) ∧
    ∀ post : SX → Prop, post (fu, nk', lv, qa, qz, ec, pn, st', kb', ch', kw', K, lx, bo, lk, oc, eN, eV, U, F, Ww, Q, os, ps, pc, pw, rd, wr, S, pr, P, Z, gx, R, L, D, bh, O) → wX_putWord_44 post (nI n) (nI i) w fu nk lv qa qz ec pn st kb ch kw K lx bo lk oc eN eV U F Ww Q os ps pc pw rd wr S pr P Z gx R L D bh O := by
  have h4 : i % 4 < 4 := Nat.mod_lt _ (by decide)
  by_cases z : lv = 0
  · refine ⟨nk, upd st (4 * b + i % 4) w, kb, ch, kw, zs_put0 H z hb h4, fun post h => ?_⟩
    refine ⟨by decide, ?_⟩
    rw [zi_d4 (n := i) (by omega), zi_m5, nI_add]
    refine ⟨vp_in_nI (by omega) (by decide), nm_r (e' := nI b) ((zcl (by omega)).trans hbo) (br_t z ⟨by decide, ?_⟩)⟩
    rw [← zi_d4 (n := i) (by omega), zi_r4 (by omega), zi_m4, nI_add, nI_clamp (by omega)]
    exact ⟨vp_in_nI (by omega) (by decide), nm_e h⟩
  · obtain ⟨s, nk', st', kb', ch', kw', hs, ek, HS, hX⟩ := xs_slotFor (fu := fu) (nk := nk) (lv := lv) (qa := qa) (qz := qz) (ec := ec) (pn := pn) (st := st) (kb := kb) (ch := ch) (kw := kw) (K := K) (lx := lx) (bo := bo) (lk := lk) (oc := oc) (eN := eN) (eV := eV) (U := U) (F := F) (Ww := Ww) (Q := Q) (os := os) (ps := ps) (pc := pc) (pw := pw) (rd := rd) (wr := wr) (S := S) (pr := pr) (P := P) (Z := Z) (gx := gx) (R := R) (L := L) (D := D) (bh := bh) (O := O) H z hb hu
    refine ⟨nk', st', kb', upd ch' s 1, upd kw' (4 * s + i % 4) w, zs_put HS hs hb h4 ek, fun post h => ?_⟩
    refine ⟨by decide, ?_⟩
    rw [zi_d4 (n := i) (by omega), zi_m5, nI_add]
    refine ⟨vp_in_nI (by omega) (by decide), nm_r (e' := nI b) ((zcl (by omega)).trans hbo) (br_f z (hX _ ⟨by decide, ?_⟩))⟩
    rw [← zi_d4 (n := i) (by omega), zi_r4 (by omega), zi_m4, nI_add, nI_clamp (by omega), nI_clamp (by omega), zb_b1]
    exact ⟨vp_in_nI (by omega) (by decide), nm_e ⟨vp_in_nI hs (by decide), nm_e h⟩⟩
theorem xs_pw33 {post : SX → Prop} {n i l : Nat} {w : Int32} (hn : n < 10) (hl : l < 20) (el : lx n = nI l) (h : wX_putWord_44 post (nI n) (nI i) w fu nk lv qa qz ec pn st kb ch kw K (upd lx n (nI (l + 1))) bo lk oc eN eV U F Ww Q os ps pc pw rd wr S pr P Z gx R L D bh O) : wX_putWord_33 post (nI n) (nI i) w fu nk lv qa qz ec pn st kb ch kw K lx bo lk oc eN eV U F Ww Q os ps pc pw rd wr S pr P Z gx R L D bh O := by
  unfold wX_putWord_33
  rw [zcl (f := lx) (by omega), el, nI_clamp (by omega), nI_1, zb_nar8 (by omega)]
  exact ⟨vp_in_nI hn (by decide), vp_in_nI hn (by decide), nm_e h⟩
theorem xs_putWord {n i : Nat} {w : Int32} (HB : zg_B fu nk lv st kb ch kw C K ln bl bo lx ly wd) (hK0 : K 0 = 2) (hn : n < 10) (hK : K n = 1) (hi : i ≤ ln n) (hi20 : i < 20) : ∃ (fu' : Int64) (nk' : Int32) (st' kb' ch' kw' C' : Nat → Int32) (ln' bl' : Nat → Nat) (bo' : Nat → Int32),
    zg_B fu' nk' lv st' kb' ch' kw' C' K ln' bl' bo' (if i = ln n then upd lx n (nI (i + 1)) else lx) (if i = ln n then upd ly n (nI (i + 1)) else ly) (upd wd (20 * n + i) w) ∧
    ∀ post : SX → Prop, post (fu', nk', lv, qa, qz, ec, pn, st', kb', ch', kw', K, if i = ln n then upd lx n (nI (i + 1)) else lx, bo', lk, oc, eN, eV, U, F, Ww, Q, os, ps, pc, pw, rd, wr, S, pr, P, Z, gx, R, L, D, bh, O) → wpX_putWord post (fu, nk, lv, qa, qz, ec, pn, st, kb, ch, kw, K, lx, bo, lk, oc, eN, eV, U, F, Ww, Q, os, ps, pc, pw, rd, wr, S, pr, P, Z, gx, R, L, D, bh, O) (nI n) (nI i) w := by
  obtain ⟨HS, HF, HY⟩ := HB
  obtain ⟨hl, el⟩ := HF.1 n hn hK
  have e5 : (5 * n + i / 4) / 5 = n := by omega
  by_cases c : i = ln n
  · rw [if_pos c, if_pos c]
    have hly : ∀ m, m < 10 → K m = 1 → upd ly n (nI (i + 1)) m = nI (zu ln n (ln n + 1) m) := by
      intro m hm hKm
      by_cases q : m = n
      · subst q; rw [pk_us, zu_s, c]
      · rw [pk_un q, zu_n q]; exact (HY m hm hKm).1
    have h20 : ∀ m, m < 10 → K m = 1 → zu ln n (ln n + 1) m ≤ 20 := by
      intro m hm hKm
      by_cases q : m = n
      · subst q; rw [zu_s]; omega
      · rw [zu_n q]; exact (HF.1 m hm hKm).1
    have hold : ∀ m i', m < 10 → K m = 1 → i' < zu ln n (ln n + 1) m → (m ≠ n ∨ i' ≠ i) → i' < ln m := by
      intro m i' hm hKm h hh
      by_cases q : m = n
      · subst q; rw [zu_s] at h; omega
      · rw [zu_n q] at h; exact h
    by_cases c4 : ln n % 4 = 0
    · obtain ⟨b, st1, hb, hu, h1, h2, hX1⟩ := xs_newBlock (fu := fu) (nk := nk) (lv := lv) (qa := qa) (qz := qz) (ec := ec) (pn := pn) (st := st) (kb := kb) (ch := ch) (kw := kw) (K := K) (lx := lx) (bo := bo) (lk := lk) (oc := oc) (eN := eN) (eV := eV) (U := U) (F := F) (Ww := Ww) (Q := Q) (os := os) (ps := ps) (pc := pc) (pw := pw) (rd := rd) (wr := wr) (S := S) (pr := pr) (P := P) (Z := Z) (gx := gx) (R := R) (L := L) (D := D) (bh := bh) (O := O) (zs_room HF hK0)
      have hfu : ∀ c, c < 48 → zub (fu ||| ((1 : Int64) <<< ((nI b).toInt64 &&& 63))) c = (zub fu c || decide (c = b)) := fun c hc => zub_or fu (by omega) (by omega)
      have HS1 := zs_new (C' := fun x => if x / 4 = b then st1 x else C x) (fu' := fu ||| ((1 : Int64) <<< ((nI b).toInt64 &&& 63))) HS hb hu (fun c hc h => by rw [hfu c hc, h]; rfl) h1 (fun j hj => if_neg hj) (fun k hk => if_pos (by omega))
      have HF1 := zs_FXnew HF hn hK (by omega) c4 hb hu hfu
      obtain ⟨nk', st', kb', ch', kw', HS2, hX2⟩ := xs_pw44 (fu := fu ||| ((1 : Int64) <<< ((nI b).toInt64 &&& 63))) (nk := nk) (lv := lv) (qa := qa) (qz := qz) (ec := ec) (pn := pn) (st := st1) (kb := kb) (ch := ch) (kw := kw) (K := K) (lx := upd lx n (nI (ln n + 1))) (bo := upd bo (5 * n + ln n / 4) (nI b)) (lk := lk) (oc := oc) (eN := eN) (eV := eV) (U := U) (F := F) (Ww := Ww) (Q := Q) (os := os) (ps := ps) (pc := pc) (pw := pw) (rd := rd) (wr := wr) (S := S) (pr := pr) (P := P) (Z := Z) (gx := gx) (R := R) (L := L) (D := D) (bh := bh) (O := O) (n := n) (i := i) (w := w) HS1 hn hi20 hb (by rw [hfu b hb]; simp) (by rw [c, pk_us])
      refine ⟨_, nk', st', kb', ch', kw', _, zu ln n (ln n + 1), zu bl (5 * n + ln n / 4) b, _, ⟨HS2, by rw [c]; exact HF1, ?_⟩, fun post h => ?_⟩
      · have := zs_FYp (w := w) (bl' := zu bl (5 * n + ln n / 4) b) (C' := fun x => if x / 4 = b then st1 x else C x) HY hn hi20 h20 hly hold ?_ HF1.2.2.1 (by rw [zu_s]; omega) hK ?_
        · rw [c, zu_s] at this
          rw [c]; exact this
        · intro q hq v
          refine zu_n fun e => ?_
          have h2 := v.2
          rw [e, show (5 * n + ln n / 4) / 5 = n by omega] at h2
          omega
        · intro q k hq v hk
          have hub := (HF.2.1 q hq v).2.2
          refine if_neg fun e => ?_
          rw [show bl q = b by omega, hu] at hub
          exact absurd hub (by decide)
      · refine ⟨vp_in_nI hn (by decide), br_t (by rw [zcl (f := lx) (by omega), el, c]) ⟨by decide, br_t (by rw [zi_r4 (by omega), c, c4]; rfl) ⟨by decide, hX1 _ ?_⟩⟩⟩
        rw [zi_d4 (n := i) (by omega), zi_m5, nI_add, nI_clamp (by omega), zb_nar8 (by omega)]
        refine ⟨vp_in_nI (by omega) (by decide), nm_e (xs_pw33 hn (by omega) el ?_)⟩
        rw [c] at h ⊢
        rw [c] at hX2
        exact hX2 post h
    · have HF1 := zs_FXext HF (by omega) c4
      have hv : zr_V K ln (5 * n + i / 4) := by
        refine ⟨by rw [e5]; exact hK, ?_⟩
        rw [e5]; omega
      obtain ⟨b1, b2, b3⟩ := HF.2.1 _ (by omega) hv
      obtain ⟨nk', st', kb', ch', kw', HS2, hX2⟩ := xs_pw44 (fu := fu) (nk := nk) (lv := lv) (qa := qa) (qz := qz) (ec := ec) (pn := pn) (st := st) (kb := kb) (ch := ch) (kw := kw) (K := K) (lx := upd lx n (nI (ln n + 1))) (bo := bo) (lk := lk) (oc := oc) (eN := eN) (eV := eV) (U := U) (F := F) (Ww := Ww) (Q := Q) (os := os) (ps := ps) (pc := pc) (pw := pw) (rd := rd) (wr := wr) (S := S) (pr := pr) (P := P) (Z := Z) (gx := gx) (R := R) (L := L) (D := D) (bh := bh) (O := O) (n := n) (i := i) (w := w) HS hn hi20 b1 b3 b2
      refine ⟨fu, nk', st', kb', ch', kw', _, zu ln n (ln n + 1), bl, bo, ⟨HS2, by rw [c]; exact HF1, ?_⟩, fun post h => ?_⟩
      · exact zs_FYp HY hn hi20 h20 hly hold (fun _ _ _ => rfl) HF1.2.2.1 (by rw [zu_s]; omega) hK (fun _ _ _ _ _ => rfl)
      · refine ⟨vp_in_nI hn (by decide), br_t (by rw [zcl (f := lx) (by omega), el, c]) ⟨by decide, br_f (fun z => ?_) (xs_pw33 hn (by omega) el ?_)⟩⟩
        · rw [zi_r4 (by omega), c] at z
          exact c4 (zi_inj (b := 0) (by omega) (by decide) z)
        · refine hX2 post ?_
          rw [c] at h; exact h
  · rw [if_neg c, if_neg c]
    have hv : zr_V K ln (5 * n + i / 4) := by
      refine ⟨by rw [e5]; exact hK, ?_⟩
      rw [e5]; omega
    obtain ⟨b1, b2, b3⟩ := HF.2.1 _ (by omega) hv
    obtain ⟨nk', st', kb', ch', kw', HS2, hX2⟩ := xs_pw44 (fu := fu) (nk := nk) (lv := lv) (qa := qa) (qz := qz) (ec := ec) (pn := pn) (st := st) (kb := kb) (ch := ch) (kw := kw) (K := K) (lx := lx) (bo := bo) (lk := lk) (oc := oc) (eN := eN) (eV := eV) (U := U) (F := F) (Ww := Ww) (Q := Q) (os := os) (ps := ps) (pc := pc) (pw := pw) (rd := rd) (wr := wr) (S := S) (pr := pr) (P := P) (Z := Z) (gx := gx) (R := R) (L := L) (D := D) (bh := bh) (O := O) (n := n) (i := i) (w := w) HS hn hi20 b1 b3 b2
    refine ⟨fu, nk', st', kb', ch', kw', _, ln, bl, bo, ⟨HS2, HF, ?_⟩, fun post h => ?_⟩
    · exact zs_FYp HY hn hi20 (fun m hm hKm => (HF.1 m hm hKm).1) (fun m hm hKm => (HY m hm hKm).1) (fun m i' _ _ h _ => h) (fun _ _ _ => rfl) HF.2.2.1 (by omega) hK (fun _ _ _ _ _ => rfl)
    · exact ⟨vp_in_nI hn (by decide), br_f (fun z => c (by rw [zcl (f := lx) (by omega), el] at z; exact zi_inj (by omega) (by omega) z)) (hX2 post h)⟩
end
end
section
/-! the queue: chain and list -/
def zq_r (p : Nat) : List Nat → List Nat
  | [] => []
  | q :: t => if q = p then zq_r p t else q :: zq_r p t
theorem zq_rm {p q : Nat} : ∀ {l : List Nat}, q ∈ zq_r p l ↔ q ∈ l ∧ q ≠ p
  | [] => by simp [zq_r]
  | a :: t => by
    have ih := zq_rm (p := p) (q := q) (l := t)
    by_cases c : a = p
    · rw [zq_r, if_pos c, ih, List.mem_cons]
      constructor
      · exact fun z => ⟨Or.inr z.1, z.2⟩
      · rintro ⟨e | e, h⟩
        · exact absurd (e.trans c) h
        · exact ⟨e, h⟩
    · rw [zq_r, if_neg c, List.mem_cons, List.mem_cons, ih]
      constructor
      · rintro (e | e)
        · exact ⟨Or.inl e, fun z => c (e.symm.trans z)⟩
        · exact ⟨Or.inr e.1, e.2⟩
      · rintro ⟨e | e, h⟩
        · exact Or.inl e
        · exact Or.inr ⟨e, h⟩
theorem zq_rn {p : Nat} : ∀ {l : List Nat}, p ∉ l → zq_r p l = l
  | [], _ => rfl
  | a :: t, h => by
    rw [List.mem_cons, not_or] at h
    rw [zq_r, if_neg (fun e => h.1 e.symm), zq_rn h.2]
theorem zq_rd {p : Nat} : ∀ {l : List Nat}, l.Nodup → (zq_r p l).Nodup
  | [], _ => List.nodup_nil
  | a :: t, h => by
    rw [List.nodup_cons] at h
    by_cases c : a = p
    · rw [zq_r, if_pos c]; exact zq_rd h.2
    · rw [zq_r, if_neg c, List.nodup_cons]
      exact ⟨fun z => h.1 (zq_rm.mp z).1, zq_rd h.2⟩
theorem zq_ra {p : Nat} {t : List Nat} (ht : p ∉ t) : ∀ {l : List Nat}, p ∉ l → zq_r p (l ++ p :: t) = l ++ t
  | [], _ => by show zq_r p (p :: t) = t; rw [zq_r, if_pos rfl, zq_rn ht]
  | a :: l, h => by
    rw [List.mem_cons, not_or] at h
    show zq_r p (a :: (l ++ p :: t)) = a :: (l ++ t)
    rw [zq_r, if_neg (fun e => h.1 e.symm), zq_ra ht h.2]
theorem zq_lx : ∀ l : List Nat, l = [] ∨ ∃ z, z ∈ l ∧ zq_l l = nI z
  | [] => Or.inl rfl
  | [p] => Or.inr ⟨p, List.mem_cons_self, rfl⟩
  | a :: b :: t => by
    rcases zq_lx (b :: t) with e | ⟨z, hz, e⟩
    · exact absurd e (by simp)
    · exact Or.inr ⟨z, List.mem_cons_of_mem _ hz, e⟩
theorem zq_la (p : Nat) : ∀ l : List Nat, zq_l (l ++ [p]) = nI p
  | [] => rfl
  | [a] => rfl
  | a :: b :: t => zq_la p (b :: t)
theorem zq_ha {l : List Nat} (p : Nat) (h : l ≠ []) : zq_h (l ++ [p]) = zq_h l := by
  cases l with
  | nil => exact absurd rfl h
  | cons a t => rfl
theorem zq_hl {l t : List Nat} (h : l ≠ []) : zq_h (l ++ t) = zq_h l := by
  cases l with
  | nil => exact absurd rfl h
  | cons a t => rfl
theorem zq_ll {t : List Nat} (h : t ≠ []) : ∀ l : List Nat, zq_l (l ++ t) = zq_l t
  | [] => rfl
  | [a] => by cases t with
    | nil => exact absurd rfl h
    | cons b t => rfl
  | a :: b :: l => zq_ll h (b :: l)
theorem zq_hx (l : List Nat) : l = [] ∨ ∃ z, z ∈ l ∧ zq_h l = nI z := by
  cases l with
  | nil => exact Or.inl rfl
  | cons a t => exact Or.inr ⟨a, List.mem_cons_self, rfl⟩
theorem zq_cu {bh : Nat → Int32} {p : Nat} {x : Int32} : ∀ {l : List Nat}, p ∉ l → zq_c bh l → zq_c (upd bh p x) l
  | [], _, _ => trivial
  | a :: t, h, hc => by
    rw [List.mem_cons, not_or] at h
    exact ⟨by rw [pk_un (fun e => h.1 e.symm)]; exact hc.1, zq_cu h.2 hc.2⟩
theorem zq_cm {bh : Nat → Int32} : ∀ {l t : List Nat}, zq_c bh (l ++ t) → zq_c bh t
  | [], _, h => h
  | _ :: _, _, h => zq_cm h.2
/-- the chain behind l's last one is turned to t -/
theorem zq_ct {bh : Nat → Int32} {m t : List Nat} {z : Nat} (ht : zq_c bh t) (hz : z ∉ t) : ∀ {l : List Nat}, zq_c bh (l ++ m) → l.Nodup → zq_l l = nI z → (∀ q, q ∈ l → q < 5) → z < 5 → l ≠ [] → zq_c (upd bh z (zq_h t)) (l ++ t)
  | [], _, _, _, _, _, h => absurd rfl h
  | [a], _, _, e, h5, hz5, _ => by
    have h := h5 a List.mem_cons_self
    have : a = z := zi_inj (by omega) (by omega) e
    subst this
    exact ⟨pk_us, zq_cu hz ht⟩
  | a :: b :: l, hc, hn, e, h5, hz5, _ => by
    rw [List.nodup_cons] at hn
    have ih := zq_ct (l := b :: l) ht hz hc.2 hn.2 e (fun q hq => h5 q (List.mem_cons_of_mem _ hq)) hz5 (by simp)
    rcases zq_lx (b :: l) with q | ⟨y, hy, ey⟩
    · exact absurd q (by simp)
    · have hy5 := h5 y (List.mem_cons_of_mem _ hy)
      have : y = z := zi_inj (by omega) (by omega) (ey.symm.trans e)
      subst this
      exact ⟨by rw [pk_un (fun q => hn.1 (by rw [q]; exact hy))]; exact hc.1, ih⟩
theorem zq_ya {qy : Nat → Int32} : ∀ {l t : List Nat} {o : Nat}, zq_y qy o (l ++ t) ↔ zq_y qy o l ∧ zq_y qy (o + l.length) t
  | [], t, o => ⟨fun h => ⟨trivial, h⟩, fun h => h.2⟩
  | a :: l, t, o => by
    have ih := zq_ya (qy := qy) (l := l) (t := t) (o := o + 1)
    show (qy o = nI a ∧ zq_y qy (o + 1) (l ++ t)) ↔ (qy o = nI a ∧ zq_y qy (o + 1) l) ∧ zq_y qy (o + (l.length + 1)) t
    rw [ih, show o + 1 + l.length = o + (l.length + 1) by omega, and_assoc]
theorem zq_yu {qy : Nat → Int32} {k : Nat} {x : Int32} : ∀ {l : List Nat} {o : Nat}, (k < o ∨ o + l.length ≤ k) → zq_y qy o l → zq_y (upd qy k x) o l
  | [], _, _, _ => trivial
  | a :: l, o, hk, h => by
    have hk' : k < o ∨ o + (l.length + 1) ≤ k := hk
    exact ⟨by rw [pk_un (by omega)]; exact h.1, zq_yu (by omega) h.2⟩
theorem zq_len {ql : List Nat} (h5 : ∀ p, p ∈ ql → p < 5) (hn : ql.Nodup) : ql.length ≤ 5 := by
  refine zp_ph 5 ql.length (fun i => (ql[i]?).getD 0) ?_ ?_
  · intro i hi
    show (ql[i]?).getD 0 < 5
    rw [List.getElem?_eq_getElem hi, Option.getD_some]
    exact h5 _ (List.getElem_mem hi)
  · intro i j hi hj e
    have e' : (ql[i]?).getD 0 = (ql[j]?).getD 0 := e
    rw [List.getElem?_eq_getElem hi, List.getElem?_eq_getElem hj, Option.getD_some, Option.getD_some] at e'
    rcases Nat.lt_trichotomy i j with c | c | c
    · exact absurd e' (List.pairwise_iff_getElem.mp hn i j hi hj c)
    · exact c
    · exact absurd e'.symm (List.pairwise_iff_getElem.mp hn j i hj hi c)
section
variable {fu : Int64} {nk lv qa qz : Int32} {ec : Int64} {pn : Int32} {st kb ch kw K lx bo lk oc eN eV U F Ww Q os ps pc pw rd wr S pr P Z gx R L D bh O : Nat → Int32} {ql : List Nat}
theorem xq_enqueue {p : Nat} (hp : p < 5) (h5 : ∀ q, q ∈ ql → q < 5) (hd : ql.Nodup) (ea : qa = zq_h ql) (ez : qz = zq_l ql) (hc : zq_c bh ql) (hn : p ∉ ql) :
    ∃ (qa' : Int32) (bh' : Nat → Int32), qa' = zq_h (ql ++ [p]) ∧ zq_c bh' (ql ++ [p]) ∧ ∀ post : SX → Prop, post (fu, nk, lv, qa', nI p, ec, pn, st, kb, ch, kw, K, lx, bo, lk, oc, eN, eV, U, F, Ww, Q, os, ps, pc, pw, rd, wr, S, pr, P, Z, gx, R, L, D, bh', O) → wpX_enqueue post (fu, nk, lv, qa, qz, ec, pn, st, kb, ch, kw, K, lx, bo, lk, oc, eN, eV, U, F, Ww, Q, os, ps, pc, pw, rd, wr, S, pr, P, Z, gx, R, L, D, bh, O) (nI p) := by
  rcases zq_lx ql with e | ⟨z, hz, e⟩
  · subst e
    refine ⟨nI p, upd bh p (-1), rfl, ⟨pk_us, trivial⟩, fun post h => ⟨vp_in_nI hp (by decide), ?_⟩⟩
    rw [nI_clamp (by omega), zb_m1]
    exact nm_e (br_t (by rw [ez]; decide) h)
  · have hne : ql ≠ [] := fun q => by rw [q] at hz; exact absurd hz (by simp)
    have hz5 := h5 z hz
    have hpz : p ≠ z := fun q => hn (by rw [q]; exact hz)
    refine ⟨qa, upd (upd bh p (-1)) z (nI p), ea.trans (zq_ha p hne).symm, ?_, fun post h => ⟨vp_in_nI hp (by decide), ?_⟩⟩
    · have := zq_ct (bh := upd bh p (-1)) (m := []) (t := [p]) (z := z) (l := ql) ⟨pk_us, trivial⟩ (by simpa using Ne.symm hpz) (by rw [List.append_nil]; exact zq_cu hn hc) hd e h5 hz5 hne
      exact this
    · rw [nI_clamp (by omega), zb_m1, ez, e, nI_clamp (by omega), zb_nar8 (by omega)]
      exact nm_e (br_f (nI_pos (by omega)) ⟨vp_in_nI hz5 (by decide), nm_e h⟩)
theorem xq_dequeue0 {post : Int32 → SX → Prop} (ea : qa = -1) (h : post (-1) (fu, nk, lv, qa, qz, ec, pn, st, kb, ch, kw, K, lx, bo, lk, oc, eN, eV, U, F, Ww, Q, os, ps, pc, pw, rd, wr, S, pr, P, Z, gx, R, L, D, bh, O)) : wpX_dequeue post (fu, nk, lv, qa, qz, ec, pn, st, kb, ch, kw, K, lx, bo, lk, oc, eN, eV, U, F, Ww, Q, os, ps, pc, pw, rd, wr, S, pr, P, Z, gx, R, L, D, bh, O) := br_f (by rw [ea]; decide) h
theorem xq_dequeue1 {p : Nat} {t : List Nat} {post : Int32 → SX → Prop} (hp : p < 5) (h5 : ∀ q, q ∈ t → q < 5) (ea : qa = nI p) (ez : qz = zq_l (p :: t)) (hb : bh p = zq_h t) (h : post (nI p) (fu, nk, lv, zq_h t, zq_l t, ec, pn, st, kb, ch, kw, K, lx, bo, lk, oc, eN, eV, U, F, Ww, Q, os, ps, pc, pw, rd, wr, S, pr, P, Z, gx, R, L, D, bh, O)) : wpX_dequeue post (fu, nk, lv, qa, qz, ec, pn, st, kb, ch, kw, K, lx, bo, lk, oc, eN, eV, U, F, Ww, Q, os, ps, pc, pw, rd, wr, S, pr, P, Z, gx, R, L, D, bh, O) := by
  subst ea
  refine br_t (nI_pos' (by omega)) ⟨vp_in_nI hp (by decide), nm_r (e' := zq_h t) ((zcl (by omega)).trans hb) ?_⟩
  cases t with
  | nil => exact br_f (show ¬ (0 : Int32) ≤ -1 by decide) h
  | cons a t => exact br_t (nI_pos' (by have := h5 a List.mem_cons_self; omega)) (by rw [ez]; exact h)
theorem xq_l62 {post : SX → Prop} {p : Nat} {l t : List Nat} {x2 : Int32} (hp : p < 5) (h5 : ∀ q, q ∈ t → q < 5) (ex : x2 = zq_l l) (hpt : p ∉ t) (ez : qz = zq_l (l ++ p :: t)) (h : post (fu, nk, lv, qa, zq_l (l ++ t), ec, pn, st, kb, ch, kw, K, lx, bo, lk, oc, eN, eV, U, F, Ww, Q, os, ps, pc, pw, rd, wr, S, pr, P, Z, gx, R, L, D, bh, O)) : wX_leaveQueue_62 post (nI p) x2 fu nk lv qa qz ec pn st kb ch kw K lx bo lk oc eN eV U F Ww Q os ps pc pw rd wr S pr P Z gx R L D bh O := by
  have ez2 : qz = zq_l (p :: t) := by rw [ez]; exact zq_ll (by simp) l
  rcases zq_lx t with e | ⟨z, hz, e⟩
  · subst e
    refine br_t ez2 ?_
    rw [ex]
    rw [List.append_nil] at h
    exact h
  · have hne : t ≠ [] := fun q => by rw [q] at hz; exact absurd hz (by simp)
    have e3 : qz = zq_l t := by
      rw [ez2]
      cases t with
      | nil => exact absurd rfl hne
      | cons a t => rfl
    have hz5 := h5 z hz
    refine br_f (fun q => ?_) ?_
    · have := zi_inj (by omega) (by omega) ((q.symm.trans e3).trans e)
      subst this
      exact hpt hz
    · rw [zq_ll hne l, ← e3] at h
      exact h
theorem xq_l7 {p : Nat} (hp : p < 5) (h5 : ∀ q, q ∈ ql → q < 5) (hd : ql.Nodup) (ea : qa = zq_h ql) (ez : qz = zq_l ql) (hc : zq_c bh ql) :
    ∀ (l2 l1 : List Nat), ql = l1 ++ l2 → p ∉ l1 → ∃ bh' : Nat → Int32, zq_c bh' (zq_r p ql) ∧
      ∀ post : SX → Prop, post (fu, nk, lv, zq_h (zq_r p ql), zq_l (zq_r p ql), ec, pn, st, kb, ch, kw, K, lx, bo, lk, oc, eN, eV, U, F, Ww, Q, os, ps, pc, pw, rd, wr, S, pr, P, Z, gx, R, L, D, bh', O) → wX_leaveQueue_7 post (nI p) fu nk lv qa qz ec pn st kb ch kw K lx bo lk oc eN eV U F Ww Q os ps pc pw rd wr S pr P Z gx R L D bh O (l2.length + 1) (zq_l l1) (zq_h l2)
  | [], l1, eq, hn => by
    have e : ql = l1 := by rw [eq, List.append_nil]
    have er : zq_r p ql = ql := zq_rn (by rw [e]; exact hn)
    rw [er]
    refine ⟨bh, hc, fun post h => ?_⟩
    rw [← ea, ← ez] at h
    refine br_t (show (-1 : Int32) < 0 by decide) ?_
    exact br_f (show ¬ (0 : Int32) ≤ -1 by decide) h
  | q :: t, l1, eq, hn => by
    have hq5 : q < 5 := h5 q (by rw [eq]; simp)
    have ht5 : ∀ x, x ∈ t → x < 5 := fun x hx => h5 x (by rw [eq]; simp [hx])
    have hl5 : ∀ x, x ∈ l1 → x < 5 := fun x hx => h5 x (by rw [eq]; simp [hx])
    have hcq : zq_c bh (q :: t) := zq_cm (l := l1) (by rw [← eq]; exact hc)
    by_cases c : q = p
    · subst c
      have hd2 : (l1 ++ q :: t).Nodup := by rw [← eq]; exact hd
      have hd3 := List.nodup_append.mp hd2
      have hqt : q ∉ t := (List.nodup_cons.mp hd3.2.1).1
      have er : zq_r q ql = l1 ++ t := by rw [eq]; exact zq_ra hqt hn
      rw [er]
      rcases zq_lx l1 with e1 | ⟨z, hz, e1⟩
      · subst e1
        refine ⟨bh, hcq.2, fun post h => ?_⟩
        refine br_f (nI_pos (by omega)) (br_t rfl ?_)
        refine br_t (nI_pos' (by omega)) (br_f (show ¬ (0 : Int32) ≤ -1 by decide) ⟨vp_in_nI hp (by decide), nm_r (e' := zq_h t) ((zcl (by omega)).trans hcq.1) ?_⟩)
        exact xq_l62 (l := []) hp ht5 rfl hqt (by rw [ez, eq]) h
      · have hne : l1 ≠ [] := fun y => by rw [y] at hz; exact absurd hz (by simp)
        have hz5 := hl5 z hz
        have hzt : z ∉ t := fun y => hd3.2.2 z hz z (List.mem_cons_of_mem _ y) rfl
        have hnar : vp_nar .byte (zq_h t) = zq_h t := by
          rcases zq_hx t with y | ⟨y, hy, e⟩
          · subst y; exact zb_m1
          · rw [e]; exact zb_nar (by have := ht5 y hy; omega)
        refine ⟨upd bh z (zq_h t), zq_ct (m := q :: t) hcq.2 hzt (by rw [← eq]; exact hc) hd3.1 e1 hl5 hz5 hne, fun post h => ?_⟩
        refine br_f (nI_pos (by omega)) (br_t rfl ?_)
        rw [e1]
        refine br_t (nI_pos' (by omega)) (br_t (nI_pos' (by omega)) ⟨vp_in_nI hp (by decide), vp_in_nI hz5 (by decide), ?_⟩)
        rw [zcl (f := bh) (by omega), hcq.1, nI_clamp (by omega), hnar]
        refine nm_e (xq_l62 (l := l1) hp ht5 e1.symm hqt (by rw [ez, eq]) ?_)
        rw [zq_hl hne] at h
        rw [eq, zq_hl hne] at ea
        rw [ea]
        exact h
    · obtain ⟨bh', hb', hX⟩ := xq_l7 hp h5 hd ea ez hc t (l1 ++ [q]) (by rw [eq, List.append_assoc]; rfl) (by
        intro z
        rcases List.mem_append.mp z with y | y
        · exact hn y
        · exact c (List.mem_singleton.mp y).symm)
      refine ⟨bh', hb', fun post h => ?_⟩
      have := hX post h
      rw [zq_la] at this
      exact br_f (nI_pos (by omega)) (br_f (fun z => c (zi_inj (by omega) (by omega) z)) ⟨vp_in_nI hq5 (by decide), nm_r (e' := zq_h t) ((zcl (by omega)).trans hcq.1) this⟩)
theorem xq_leaveQueue {p : Nat} (hp : p < 5) (h5 : ∀ q, q ∈ ql → q < 5) (hd : ql.Nodup) (ea : qa = zq_h ql) (ez : qz = zq_l ql) (hc : zq_c bh ql) :
    ∃ bh' : Nat → Int32, zq_c bh' (zq_r p ql) ∧ ∀ post : SX → Prop, post (fu, nk, lv, zq_h (zq_r p ql), zq_l (zq_r p ql), ec, pn, st, kb, ch, kw, K, lx, bo, lk, oc, eN, eV, U, F, Ww, Q, os, ps, pc, pw, rd, wr, S, pr, P, Z, gx, R, L, D, bh', O) → wpX_leaveQueue post (fu, nk, lv, qa, qz, ec, pn, st, kb, ch, kw, K, lx, bo, lk, oc, eN, eV, U, F, Ww, Q, os, ps, pc, pw, rd, wr, S, pr, P, Z, gx, R, L, D, bh, O) (nI p) := by
  obtain ⟨bh', hb', hX⟩ := xq_l7 (fu := fu) (nk := nk) (lv := lv) (qa := qa) (qz := qz) (ec := ec) (pn := pn) (st := st) (kb := kb) (ch := ch) (kw := kw) (K := K) (lx := lx) (bo := bo) (lk := lk) (oc := oc) (eN := eN) (eV := eV) (U := U) (F := F) (Ww := Ww) (Q := Q) (os := os) (ps := ps) (pc := pc) (pw := pw) (rd := rd) (wr := wr) (S := S) (pr := pr) (P := P) (Z := Z) (gx := gx) (R := R) (L := L) (D := D) (bh := bh) (O := O) hp h5 hd ea ez hc ql [] rfl (by simp)
  refine ⟨bh', hb', fun post h => ⟨ql.length + 1, ?_⟩⟩
  have := hX post h
  rw [← ea] at this
  exact this
end
end
section
/-! the tree: entering, taking out, freeing (plain) -/
theorem zt_fr {d l : Nat} {eN eV E eN' eV' E' : Nat → Int32} (h1 : ∀ e, e < 6 → eN' (6 * d + e) = eN (6 * d + e)) (h2 : ∀ e, e < 6 → eV' (6 * d + e) = eV (6 * d + e)) (h3 : ∀ m, m < 15 → E' (15 * d + m) = E (15 * d + m)) (hl : l ≤ 6)
    (H : zr_D1 d l eN eV E) : zr_D1 d l eN' eV' E' := by
  obtain ⟨a1, a2, a3, a4⟩ := H
  refine ⟨?_, ?_, ?_, ?_⟩
  · intro e he
    obtain ⟨m, hm, b1, b2, b3⟩ := a1 e he
    exact ⟨m, hm, by rw [h1 e (by omega)]; exact b1, by rw [h2 e (by omega), h3 m hm]; exact b2, by rw [h3 m hm]; exact b3⟩
  · intro e e' he he' q
    rw [h1 e (by omega), h1 e' (by omega)] at q
    exact a2 e e' he he' q
  · intro m hm q
    rw [h3 m hm] at q
    obtain ⟨e, he, b⟩ := a3 m hm q
    exact ⟨e, he, by rw [h1 e (by omega)]; exact b⟩
  · rw [← a4]
    exact zc_eq fun m hm => by rw [h3 m hm]
theorem zt_en {d l m n : Nat} {eN eV E : Nat → Int32} (H : zr_D1 d l eN eV E) (hl : l < 6) (hm : m < 15) (hn : n < 10) (hE : E (15 * d + m) = -1) :
    zr_D1 d (l + 1) (upd eN (6 * d + l) (nI m)) (upd eV (6 * d + l) (nI n)) (upd E (15 * d + m) (nI n)) := by
  obtain ⟨a1, a2, a3, a4⟩ := H
  have hne : ∀ e, e < l → eN (6 * d + e) ≠ nI m := by
    intro e he q
    obtain ⟨m', hm', b1, b2, b3⟩ := a1 e he
    rw [zi_inj (by omega) (by omega) (b1.symm.trans q)] at b3
    exact b3 hE
  refine ⟨?_, ?_, ?_, ?_⟩
  · intro e he
    by_cases c : e = l
    · subst c
      exact ⟨m, hm, pk_us, by rw [pk_us, pk_us], by rw [pk_us]; exact zi_m1ne (by omega)⟩
    · obtain ⟨m', hm', b1, b2, b3⟩ := a1 e (by omega)
      have hmm : m' ≠ m := fun q => hne e (by omega) (by rw [← q]; exact b1)
      refine ⟨m', hm', by rw [pk_un (by omega)]; exact b1, ?_, ?_⟩
      · rw [pk_un (by omega), pk_un (by omega)]; exact b2
      · rw [pk_un (by omega)]; exact b3
  · intro e e' he he' q
    by_cases c : e = l
    · by_cases c' : e' = l
      · omega
      · rw [c, pk_us, pk_un (by omega)] at q; exact absurd q.symm (hne e' (by omega))
    · by_cases c' : e' = l
      · rw [c', pk_us, pk_un (by omega)] at q; exact absurd q (hne e (by omega))
      · rw [pk_un (by omega), pk_un (by omega)] at q; exact a2 e e' (by omega) (by omega) q
  · intro m' hm' q
    by_cases c : m' = m
    · exact ⟨l, by omega, by rw [pk_us, c]⟩
    · rw [pk_un (by omega)] at q
      obtain ⟨e, he, b⟩ := a3 m' hm' q
      exact ⟨e, by omega, by rw [pk_un (by omega)]; exact b⟩
  · rw [← a4]
    refine zc_inc (a := m) (fun z => z hE) ?_ hm ?_
    · show upd E (15 * d + m) (nI n) (15 * d + m) ≠ -1
      rw [pk_us]; exact zi_m1ne (by omega)
    · intro k hk ne
      rw [pk_un (by omega)]
theorem zt_de {d l m e : Nat} {eN eV E : Nat → Int32} (H : zr_D1 d l eN eV E) (hl : l ≤ 6) (he : e < l) (hm : m < 15) (hN : eN (6 * d + e) = nI m) (hE : E (15 * d + m) ≠ -1) :
    zr_D1 d (l - 1) (upd eN (6 * d + e) (eN (6 * d + (l - 1)))) (upd eV (6 * d + e) (eV (6 * d + (l - 1)))) (upd E (15 * d + m) (-1)) := by
  obtain ⟨a1, a2, a3, a4⟩ := H
  have key : ∀ x, x < l - 1 → ∃ y, y < l ∧ y ≠ e ∧ upd eN (6 * d + e) (eN (6 * d + (l - 1))) (6 * d + x) = eN (6 * d + y) ∧ upd eV (6 * d + e) (eV (6 * d + (l - 1))) (6 * d + x) = eV (6 * d + y) ∧ (y = x ∨ (x = e ∧ y = l - 1)) := by
    intro x hx
    by_cases c : x = e
    · subst c; exact ⟨l - 1, by omega, by omega, pk_us, pk_us, Or.inr ⟨rfl, rfl⟩⟩
    · exact ⟨x, by omega, c, pk_un (by omega), pk_un (by omega), Or.inl rfl⟩
  have hne : ∀ y, y < l → y ≠ e → eN (6 * d + y) ≠ nI m := fun y hy ne q => ne (a2 y e hy he (q.trans hN.symm))
  refine ⟨?_, ?_, ?_, ?_⟩
  · intro x hx
    obtain ⟨y, hy, ne, q1, q2, _⟩ := key x hx
    obtain ⟨m', hm', b1, b2, b3⟩ := a1 y hy
    have hmm : m' ≠ m := fun q => hne y hy ne (by rw [← q]; exact b1)
    exact ⟨m', hm', q1.trans b1, by rw [q2, pk_un (by omega)]; exact b2, by rw [pk_un (by omega)]; exact b3⟩
  · intro x x' hx hx' q
    obtain ⟨y, hy, ne, q1, _, r⟩ := key x hx
    obtain ⟨y', hy', ne', q1', _, r'⟩ := key x' hx'
    rw [q1, q1'] at q
    have := a2 y y' hy hy' q
    omega
  · intro m' hm' q
    have hmm : m' ≠ m := by
      intro c; subst c; rw [pk_us] at q; exact q rfl
    rw [pk_un (by omega)] at q
    obtain ⟨y, hy, b⟩ := a3 m' hm' q
    have hye : y ≠ e := by
      intro c; subst c
      exact hmm (zi_inj (by omega) (by omega) (b.symm.trans hN))
    by_cases c : y = l - 1
    · exact ⟨e, by omega, by rw [pk_us, ← c]; exact b⟩
    · exact ⟨y, by omega, by rw [pk_un (by omega)]; exact b⟩
  · have : zc (fun m => E (15 * d + m) ≠ -1) 15 = zc (fun k => upd E (15 * d + m) (-1) (15 * d + k) ≠ -1) 15 + 1 := by
      refine zc_inc (a := m) ?_ hE hm ?_
      · show ¬ upd E (15 * d + m) (-1) (15 * d + m) ≠ -1
        rw [pk_us]; exact fun z => z rfl
      · intro k hk ne
        rw [pk_un (by omega)]
    omega
theorem zt_c1 {E : Nat → Int32} {k0 n x : Nat} (hk : k0 < 150) (hn : n < 10) (hx : x < 10) (hE : E k0 = -1) : zc (fun k => upd E k0 (nI n) k = nI x) 150 = zc (fun k => E k = nI x) 150 + if x = n then 1 else 0 := by
  by_cases c : x = n
  · rw [if_pos c]
    subst c
    refine zc_inc (a := k0) ?_ pk_us hk ?_
    · rw [hE]; exact fun z => zi_m1ne (n := x) (by omega) z.symm
    · intro k _ ne; rw [pk_un ne]
  · rw [if_neg c, Nat.add_zero]
    refine zc_eq fun k hk => ?_
    by_cases q : k = k0
    · subst q
      rw [pk_us, hE]
      exact ⟨fun z => absurd (zi_inj (by omega) (by omega) z).symm c, fun z => absurd z.symm (zi_m1ne (by omega))⟩
    · rw [pk_un q]
theorem zt_c2 {E : Nat → Int32} {k0 n x : Nat} (hk : k0 < 150) (hn : n < 10) (hx : x < 10) (hE : E k0 = nI n) : zc (fun k => E k = nI x) 150 = zc (fun k => upd E k0 (-1) k = nI x) 150 + if x = n then 1 else 0 := by
  by_cases c : x = n
  · rw [if_pos c]
    subst c
    refine zc_inc (a := k0) ?_ hE hk ?_
    · rw [pk_us]; exact fun z => zi_m1ne (n := x) (by omega) z.symm
    · intro k _ ne; rw [pk_un ne]
  · rw [if_neg c, Nat.add_zero]
    refine zc_eq fun k hk => ?_
    by_cases q : k = k0
    · subst q
      rw [pk_us, hE]
      exact ⟨fun z => absurd (zi_inj (by omega) (by omega) z).symm c, fun z => absurd z.symm (zi_m1ne (by omega))⟩
    · rw [pk_un q]
theorem zt_hl {E : Nat → Int32} {n : Nat} : zh_l E n ↔ 0 < zc (fun k => E k = nI n) 150 := ⟨fun ⟨_, hk, e⟩ => zc_pos hk e, fun h => zc_ex h⟩
theorem zt_l60 {K U E lx eN eV : Nat → Int32} (H3 : zr_K3 K U E) (HD : zr_DR K lx eN eV E) {n : Nat} (hn : n < 10) : zc (fun k => E k = nI n) 150 ≤ 60 := by
  refine zc_blk (p := fun k => E k = nI n) (c := 6) (n := 10) ?_
  intro d hd
  by_cases c : K d = 2
  · obtain ⟨l, hl, _, hD⟩ := HD d hd c
    refine Nat.le_trans (zc_mono (q := fun m => E (15 * d + m) ≠ -1) ?_) (by rw [hD.2.2.2]; exact hl)
    intro m hm e
    show E (15 * d + m) ≠ -1
    rw [show E (15 * d + m) = nI n from e]; exact zi_m1ne (by omega)
  · rw [zc_none]
    · omega
    · intro m hm e
      rcases H3 (15 * d + m) (by omega) with q | ⟨x, _, _, _, _, q, _⟩
      · have e' : E (15 * d + m) = nI n := e
        exact zi_m1ne (n := n) (by omega) (e'.symm.trans q)
      · rw [show (15 * d + m) / 15 = d by omega] at q; exact c q
theorem zt_nE {K U E : Nat → Int32} (H3 : zr_K3 K U E) {n : Nat} (hn : n < 10) (hK : K n ≠ 2) {m : Nat} (hm : m < 15) : E (15 * n + m) = -1 := by
  rcases H3 (15 * n + m) (by omega) with q | ⟨x, _, _, _, _, q, _⟩
  · exact q
  · rw [show (15 * n + m) / 15 = n by omega] at q; exact absurd q hK
/-- a further entry of a file -/
theorem zt_link {K U E S L lx eN eV lk : Nat → Int32} {d l m n : Nat} (H : zg_T K U E S L lx eN eV lk) (hd : d < 10) (hKd : K d = 2) (hl : l < 6) (el : lx d = nI l) (hm : m < 15) (hn1 : 1 ≤ n) (hn : n < 10) (hK : K n = 1) (hE : E (15 * d + m) = -1) :
    zg_T K U (upd E (15 * d + m) (nI n)) S L (upd lx d (nI (l + 1))) (upd eN (6 * d + l) (nI m)) (upd eV (6 * d + l) (nI n)) (upd lk n (nI (zc (fun k => E k = nI n) 150 + 1))) := by
  obtain ⟨k1, k2, k3, k4, pl, dr, lkk⟩ := H
  refine ⟨k1, k2, ?_, ?_, pl, ?_, ?_⟩
  · intro k hk
    by_cases c : k = 15 * d + m
    · subst c
      rw [pk_us]
      exact Or.inr ⟨n, hn1, hn, rfl, by rw [hK]; decide, by rw [show (15 * d + m) / 15 = d by omega]; exact hKd, fun z => absurd (hK.symm.trans z) (by decide)⟩
    · rw [pk_un c]; exact k3 k hk
  · intro x hx1 hx hKx
    rw [zt_c1 (by omega) hn hx hE, if_neg (fun e => by rw [e, hK] at hKx; exact absurd hKx (by decide)), Nat.add_zero, k4 x hx1 hx hKx]
  · intro d' hd' hK'
    obtain ⟨l', hl', el', hD⟩ := dr d' hd' hK'
    by_cases c : d' = d
    · subst c
      have := zi_inj (by omega) (by omega) (el'.symm.trans el)
      subst this
      exact ⟨l' + 1, by omega, pk_us, zt_en hD hl hm hn hE⟩
    · exact ⟨l', hl', by rw [pk_un c]; exact el', zt_fr (fun e he => pk_un (by omega)) (fun e he => pk_un (by omega)) (fun m' hm' => pk_un (by omega)) hl' hD⟩
  · intro x hx hKx
    rw [zt_c1 (by omega) hn hx hE]
    by_cases c : x = n
    · subst c; rw [pk_us, if_pos rfl]
    · rw [pk_un c, if_neg c, Nat.add_zero]; exact lkk x hx hKx
/-- a new node, entered -/
theorem zt_new {K U E S L lx eN eV lk : Nat → Int32} {d l m n kd : Nat} (H : zg_T K U E S L lx eN eV lk) (hd : d < 10) (hKd : K d = 2) (hl : l < 6) (el : lx d = nI l) (hm : m < 15) (hn : n < 10) (hK : K n = 0) (hE : E (15 * d + m) = -1) (hkd : kd = 1 ∨ kd = 2) :
    zg_T (upd K n (nI kd)) (upd U n (nI d)) (upd E (15 * d + m) (nI n)) S L (upd (upd lx n 0) d (nI (l + 1))) (upd eN (6 * d + l) (nI m)) (upd eV (6 * d + l) (nI n)) (upd (upd lk n 0) n (nI 1)) := by
  obtain ⟨k1, k2, k3, k4, pl, dr, lkk⟩ := H
  have hnd : d ≠ n := fun e => by rw [e, hK] at hKd; exact absurd hKd (by decide)
  have hn1 : 1 ≤ n := by
    rcases Nat.eq_zero_or_pos n with e | e
    · subst e; rw [k1.2] at hK; exact absurd hK (by decide)
    · exact e
  have hz : zc (fun k => E k = nI n) 150 = 0 := by
    refine zc_none fun k hk e => ?_
    rcases k3 k hk with q | ⟨x, _, hx, q, r, _⟩
    · exact zi_m1ne (n := n) (by omega) (e.symm.trans q)
    · rw [zi_inj (by omega) (by omega) (q.symm.trans e)] at r; exact r hK
  have hKn : ∀ x, K x = 2 → x ≠ n := fun x h e => by rw [e, hK] at h; exact absurd h (by decide)
  have hkn0 : nI kd ≠ 0 := by rcases hkd with e | e <;> subst e <;> decide
  refine ⟨⟨?_, ?_⟩, ⟨?_, ?_⟩, ?_, ?_, ?_, ?_, ?_⟩
  · intro x hx
    by_cases c : x = n
    · subst c; rw [pk_us]; rcases hkd with e | e <;> subst e
      · exact Or.inr (Or.inl rfl)
      · exact Or.inr (Or.inr rfl)
    · rw [pk_un c]; exact k1.1 x hx
  · rw [pk_un (by omega)]; exact k1.2
  · rw [pk_un (by omega)]; exact k2.1
  · intro x hx hKx
    by_cases c : x = n
    · subst c; exact ⟨d, hd, pk_us, by rw [pk_un hnd]; exact hKd⟩
    · rw [pk_un c] at hKx ⊢
      obtain ⟨y, hy, e, hKy⟩ := k2.2 x hx hKx
      exact ⟨y, hy, e, by rw [pk_un (hKn y hKy)]; exact hKy⟩
  · intro k hk
    by_cases c : k = 15 * d + m
    · subst c
      rw [pk_us]
      refine Or.inr ⟨n, hn1, hn, rfl, by rw [pk_us]; exact hkn0, ?_, fun _ => ?_⟩
      · rw [show (15 * d + m) / 15 = d by omega, pk_un hnd]; exact hKd
      · rw [pk_us, show (15 * d + m) / 15 = d by omega]
    · rw [pk_un c]
      rcases k3 k hk with q | ⟨x, x1, hx, q, r, s, t⟩
      · exact Or.inl q
      · have hxn : x ≠ n := fun e => by rw [e] at r; exact r hK
        exact Or.inr ⟨x, x1, hx, q, by rw [pk_un hxn]; exact r, by rw [pk_un (hKn _ s)]; exact s, by rw [pk_un hxn, pk_un hxn]; exact t⟩
  · intro x hx1 hx hKx
    rw [zt_c1 (by omega) hn hx hE]
    by_cases c : x = n
    · subst c; rw [if_pos rfl, hz, Nat.zero_add]
    · rw [if_neg c, Nat.add_zero]
      rw [pk_un c] at hKx
      exact k4 x hx1 hx hKx
  · intro p hp hs
    obtain ⟨y, hy, e, hKy⟩ := pl p hp hs
    exact ⟨y, hy, e, by rw [pk_un (hKn y hKy)]; exact hKy⟩
  · intro d' hd' hK'
    by_cases cn : d' = n
    · subst cn
      refine ⟨0, by omega, by rw [pk_un (Ne.symm hnd), pk_us]; rfl, ?_⟩
      have hE0 : ∀ m', m' < 15 → upd E (15 * d + m) (nI d') (15 * d' + m') = -1 := by
        intro m' hm'
        rw [pk_un (by omega)]
        exact zt_nE k3 hn (by rw [hK]; decide) hm'
      refine ⟨fun e he => absurd he (by omega), fun e e' he => absurd he (by omega), fun m' hm' q => absurd (hE0 m' hm') q, zc_none fun m' hm' q => q (hE0 m' hm')⟩
    · rw [pk_un cn] at hK'
      obtain ⟨l', hl', el', hD⟩ := dr d' hd' hK'
      by_cases c : d' = d
      · subst c
        have := zi_inj (by omega) (by omega) (el'.symm.trans el)
        subst this
        exact ⟨l' + 1, by omega, pk_us, zt_en hD hl hm hn hE⟩
      · exact ⟨l', hl', by rw [pk_un c, pk_un cn]; exact el', zt_fr (fun e he => pk_un (by omega)) (fun e he => pk_un (by omega)) (fun m' hm' => pk_un (by omega)) hl' hD⟩
  · intro x hx hKx
    rw [zt_c1 (by omega) hn hx hE]
    by_cases c : x = n
    · subst c; rw [pk_us, if_pos rfl, hz, Nat.zero_add]
    · rw [pk_un c] at hKx
      rw [pk_un c, pk_un c, if_neg c, Nat.add_zero]; exact lkk x hx hKx
/-- an entry taken out: of a file -/
theorem zt_del {K U E S L lx eN eV lk : Nat → Int32} {d l m n e : Nat} (H : zg_T K U E S L lx eN eV lk) (hd : d < 10) (hKd : K d = 2) (hl : l ≤ 6) (el : lx d = nI l) (hm : m < 15) (hn : n < 10) (hK : K n = 1) (hE : E (15 * d + m) = nI n) (he : e < l) (hN : eN (6 * d + e) = nI m) :
    zg_T K U (upd E (15 * d + m) (-1)) S L (upd lx d (nI (l - 1))) (upd eN (6 * d + e) (eN (6 * d + (l - 1)))) (upd eV (6 * d + e) (eV (6 * d + (l - 1)))) (upd lk n (nI (zc (fun k => E k = nI n) 150 - 1))) := by
  obtain ⟨k1, k2, k3, k4, pl, dr, lkk⟩ := H
  refine ⟨k1, k2, ?_, ?_, pl, ?_, ?_⟩
  · intro k hk
    by_cases c : k = 15 * d + m
    · subst c; rw [pk_us]; exact Or.inl rfl
    · rw [pk_un c]; exact k3 k hk
  · intro x hx1 hx hKx
    have := zt_c2 (by omega) hn hx hE
    rw [if_neg (fun q => by rw [q, hK] at hKx; exact absurd hKx (by decide)), Nat.add_zero, k4 x hx1 hx hKx] at this
    exact this.symm
  · intro d' hd' hK'
    obtain ⟨l', hl', el', hD⟩ := dr d' hd' hK'
    by_cases c : d' = d
    · subst c
      have := zi_inj (by omega) (by omega) (el'.symm.trans el)
      subst this
      exact ⟨l' - 1, by omega, pk_us, zt_de hD hl he hm hN (by rw [hE]; exact zi_m1ne (by omega))⟩
    · exact ⟨l', hl', by rw [pk_un c]; exact el', zt_fr (fun x hx => pk_un (by omega)) (fun x hx => pk_un (by omega)) (fun m' hm' => pk_un (by omega)) hl' hD⟩
  · intro x hx hKx
    have := zt_c2 (x := x) (by omega) hn hx hE
    by_cases c : x = n
    · subst c; rw [if_pos rfl] at this; rw [pk_us, this, Nat.add_sub_cancel]
    · rw [if_neg c, Nat.add_zero] at this; rw [pk_un c, ← this]; exact lkk x hx hKx
/-- an entry taken out: of an empty directory where nobody is -/
theorem zt_deld {K U E S L lx eN eV lk : Nat → Int32} {d l m n e : Nat} {lk' : Nat → Int32} (H : zg_T K U E S L lx eN eV lk) (hd : d < 10) (hKd : K d = 2) (hl : l ≤ 6) (el : lx d = nI l) (hm : m < 15) (hn1 : 1 ≤ n) (hn : n < 10) (hK : K n = 2) (hE : E (15 * d + m) = nI n) (he : e < l) (hN : eN (6 * d + e) = nI m)
    (h0 : ∀ m', m' < 15 → E (15 * n + m') = -1) (hpl : ∀ p, p < 5 → (S p = 1 ∨ S p = 2) → L p ≠ nI n) (hlk : ∀ x, x ≠ n → lk' x = lk x) :
    zg_T (upd K n 0) U (upd E (15 * d + m) (-1)) S L (upd lx d (nI (l - 1))) (upd eN (6 * d + e) (eN (6 * d + (l - 1)))) (upd eV (6 * d + e) (eV (6 * d + (l - 1)))) lk' := by
  obtain ⟨k1, k2, k3, k4, pl, dr, lkk⟩ := H
  have hdn : d ≠ n := by
    intro q; subst q
    rw [h0 m hm] at hE
    exact zi_m1ne (n := d) (by omega) hE.symm
  have hup : ∀ x, x < 10 → K x = 2 → x ≠ n → U x ≠ nI n := by
    intro x hx hKx hxn q
    rcases Nat.eq_zero_or_pos x with z | z
    · subst z
      rw [k2.1] at q
      have := zi_inj (a := 0) (by decide) (by omega) q
      omega
    · obtain ⟨k, hk, ek⟩ := zc_ex (show 0 < zc (fun k => E k = nI x) 150 by rw [k4 x z hx hKx]; decide)
      rcases k3 k hk with r | ⟨y, _, hy, ey, _, _, t⟩
      · exact zi_m1ne (n := x) (by omega) (ek.symm.trans r)
      · have := zi_inj (by omega) (by omega) (ey.symm.trans ek)
        subst this
        have := zi_inj (by omega) (by omega) (q.symm.trans (t hKx))
        have e2 := h0 (k - 15 * n) (by omega)
        rw [show 15 * n + (k - 15 * n) = k by omega, ek] at e2
        exact zi_m1ne (n := y) (by omega) e2
  have huq : ∀ k, k < 150 → E k = nI n → k = 15 * d + m := fun k hk e => zc_one (k4 n hn1 hn hK) hk (by omega) e hE
  refine ⟨⟨?_, ?_⟩, ⟨k2.1, ?_⟩, ?_, ?_, ?_, ?_, ?_⟩
  · intro x hx
    by_cases c : x = n
    · subst c; rw [pk_us]; exact Or.inl rfl
    · rw [pk_un c]; exact k1.1 x hx
  · rw [pk_un (by omega)]; exact k1.2
  · intro x hx hKx
    by_cases c : x = n
    · subst c; rw [pk_us] at hKx; exact absurd hKx (by decide)
    · rw [pk_un c] at hKx
      obtain ⟨y, hy, e1, hKy⟩ := k2.2 x hx hKx
      exact ⟨y, hy, e1, by rw [pk_un (fun z => hup x hx hKx c (by rw [← z]; exact e1))]; exact hKy⟩
  · intro k hk
    by_cases c : k = 15 * d + m
    · subst c; rw [pk_us]; exact Or.inl rfl
    · rw [pk_un c]
      rcases k3 k hk with q | ⟨x, x1, hx, q, r, s, t⟩
      · exact Or.inl q
      · have hxn : x ≠ n := fun z => c (huq k hk (by rw [← z]; exact q))
        have hkn : k / 15 ≠ n := by
          intro z
          have e2 := h0 (k - 15 * n) (by omega)
          rw [show 15 * n + (k - 15 * n) = k by omega, q] at e2
          exact zi_m1ne (n := x) (by omega) e2
        exact Or.inr ⟨x, x1, hx, q, by rw [pk_un hxn]; exact r, by rw [pk_un hkn]; exact s, by rw [pk_un hxn]; exact t⟩
  · intro x hx1 hx hKx
    by_cases c : x = n
    · subst c; rw [pk_us] at hKx; exact absurd hKx (by decide)
    · rw [pk_un c] at hKx
      have := zt_c2 (x := x) (by omega) hn hx hE
      rw [if_neg c, Nat.add_zero, k4 x hx1 hx hKx] at this
      exact this.symm
  · intro p hp hs
    obtain ⟨y, hy, e1, hKy⟩ := pl p hp hs
    exact ⟨y, hy, e1, by rw [pk_un (fun z => hpl p hp hs (by rw [← z]; exact e1))]; exact hKy⟩
  · intro d' hd' hK'
    by_cases cn : d' = n
    · subst cn; rw [pk_us] at hK'; exact absurd hK' (by decide)
    · rw [pk_un cn] at hK'
      obtain ⟨l', hl', el', hD⟩ := dr d' hd' hK'
      by_cases c : d' = d
      · subst c
        have := zi_inj (by omega) (by omega) (el'.symm.trans el)
        subst this
        exact ⟨l' - 1, by omega, pk_us, zt_de hD hl he hm hN (by rw [hE]; exact zi_m1ne (by omega))⟩
      · exact ⟨l', hl', by rw [pk_un c]; exact el', zt_fr (fun x hx => pk_un (by omega)) (fun x hx => pk_un (by omega)) (fun m' hm' => pk_un (by omega)) hl' hD⟩
  · intro x hx hKx
    by_cases c : x = n
    · subst c; rw [pk_us] at hKx; exact absurd rfl hKx
    · rw [pk_un c] at hKx
      have := zt_c2 (x := x) (by omega) hn hx hE
      rw [if_neg c, Nat.add_zero] at this
      rw [hlk x c, ← this]; exact lkk x hx hKx
/-- a file without entries goes -/
theorem zt_free {K U E S L lx lx' eN eV lk : Nat → Int32} {n : Nat} (H : zg_T K U E S L lx eN eV lk) (hK : K n = 1) (hl : ¬ zh_l E n) (hlx : ∀ x, x ≠ n → lx' x = lx x) : zg_T (upd K n 0) U E S L lx' eN eV lk := by
  obtain ⟨k1, k2, k3, k4, pl, dr, lkk⟩ := H
  have hKn : ∀ x, K x = 2 → x ≠ n := fun x h e => by rw [e, hK] at h; exact absurd h (by decide)
  have h01 : ∀ x, upd K n 0 x = 2 → x ≠ n ∧ K x = 2 := by
    intro x h
    by_cases c : x = n
    · subst c; rw [pk_us] at h; exact absurd h (by decide)
    · rw [pk_un c] at h; exact ⟨c, h⟩
  refine ⟨⟨?_, ?_⟩, ⟨k2.1, ?_⟩, ?_, ?_, ?_, ?_, ?_⟩
  · intro x hx
    by_cases c : x = n
    · subst c; rw [pk_us]; exact Or.inl rfl
    · rw [pk_un c]; exact k1.1 x hx
  · rw [pk_un (hKn 0 k1.2)]; exact k1.2
  · intro x hx hKx
    obtain ⟨y, hy, e, hKy⟩ := k2.2 x hx (h01 x hKx).2
    exact ⟨y, hy, e, by rw [pk_un (hKn y hKy)]; exact hKy⟩
  · intro k hk
    rcases k3 k hk with q | ⟨x, x1, hx, q, r, s, t⟩
    · exact Or.inl q
    · have hxn : x ≠ n := fun z => hl ⟨k, hk, by rw [← z]; exact q⟩
      exact Or.inr ⟨x, x1, hx, q, by rw [pk_un hxn]; exact r, by rw [pk_un (hKn _ s)]; exact s, by rw [pk_un hxn]; exact t⟩
  · exact fun x hx1 hx hKx => k4 x hx1 hx (h01 x hKx).2
  · intro p hp hs
    obtain ⟨y, hy, e, hKy⟩ := pl p hp hs
    exact ⟨y, hy, e, by rw [pk_un (hKn y hKy)]; exact hKy⟩
  · intro d hd hKd
    obtain ⟨c, hK2⟩ := h01 d hKd
    obtain ⟨l, a, b, hD⟩ := dr d hd hK2
    exact ⟨l, a, by rw [hlx d c]; exact b, hD⟩
  · intro x hx hKx
    by_cases c : x = n
    · subst c; rw [pk_us] at hKx; exact absurd rfl hKx
    · rw [pk_un c] at hKx; exact lkk x hx hKx
/-- lengths of files don't matter to the tree -/
theorem zt_lx {K U E S L lx lx' eN eV lk : Nat → Int32} (H : zg_T K U E S L lx eN eV lk) (h : ∀ d, d < 10 → K d = 2 → lx' d = lx d) : zg_T K U E S L lx' eN eV lk := by
  obtain ⟨k1, k2, k3, k4, pl, dr, lkk⟩ := H
  refine ⟨k1, k2, k3, k4, pl, ?_, lkk⟩
  intro d hd hKd
  obtain ⟨l, a, b, hD⟩ := dr d hd hKd
  exact ⟨l, a, by rw [h d hd hKd]; exact b, hD⟩
end
section
/-! openings and descriptors: counts (plain) -/
theorem zo_cnt {dc : Nat → Nat} {k0 c x : Nat} (hk : k0 < 20) : zc (fun k => zu dc k0 c k = x) 20 + (if dc k0 = x then 1 else 0) = zc (fun k => dc k = x) 20 + (if c = x then 1 else 0) := by
  have h1 : zc (fun k => dc k = x) 20 = zc (fun k => dc k = x ∧ k ≠ k0) 20 + (if dc k0 = x then 1 else 0) := by
    by_cases q : dc k0 = x
    · rw [if_pos q]
      exact zc_inc (a := k0) (fun z => z.2 rfl) q hk (fun k _ ne => ⟨fun z => z.1, fun z => ⟨z, ne⟩⟩)
    · rw [if_neg q, Nat.add_zero]
      exact zc_eq fun k _ => ⟨fun z => ⟨z, fun e => q (by rw [← e]; exact z)⟩, fun z => z.1⟩
  have h2 : zc (fun k => zu dc k0 c k = x) 20 = zc (fun k => dc k = x ∧ k ≠ k0) 20 + (if c = x then 1 else 0) := by
    by_cases q : c = x
    · rw [if_pos q]
      refine zc_inc (a := k0) (fun z => z.2 rfl) (by rw [zu_s]; exact q) hk (fun k _ ne => ?_)
      rw [zu_n ne]
      exact ⟨fun z => z.1, fun z => ⟨z, ne⟩⟩
    · rw [if_neg q, Nat.add_zero]
      refine zc_eq fun k _ => ?_
      by_cases e : k = k0
      · subst e; rw [zu_s]; exact ⟨fun z => absurd z q, fun z => absurd rfl z.2⟩
      · rw [zu_n e]; exact ⟨fun z => ⟨z, e⟩, fun z => z.1⟩
  omega
theorem zo_h1 {dc : Nat → Nat} {k0 c x : Nat} (hk : k0 < 20) (hx : x ≠ 0) (h0 : dc k0 = 0) : zh_o (zu dc k0 c) x ↔ zh_o dc x ∨ c = x := by
  constructor
  · rintro ⟨k, hk', e⟩
    by_cases q : k = k0
    · subst q; rw [zu_s] at e; exact Or.inr e
    · rw [zu_n q] at e; exact Or.inl ⟨k, hk', e⟩
  · rintro (⟨k, hk', e⟩ | e)
    · exact ⟨k, hk', by rw [zu_n (fun q => by rw [q, h0] at e; exact hx e.symm)]; exact e⟩
    · exact ⟨k0, hk, by rw [zu_s]; exact e⟩
theorem zo_h0 {dc : Nat → Nat} {k0 x : Nat} (hx : x ≠ 0) : zh_o (zu dc k0 0) x → zh_o dc x := by
  rintro ⟨k, hk', e⟩
  by_cases q : k = k0
  · subst q; rw [zu_s] at e; exact absurd e.symm hx
  · rw [zu_n q] at e; exact ⟨k, hk', e⟩
theorem zo_h2 {dc : Nat → Nat} {k0 x : Nat} (hx : x ≠ dc k0) : zh_o dc x → zh_o (zu dc k0 0) x := by
  rintro ⟨k, hk', e⟩
  exact ⟨k, hk', by rw [zu_n (fun q => hx (by rw [← q]; exact e.symm))]; exact e⟩
/-- the same openings are held -/
theorem zo_OF {dc dc' : Nat → Nat} {K F Q : Nat → Int32} (H : zr_OF dc K F Q) (h : ∀ o, o < 8 → zh_o dc' (1 + o) → zh_o dc (1 + o)) : zr_OF dc' K F Q := fun o ho z => H o ho (h o ho z)
theorem zo_OC {dc dc' : Nat → Nat} {K F oc : Nat → Int32} (H : zr_OC dc K F oc) (h : ∀ o, o < 8 → (zh_o dc' (1 + o) ↔ zh_o dc (1 + o))) : zr_OC dc' K F oc := by
  intro n hn hK
  rw [H n hn hK]
  exact congrArg nI (zc_eq fun o ho => by rw [h o ho])
theorem zo_NZ {dc dc' : Nat → Nat} {K E F : Nat → Int32} (H : zr_NZ dc K E F) (h : ∀ o, o < 8 → zh_o dc (1 + o) → zh_o dc' (1 + o)) : zr_NZ dc' K E F := by
  intro n hn hK
  rcases H n hn hK with a | ⟨o, ho, e, z⟩
  · exact Or.inl a
  · exact Or.inr ⟨o, ho, e, h o ho z⟩
theorem zo_OD {dc : Nat → Nat} {D A : Nat → Int32} {k0 c : Nat} (H : zr_OD dc D A) (hc : c ≤ 12) : zr_OD (zu dc k0 c) (upd D k0 (nI (zxn c))) (upd A k0 (nI (zyn c))) := by
  intro k hk
  by_cases q : k = k0
  · subst q; rw [zu_s, pk_us, pk_us]; exact ⟨hc, rfl, rfl⟩
  · rw [zu_n q, pk_un q, pk_un q]; exact H k hk
theorem zo_DD {dc : Nat → Nat} {S : Nat → Int32} {p i c : Nat} (H : zr_DD dc S) (hp : S p = 1 ∨ S p = 2) (hi : i < 4) : zr_DD (zu dc (4 * p + i) c) S := by
  intro q hq h1 h2 j hj
  have : q ≠ p := fun e => by subst e; exact hp.elim h1 h2
  rw [zu_n (by omega)]
  exact H q hq h1 h2 j hj
theorem zo_DD0 {dc : Nat → Nat} {S : Nat → Int32} {k0 : Nat} (H : zr_DD dc S) : zr_DD (zu dc k0 0) S := by
  intro q hq h1 h2 j hj
  by_cases c : 4 * q + j = k0
  · rw [c, zu_s]
  · rw [zu_n c]; exact H q hq h1 h2 j hj
theorem zo_pos {dc : Nat → Nat} {x : Nat} (h : ¬ zh_o dc x) : zc (fun k => dc k = x) 20 = 0 := by rw [zh_pos] at h; omega
/-- blocks: a node that was nothing -/
theorem zs_FXk {K K' lx lx' : Nat → Int32} {ln bl : Nat → Nat} {fu : Int64} {bo : Nat → Int32} {n : Nat} (H : zr_FX K ln bl fu bo lx) (hK : K n ≠ 1) (hK' : ∀ x, x ≠ n → K' x = K x) (hl : ∀ m, m ≠ n → K m = 1 → lx' m = lx m) (h0 : lx' n = 0) : zr_FX K' (zu ln n 0) bl fu bo lx' := by
  obtain ⟨a1, a2, a3, a4⟩ := H
  have hV : ∀ q, zr_V K' (zu ln n 0) q ↔ zr_V K ln q := by
    intro q
    unfold zr_V
    by_cases c : q / 5 = n
    · rw [c, zu_s]; exact ⟨fun z => absurd z.2 (by omega), fun z => absurd z.1 hK⟩
    · rw [zu_n c, hK' _ c]
  refine ⟨?_, fun q hq h => a2 q hq ((hV q).mp h), fun q q' hq hq' h h' => a3 q q' hq hq' ((hV q).mp h) ((hV q').mp h'), ?_⟩
  · intro m hm hKm
    by_cases c : m = n
    · subst c; rw [zu_s, h0]; exact ⟨by omega, rfl⟩
    · rw [hK' m c] at hKm
      rw [zu_n c, hl m c hKm]; exact a1 m hm hKm
  · intro b hb h
    obtain ⟨q, hq, v, e⟩ := a4 b hb h
    exact ⟨q, hq, (hV q).mpr v, e⟩
theorem zs_FYk {K K' C ly ly' wd : Nat → Int32} {ln bl : Nat → Nat} {n : Nat} (H : zr_FY K ln bl C ly wd) (hK' : ∀ x, x ≠ n → K' x = K x) (hl : ∀ m, m ≠ n → ly' m = ly m) (h0 : ly' n = 0) : zr_FY K' (zu ln n 0) bl C ly' wd := by
  intro m hm hKm
  by_cases c : m = n
  · subst c; rw [zu_s, h0]; exact ⟨rfl, fun i hi => absurd hi (by omega)⟩
  · rw [hK' m c] at hKm
    rw [zu_n c, hl m c]; exact H m hm hKm
/-- blocks: a file that goes -/
theorem zs_FXg {K lx : Nat → Int32} {ln bl : Nat → Nat} {fu : Int64} {bo : Nat → Int32} {n : Nat} (H : zr_FX K ln bl fu bo lx) (h0 : ln n = 0) : zr_FX (upd K n 0) ln bl fu bo lx := by
  obtain ⟨a1, a2, a3, a4⟩ := H
  have hV : ∀ q, zr_V (upd K n 0) ln q ↔ zr_V K ln q := by
    intro q
    unfold zr_V
    by_cases c : q / 5 = n
    · rw [c, h0]; exact ⟨fun z => absurd z.2 (by omega), fun z => absurd z.2 (by omega)⟩
    · rw [pk_un c]
  refine ⟨?_, fun q hq h => a2 q hq ((hV q).mp h), fun q q' hq hq' h h' => a3 q q' hq hq' ((hV q).mp h) ((hV q').mp h'), ?_⟩
  · intro m hm hKm
    by_cases c : m = n
    · subst c; rw [pk_us] at hKm; exact absurd hKm (by decide)
    · rw [pk_un c] at hKm; exact a1 m hm hKm
  · intro b hb h
    obtain ⟨q, hq, v, e⟩ := a4 b hb h
    exact ⟨q, hq, (hV q).mpr v, e⟩
theorem zs_FYe {K C C' ly ly' wd : Nat → Int32} {ln bl : Nat → Nat} {n : Nat} (H : zr_FY K ln bl C ly wd) (h20 : ∀ m, m < 10 → K m = 1 → ln m ≤ 20) (hl : ∀ m, m ≠ n → ly' m = ly m) (h0 : K n = 1 → ly' n = 0)
    (hC : ∀ q k, q < 50 → zr_V K ln q → q / 5 ≠ n → k < 4 → C' (4 * bl q + k) = C (4 * bl q + k)) : zr_FY K (zu ln n 0) bl C' ly' wd := by
  intro m hm hKm
  by_cases c : m = n
  · subst c; rw [zu_s, h0 hKm]; exact ⟨rfl, fun i hi => absurd hi (by omega)⟩
  · rw [zu_n c, hl m c]
    obtain ⟨x, y⟩ := H m hm hKm
    have b20 := h20 m hm hKm
    refine ⟨x, fun i hi => ?_⟩
    have e : (5 * m + i / 4) / 5 = m := by omega
    rw [hC (5 * m + i / 4) (i % 4) (by omega) ⟨by rw [e]; exact hKm, by rw [e]; omega⟩ (by rw [e]; exact c) (Nat.mod_lt _ (by decide))]
    exact y i hi
theorem zs_FYg {K C ly wd : Nat → Int32} {ln bl : Nat → Nat} {n : Nat} (H : ∀ m, m < 10 → m ≠ n → K m = 1 → ly m = nI (ln m) ∧ ∀ i, i < ln m → wd (20 * m + i) = C (4 * bl (5 * m + i / 4) + i % 4)) : zr_FY (upd K n 0) ln bl C ly wd := by
  intro m hm hKm
  by_cases c : m = n
  · subst c; rw [pk_us] at hKm; exact absurd hKm (by decide)
  · rw [pk_un c] at hKm; exact H m hm c hKm
theorem zs_FXl {K lx lx' : Nat → Int32} {ln bl : Nat → Nat} {fu : Int64} {bo : Nat → Int32} (H : zr_FX K ln bl fu bo lx) (hl : ∀ m, m < 10 → K m = 1 → lx' m = lx m) : zr_FX K ln bl fu bo lx' :=
  ⟨fun m hm hK => by rw [hl m hm hK]; exact H.1 m hm hK, H.2⟩
/-- openings: a file that nobody holds goes -/
theorem zo_free {dc : Nat → Nat} {K E F Q oc : Nat → Int32} {n : Nat} (h1 : zr_OF dc K F Q) (h2 : zr_OC dc K F oc) (h3 : ∀ x, x < 10 → x ≠ n → K x = 1 → zh_l E x ∨ zh_f dc F x) (hf : ¬ zh_f dc F n) : zr_OF dc (upd K n 0) F Q ∧ zr_OC dc (upd K n 0) F oc ∧ zr_NZ dc (upd K n 0) E F := by
  refine ⟨?_, ?_, ?_⟩
  · intro o ho z
    obtain ⟨⟨x, x1, hx, e, hK⟩, b⟩ := h1 o ho z
    exact ⟨⟨x, x1, hx, e, by rw [pk_un (fun q => hf ⟨o, ho, by rw [← q]; exact e, z⟩)]; exact hK⟩, b⟩
  · intro x hx hK
    by_cases c : x = n
    · subst c; rw [pk_us] at hK; exact absurd rfl hK
    · rw [pk_un c] at hK; exact h2 x hx hK
  · intro x hx hK
    by_cases c : x = n
    · subst c; rw [pk_us] at hK; exact absurd hK (by decide)
    · rw [pk_un c] at hK; exact h3 x hx c hK
theorem zk_1 {dc : Nat → Nat} {E F K : Nat → Int32} {n : Nat} (hn : n < 10) (hK : K n = 1) (hl : ¬ zh_l E n) (hf : ¬ zh_f dc F n) (h : ∀ x, x < 10 → x ≠ n → K x = 1 → zh_l E x ∨ zh_f dc F x) : zk_c dc E F K = upd K n 0 := by
  funext x
  by_cases c : x = n
  · subst c; rw [pk_us]; exact zk_t hn hK hl hf
  · rw [pk_un c]
    refine zk_f fun z => ?_
    rcases h x z.1 c z.2.1 with a | a
    · exact z.2.2.1 a
    · exact z.2.2.2 a
end
section
/-! walks: entries, counts of ends -/
section
variable {fu : Int64} {nk lv qa qz : Int32} {ec : Int64} {pn : Int32} {st kb ch kw K lx bo lk oc eN eV U F Ww Q os ps pc pw rd wr S pr P Z gx R L D bh O : Nat → Int32} {dc : Nat → Nat}
theorem xd_enter {post : SX → Prop} {d l m n a : Nat} (hd : d < 10) (hl : l < 6) (el : lx d = nI l) (hm : m < 15) (hn : n < 10) (ea : lk n = nI a) (ha : a < 127)
    (h : post (fu, nk, lv, qa, qz, ec, pn, st, kb, ch, kw, K, upd lx d (nI (l + 1)), bo, upd lk n (nI (a + 1)), oc, upd eN (6 * d + l) (nI m), upd eV (6 * d + l) (nI n), U, F, Ww, Q, os, ps, pc, pw, rd, wr, S, pr, P, Z, gx, R, L, D, bh, O)) : wpX_enter post (fu, nk, lv, qa, qz, ec, pn, st, kb, ch, kw, K, lx, bo, lk, oc, eN, eV, U, F, Ww, Q, os, ps, pc, pw, rd, wr, S, pr, P, Z, gx, R, L, D, bh, O) (nI d) (nI m) (nI n) := by
  have e0 : lx (nI d).toNatClampNeg = nI l := (zcl (by omega)).trans el
  have e1 : lk (nI n).toNatClampNeg = nI a := (zcl (by omega)).trans ea
  refine ⟨vp_in_nI hd (by decide), ?_⟩
  rw [e0, e1, zi_m6, nI_add, nI_1 l, nI_1 a, zb_nar8 (n := m) (by omega), zb_nar8 (n := n) (by omega), zb_nar8 (n := l + 1) (by omega), zb_nar8 (n := a + 1) (by omega), nI_clamp (n := d) (by omega), nI_clamp (n := n) (by omega)]
  refine nm_e ⟨vp_in_nI (by omega) (by decide), ?_⟩
  rw [nI_clamp (n := 6 * d + l) (by omega)]
  exact nm_e ⟨vp_in_nI (by omega) (by decide), nm_e ⟨vp_in_nI hd (by decide), vp_in_nI hd (by decide), nm_e ⟨vp_in_nI hn (by decide), vp_in_nI hn (by decide), nm_e h⟩⟩⟩
theorem xd_enterNew {post : Int32 → SX → Prop} {d l m n kd : Nat} (hd : d < 10) (hl : l < 6) (el : lx d = nI l) (hm : m < 15) (hn : n < 10) (hnd : d ≠ n) (hk : kd = 1 ∨ kd = 2) (h0 : K 0 ≠ 0) (hr : zf_F (fun n => K n = 0) 10 (nI n))
    (h : post (nI n) (fu, nk, lv, qa, qz, ec, pn, st, kb, ch, kw, upd K n (nI kd), upd (upd lx n 0) d (nI (l + 1)), bo, upd (upd lk n 0) n (nI 1), upd oc n 0, upd eN (6 * d + l) (nI m), upd eV (6 * d + l) (nI n), upd U n (nI d), F, Ww, Q, os, ps, pc, pw, rd, wr, S, pr, P, Z, gx, R, L, D, bh, O)) :
    wpX_enterNew post (fu, nk, lv, qa, qz, ec, pn, st, kb, ch, kw, K, lx, bo, lk, oc, eN, eV, U, F, Ww, Q, os, ps, pc, pw, rd, wr, S, pr, P, Z, gx, R, L, D, bh, O) (nI d) (nI m) (nI kd) := by
  have e0 : lx (nI d).toNatClampNeg = nI l := (zcl (by omega)).trans el
  refine xr_freeNode h0 hr (br_f (nI_pos (by omega)) (xr_isName (fun _ => br_f (by decide) ⟨vp_in_nI hd (by decide), ?_⟩) (fun z => absurd ⟨m, hm, rfl⟩ z)))
  rw [e0, nI_clamp (n := n) (by omega), zb_nar8 (n := kd) (by omega), zb_0, zb_nar8 (n := d) (by omega)]
  refine br_t (nI_lt (b := 6) hl (by decide)) ⟨vp_in_nI hn (by decide), nm_e ⟨vp_in_nI hn (by decide), nm_e ⟨vp_in_nI hn (by decide), nm_e ⟨vp_in_nI hn (by decide), nm_e ⟨vp_in_nI hn (by decide), nm_e ?_⟩⟩⟩⟩⟩
  exact xd_enter (a := 0) hd hl (by rw [pk_un hnd]; exact el) hm hn pk_us (by decide) h
/-- no node, no name or no room -/
theorem xd_enterNo {post : Int32 → SX → Prop} {d l : Nat} {nm r kd : Int32} (hd : d < 10) (hl : l ≤ 6) (el : lx d = nI l) (h0 : K 0 ≠ 0) (hr : zf_F (fun n => K n = 0) 10 r) (hno : r = -1 ∨ ¬ za_r 15 nm ∨ l = 6) (h : post (-1) (fu, nk, lv, qa, qz, ec, pn, st, kb, ch, kw, K, lx, bo, lk, oc, eN, eV, U, F, Ww, Q, os, ps, pc, pw, rd, wr, S, pr, P, Z, gx, R, L, D, bh, O)) : wpX_enterNew post (fu, nk, lv, qa, qz, ec, pn, st, kb, ch, kw, K, lx, bo, lk, oc, eN, eV, U, F, Ww, Q, os, ps, pc, pw, rd, wr, S, pr, P, Z, gx, R, L, D, bh, O) (nI d) nm kd := by
  have e0 : lx (nI d).toNatClampNeg = nI l := (zcl (by omega)).trans el
  refine xr_freeNode h0 hr ?_
  by_cases c : r < 0
  · exact br_t c h
  · refine br_f c (xr_isName (fun hz => br_f (by decide) ⟨vp_in_nI hd (by decide), ?_⟩) (fun _ => br_t rfl h))
    rcases hno with e | e | e
    · rw [e] at c; exact absurd (by decide) c
    · exact absurd hz e
    · rw [e0, e]; exact br_f (by decide) h
theorem xd_takeOut {post : SX → Prop} {d l e n m' n' a : Nat} {u2 : SX} (hd : d < 10) (hl : l ≤ 6) (el : lx d = nI l) (he : e < l) (hn : n < 10) (ev : eV (6 * d + e) = nI n) (em : eN (6 * d + (l - 1)) = nI m') (hm' : m' < 15) (en : eV (6 * d + (l - 1)) = nI n') (hn' : n' < 10) (ea : lk n = nI (a + 1)) (ha : a < 127)
    (hX : ∀ post' : SX → Prop, post' u2 → wpX_freeIfUnused post' (fu, nk, lv, qa, qz, ec, pn, st, kb, ch, kw, K, upd lx d (nI (l - 1)), bo, upd lk n (nI a), oc, upd eN (6 * d + e) (eN (6 * d + (l - 1))), upd eV (6 * d + e) (eV (6 * d + (l - 1))), U, F, Ww, Q, os, ps, pc, pw, rd, wr, S, pr, P, Z, gx, R, L, D, bh, O) (nI n)) (h : post u2) :
    wpX_takeOut post (fu, nk, lv, qa, qz, ec, pn, st, kb, ch, kw, K, lx, bo, lk, oc, eN, eV, U, F, Ww, Q, os, ps, pc, pw, rd, wr, S, pr, P, Z, gx, R, L, D, bh, O) (nI d) (nI (6 * d + e)) := by
  have e0 : lx (nI d).toNatClampNeg = nI l := (zcl (by omega)).trans el
  have e1 : lk (nI n).toNatClampNeg = nI (a + 1) := (zcl (by omega)).trans ea
  have e2 : nI l - 1 = nI (l - 1) := pk_sub (b := 1) (by omega)
  have e3 : nI (a + 1) - 1 = nI a := nI_pred a
  refine ⟨vp_in_nI (by omega) (by decide), nm_r (e' := nI n) ((zcl (by omega)).trans ev) ⟨vp_in_nI hd (by decide), vp_in_nI hd (by decide), ?_⟩⟩
  rw [e0, e1, e2, e3, zb_nar8 (n := l - 1) (by omega), zb_nar8 (n := a) (by omega), nI_clamp (n := d) (by omega), nI_clamp (n := 6 * d + e) (by omega), nI_clamp (n := n) (by omega)]
  refine nm_e ⟨vp_in_nI hd (by decide), nm_r (e' := nI (6 * d + (l - 1))) (by rw [pk_us, zi_m6, nI_add]) ⟨vp_in_nI (by omega) (by decide), vp_in_nI (by omega) (by decide), ?_⟩⟩
  rw [zcl (f := eN) (i := 6 * d + (l - 1)) (by omega), zcl (f := eV) (i := 6 * d + (l - 1)) (by omega), em, en, zb_nar (n := m') (by omega), zb_nar (n := n') (by omega)]
  rw [em, en] at hX
  exact nm_e ⟨vp_in_nI (by omega) (by decide), vp_in_nI (by omega) (by decide), nm_e ⟨vp_in_nI hn (by decide), vp_in_nI hn (by decide), nm_e (hX _ h)⟩⟩
theorem xd_freeNo {post : SX → Prop} {n a b : Nat} (hn : n < 10) (ea : lk n = nI a) (ha : a < 128) (eb : oc n = nI b) (hb : b < 128) (hab : 0 < a ∨ 0 < b) (h : post (fu, nk, lv, qa, qz, ec, pn, st, kb, ch, kw, K, lx, bo, lk, oc, eN, eV, U, F, Ww, Q, os, ps, pc, pw, rd, wr, S, pr, P, Z, gx, R, L, D, bh, O)) : wpX_freeIfUnused post (fu, nk, lv, qa, qz, ec, pn, st, kb, ch, kw, K, lx, bo, lk, oc, eN, eV, U, F, Ww, Q, os, ps, pc, pw, rd, wr, S, pr, P, Z, gx, R, L, D, bh, O) (nI n) := by
  refine ⟨vp_in_nI hn (by decide), ?_⟩
  rw [zcl (f := lk) (by omega), ea, zcl (f := oc) (by omega), eb]
  by_cases c : 0 < a
  · exact br_t (nI_lt (a := 0) c (by omega)) h
  · refine br_f (nI_nlt (b := a) (a := 0) (by omega) (by omega)) ⟨vp_in_nI hn (by decide), ?_⟩
    exact br_f (nI_nle (by omega) (by omega)) h
theorem xd_freeDir {post : SX → Prop} {n : Nat} (hn : n < 10) (ea : lk n = 0) (eb : oc n = 0) (hK : K n = 2) (h : post (fu, nk, lv, qa, qz, ec, pn, st, kb, ch, kw, upd K n 0, lx, bo, lk, oc, eN, eV, U, F, Ww, Q, os, ps, pc, pw, rd, wr, S, pr, P, Z, gx, R, L, D, bh, O)) : wpX_freeIfUnused post (fu, nk, lv, qa, qz, ec, pn, st, kb, ch, kw, K, lx, bo, lk, oc, eN, eV, U, F, Ww, Q, os, ps, pc, pw, rd, wr, S, pr, P, Z, gx, R, L, D, bh, O) (nI n) := by
  refine ⟨vp_in_nI hn (by decide), ?_⟩
  rw [zcl (f := lk) (by omega), ea, zcl (f := oc) (by omega), eb, zcl (f := K) (by omega), hK, nI_clamp (by omega), zb_0]
  exact br_f (by decide) ⟨vp_in_nI hn (by decide), br_t (by decide) ⟨vp_in_nI hn (by decide), br_f (by decide) ⟨vp_in_nI hn (by decide), nm_e h⟩⟩⟩
theorem xd_freeFile {post : SX → Prop} {n : Nat} {fu' : Int64} {kb' : Nat → Int32} (hn : n < 10) (ea : lk n = 0) (eb : oc n = 0) (hK : K n = 1) (hX : ∀ post : SX → Prop, post (fu', nk, lv, qa, qz, ec, pn, st, kb', ch, kw, K, upd lx n 0, bo, lk, oc, eN, eV, U, F, Ww, Q, os, ps, pc, pw, rd, wr, S, pr, P, Z, gx, R, L, D, bh, O) → wpX_empty post (fu, nk, lv, qa, qz, ec, pn, st, kb, ch, kw, K, lx, bo, lk, oc, eN, eV, U, F, Ww, Q, os, ps, pc, pw, rd, wr, S, pr, P, Z, gx, R, L, D, bh, O) (nI n))
    (h : post (fu', nk, lv, qa, qz, ec, pn, st, kb', ch, kw, upd K n 0, upd lx n 0, bo, lk, oc, eN, eV, U, F, Ww, Q, os, ps, pc, pw, rd, wr, S, pr, P, Z, gx, R, L, D, bh, O)) : wpX_freeIfUnused post (fu, nk, lv, qa, qz, ec, pn, st, kb, ch, kw, K, lx, bo, lk, oc, eN, eV, U, F, Ww, Q, os, ps, pc, pw, rd, wr, S, pr, P, Z, gx, R, L, D, bh, O) (nI n) := by
  refine ⟨vp_in_nI hn (by decide), ?_⟩
  rw [zcl (f := lk) (by omega), ea, zcl (f := oc) (by omega), eb, zcl (f := K) (by omega), hK]
  refine br_f (by decide) ⟨vp_in_nI hn (by decide), br_t (by decide) ⟨vp_in_nI hn (by decide), br_t rfl (hX _ ⟨vp_in_nI hn (by decide), ?_⟩)⟩⟩
  rw [nI_clamp (by omega), zb_0]
  exact nm_e h
theorem zo_up {k0 c : Nat} (hk : k0 < 20) (h0 : dc k0 = 0) {x : Nat} (hx : x ≠ 0) : zc (fun k => zu dc k0 c k = x) 20 = zc (fun k => dc k = x) 20 + (if c = x then 1 else 0) := by
  have := zo_cnt (dc := dc) (k0 := k0) (c := c) (x := x) hk
  rw [h0, if_neg (Ne.symm hx)] at this
  exact this
theorem zo_dn {k0 : Nat} (hk : k0 < 20) {x : Nat} (hx : x ≠ 0) : zc (fun k => dc k = x) 20 = zc (fun k => zu dc k0 0 k = x) 20 + (if dc k0 = x then 1 else 0) := by
  have := zo_cnt (dc := dc) (k0 := k0) (c := 0) (x := x) hk
  rw [if_neg (c := 0 = x) (fun z => hx z.symm), Nat.add_zero] at this
  exact this.symm
theorem xo_cntU {k0 c : Nat} (H : zr_OS dc os rd wr) (hk : k0 < 20) (h0 : dc k0 = 0) (hc : c ≤ 12) : ∃ os' rd' wr' : Nat → Int32, zr_OS (zu dc k0 c) os' rd' wr' ∧ ∀ post : SX → Prop, post (fu, nk, lv, qa, qz, ec, pn, st, kb, ch, kw, K, lx, bo, lk, oc, eN, eV, U, F, Ww, Q, os', ps, pc, pw, rd', wr', S, pr, P, Z, gx, R, L, D, bh, O) → wpX_countEnd post (fu, nk, lv, qa, qz, ec, pn, st, kb, ch, kw, K, lx, bo, lk, oc, eN, eV, U, F, Ww, Q, os, ps, pc, pw, rd, wr, S, pr, P, Z, gx, R, L, D, bh, O) (nI (zxn c)) 1 := by
  rcases zx_cs hc with e | ⟨o, ho, e⟩ | ⟨j, hj, e⟩ | ⟨j, hj, e⟩
  · subst e
    rw [zu_id h0]
    exact ⟨os, rd, wr, H, fun post h => br_t rfl h⟩
  · subst e
    refine ⟨upd os o (nI (zc (fun k => dc k = 1 + o) 20 + 1)), rd, wr, ⟨?_, ?_⟩, fun post h => ?_⟩
    · intro o' ho'
      rw [zo_up hk h0 (by omega)]
      by_cases q : o' = o
      · subst q; rw [pk_us, if_pos rfl]
      · rw [pk_un q, if_neg (by omega), Nat.add_zero]; exact H.1 o' ho'
    · intro j hj
      rw [zo_up hk h0 (by omega), zo_up hk h0 (by omega), if_neg (by omega), if_neg (by omega), Nat.add_zero, Nat.add_zero]
      exact H.2 j hj
    · have b := zc_le (fun k => dc k = 1 + o) 20
      rw [zx_o ho]
      refine br_f (nI_ne0 (by omega) (by omega)) (br_f (nI_ge (b := 16) (by omega) (by decide)) ?_)
      rw [zx_opn o ho, zcl (f := os) (by omega), H.1 o ho, nI_1, zb_nar8 (by omega), nI_clamp (by omega)]
      exact ⟨vp_in_nI ho (by decide), vp_in_nI ho (by decide), nm_e h⟩
  · subst e
    refine ⟨os, upd rd j (nI (zc (fun k => dc k = 9 + j) 20 + 1)), wr, ⟨?_, ?_⟩, fun post h => ?_⟩
    · intro o ho
      rw [zo_up hk h0 (by omega), if_neg (by omega), Nat.add_zero]; exact H.1 o ho
    · intro j' hj'
      rw [zo_up hk h0 (by omega), zo_up hk h0 (by omega), if_neg (c := 9 + j = 11 + j') (by omega), Nat.add_zero]
      by_cases q : j' = j
      · subst q; rw [pk_us, if_pos rfl]; exact ⟨rfl, (H.2 j' hj').2⟩
      · rw [pk_un q, if_neg (by omega), Nat.add_zero]; exact H.2 j' hj'
    · have b := zc_le (fun k => dc k = 9 + j) 20
      rw [zx_r hj]
      refine br_f (nI_ne0 (by omega) (by omega)) (br_t (nI_le (a := 16) (by omega) (by omega)) (xr_isRd0 hj (br_f (by decide) (xr_pipe0 hj ?_))))
      rw [zcl (f := rd) (by omega), (H.2 j hj).1, nI_1, zb_nar8 (by omega), nI_clamp (by omega)]
      exact ⟨vp_in_nI hj (by decide), vp_in_nI hj (by decide), nm_e h⟩
  · subst e
    refine ⟨os, rd, upd wr j (nI (zc (fun k => dc k = 11 + j) 20 + 1)), ⟨?_, ?_⟩, fun post h => ?_⟩
    · intro o ho
      rw [zo_up hk h0 (by omega), if_neg (by omega), Nat.add_zero]; exact H.1 o ho
    · intro j' hj'
      rw [zo_up hk h0 (by omega), zo_up hk h0 (by omega), if_neg (c := 11 + j = 9 + j') (by omega), Nat.add_zero]
      by_cases q : j' = j
      · subst q; rw [pk_us, if_pos rfl]; exact ⟨(H.2 j' hj').1, rfl⟩
      · rw [pk_un q, if_neg (by omega), Nat.add_zero]; exact H.2 j' hj'
    · have b := zc_le (fun k => dc k = 11 + j) 20
      rw [zx_w hj]
      refine br_f (nI_ne0 (by omega) (by omega)) (br_t (nI_le (a := 16) (by omega) (by omega)) (xr_isRd1 hj (br_t rfl (xr_pipe1 hj ?_))))
      rw [zcl (f := wr) (by omega), (H.2 j hj).2, nI_1, zb_nar8 (by omega), nI_clamp (by omega)]
      exact ⟨vp_in_nI hj (by decide), vp_in_nI hj (by decide), nm_e h⟩
theorem xo_cntD {k0 c : Nat} (H : zr_OS dc os rd wr) (hk : k0 < 20) (h0 : dc k0 = c) (hc : c ≤ 12) : ∃ os' rd' wr' : Nat → Int32, zr_OS (zu dc k0 0) os' rd' wr' ∧ ∀ post : SX → Prop, post (fu, nk, lv, qa, qz, ec, pn, st, kb, ch, kw, K, lx, bo, lk, oc, eN, eV, U, F, Ww, Q, os', ps, pc, pw, rd', wr', S, pr, P, Z, gx, R, L, D, bh, O) → wpX_countEnd post (fu, nk, lv, qa, qz, ec, pn, st, kb, ch, kw, K, lx, bo, lk, oc, eN, eV, U, F, Ww, Q, os, ps, pc, pw, rd, wr, S, pr, P, Z, gx, R, L, D, bh, O) (nI (zxn c)) (-1) := by
  subst h0
  rcases zx_cs hc with e | ⟨o, ho, e⟩ | ⟨j, hj, e⟩ | ⟨j, hj, e⟩
  · rw [zu_id e, e]
    exact ⟨os, rd, wr, H, fun post h => br_t rfl h⟩
  · refine ⟨upd os o (nI (zc (fun k => zu dc k0 0 k = 1 + o) 20)), rd, wr, ⟨?_, ?_⟩, fun post h => ?_⟩
    · intro o' ho'
      have := zo_dn (dc := dc) hk (x := 1 + o') (by omega)
      by_cases q : o' = o
      · subst q; rw [pk_us]
      · rw [if_neg (by omega), Nat.add_zero] at this; rw [pk_un q, H.1 o' ho', this]
    · intro j hj
      have h1 := zo_dn (dc := dc) hk (x := 9 + j) (by omega)
      have h2 := zo_dn (dc := dc) hk (x := 11 + j) (by omega)
      rw [if_neg (by omega), Nat.add_zero] at h1 h2
      rw [← h1, ← h2]
      exact H.2 j hj
    · have b := zc_le (fun k => zu dc k0 0 k = 1 + o) 20
      have := zo_dn (dc := dc) hk (x := 1 + o) (by omega)
      rw [if_pos e] at this
      rw [e, zx_o ho]
      refine br_f (nI_ne0 (by omega) (by omega)) (br_f (nI_ge (b := 16) (by omega) (by decide)) ?_)
      rw [zx_opn o ho, zcl (f := os) (by omega), H.1 o ho, this, pk_m1, zb_nar8 (by omega), nI_clamp (by omega)]
      exact ⟨vp_in_nI ho (by decide), vp_in_nI ho (by decide), nm_e h⟩
  · refine ⟨os, upd rd j (nI (zc (fun k => zu dc k0 0 k = 9 + j) 20)), wr, ⟨?_, ?_⟩, fun post h => ?_⟩
    · intro o ho
      have h1 := zo_dn (dc := dc) hk (x := 1 + o) (by omega)
      rw [if_neg (by omega), Nat.add_zero] at h1
      rw [H.1 o ho, h1]
    · intro j' hj'
      have h1 := zo_dn (dc := dc) hk (x := 9 + j') (by omega)
      have h2 := zo_dn (dc := dc) hk (x := 11 + j') (by omega)
      rw [if_neg (by omega), Nat.add_zero] at h2
      obtain ⟨g1, g2⟩ := H.2 j' hj'
      refine ⟨?_, by rw [g2, h2]⟩
      by_cases q : j' = j
      · subst q; rw [pk_us]
      · rw [if_neg (by omega), Nat.add_zero] at h1; rw [pk_un q, g1, h1]
    · have b := zc_le (fun k => zu dc k0 0 k = 9 + j) 20
      have := zo_dn (dc := dc) hk (x := 9 + j) (by omega)
      rw [if_pos e] at this
      rw [e, zx_r hj]
      refine br_f (nI_ne0 (by omega) (by omega)) (br_t (nI_le (a := 16) (by omega) (by omega)) (xr_isRd0 hj (br_f (by decide) (xr_pipe0 hj ?_))))
      rw [zcl (f := rd) (by omega), (H.2 j hj).1, this, pk_m1, zb_nar8 (by omega), nI_clamp (by omega)]
      exact ⟨vp_in_nI hj (by decide), vp_in_nI hj (by decide), nm_e h⟩
  · refine ⟨os, rd, upd wr j (nI (zc (fun k => zu dc k0 0 k = 11 + j) 20)), ⟨?_, ?_⟩, fun post h => ?_⟩
    · intro o ho
      have h1 := zo_dn (dc := dc) hk (x := 1 + o) (by omega)
      rw [if_neg (by omega), Nat.add_zero] at h1
      rw [H.1 o ho, h1]
    · intro j' hj'
      have h1 := zo_dn (dc := dc) hk (x := 11 + j') (by omega)
      have h2 := zo_dn (dc := dc) hk (x := 9 + j') (by omega)
      rw [if_neg (by omega), Nat.add_zero] at h2
      obtain ⟨g1, g2⟩ := H.2 j' hj'
      refine ⟨by rw [g1, h2], ?_⟩
      by_cases q : j' = j
      · subst q; rw [pk_us]
      · rw [if_neg (by omega), Nat.add_zero] at h1; rw [pk_un q, g2, h1]
    · have b := zc_le (fun k => zu dc k0 0 k = 11 + j) 20
      have := zo_dn (dc := dc) hk (x := 11 + j) (by omega)
      rw [if_pos e] at this
      rw [e, zx_w hj]
      refine br_f (nI_ne0 (by omega) (by omega)) (br_t (nI_le (a := 16) (by omega) (by omega)) (xr_isRd1 hj (br_t rfl (xr_pipe1 hj ?_))))
      rw [zcl (f := wr) (by omega), (H.2 j hj).2, this, pk_m1, zb_nar8 (by omega), nI_clamp (by omega)]
      exact ⟨vp_in_nI hj (by decide), vp_in_nI hj (by decide), nm_e h⟩
end
end
section
/-! closing an end -/
theorem zp_mono {dc dc' : Nat → Nat} {ps pc pc' pw fl pp : Nat → Int32} (H : zg_P dc ps pc pw fl pp) (h : ∀ j, j < 2 → (zh_o dc' (9 + j) ∨ zh_o dc' (11 + j)) → (zh_o dc (9 + j) ∨ zh_o dc (11 + j)) ∧ pc' j = pc j) : zg_P dc' ps pc' pw fl pp := by
  intro j hj z
  obtain ⟨a, b⟩ := h j hj z
  rw [b]
  exact H j hj a
theorem zp_cl {dc : Nat → Nat} {k0 j : Nat} (z : zh_o (zu dc k0 0) (9 + j) ∨ zh_o (zu dc k0 0) (11 + j)) : zh_o dc (9 + j) ∨ zh_o dc (11 + j) := z.elim (fun a => Or.inl (zo_h0 (by omega) a)) (fun a => Or.inr (zo_h0 (by omega) a))
section
variable {fu : Int64} {nk lv qa qz : Int32} {ec : Int64} {pn : Int32} {st kb ch kw K lx bo lk oc eN eV U F Ww Q os ps pc pw rd wr S pr P Z gx R L D bh O : Nat → Int32} {C : Nat → Int32} {ln bl dc : Nat → Nat} {ly wd E A fl pp : Nat → Int32}
theorem xo_closeEnd {p d : Nat} (HT : zg_T K U E S L lx eN eV lk) (HB : zg_B fu nk lv st kb ch kw C K ln bl bo lx ly wd) (HO : zg_O dc D A os rd wr K F Q oc E S) (HP : zg_P dc ps pc pw fl pp) (hp : p < 5) (hd : d < 4) :
    ∃ (fu' : Int64) (kb' C' : Nat → Int32) (ln' : Nat → Nat) (lx' oc' os' rd' wr' pc' : Nat → Int32),
      zg_T (zk_c (zu dc (4 * p + d) 0) E F K) U E S L lx' eN eV lk ∧ zg_B fu' nk lv st kb' ch kw C' (zk_c (zu dc (4 * p + d) 0) E F K) ln' bl bo lx' ly wd ∧
      zg_O (zu dc (4 * p + d) 0) (upd D (4 * p + d) 0) (upd A (4 * p + d) 0) os' rd' wr' (zk_c (zu dc (4 * p + d) 0) E F K) F Q oc' E S ∧ zg_P (zu dc (4 * p + d) 0) ps pc' pw fl pp ∧
      ∀ post : SX → Prop, post (fu', nk, lv, qa, qz, ec, pn, st, kb', ch, kw, zk_c (zu dc (4 * p + d) 0) E F K, lx', bo, lk, oc', eN, eV, U, F, Ww, Q, os', ps, pc', pw, rd', wr', S, pr, P, Z, gx, R, L, upd D (4 * p + d) 0, bh, O) → wpX_closeEnd post (fu, nk, lv, qa, qz, ec, pn, st, kb, ch, kw, K, lx, bo, lk, oc, eN, eV, U, F, Ww, Q, os, ps, pc, pw, rd, wr, S, pr, P, Z, gx, R, L, D, bh, O) (nI p) (nI d) := by
  obtain ⟨od, osx, of, occ, nz, dd⟩ := HO
  obtain ⟨hc12, eD, eA⟩ := od (4 * p + d) (by omega)
  have ei : 4 * nI p + nI d = nI (4 * p + d) := by rw [zi_m4, nI_add]
  have od' : zr_OD (zu dc (4 * p + d) 0) (upd D (4 * p + d) 0) (upd A (4 * p + d) 0) := zo_OD (c := 0) od (by decide)
  have dd' : zr_DD (zu dc (4 * p + d) 0) S := zo_DD0 dd
  rcases zx_cs hc12 with e | ⟨o, ho, e⟩ | ⟨j, hj, e⟩ | ⟨j, hj, e⟩
  · have eD0 : D (4 * p + d) = 0 := by rw [eD, e]; rfl
    rw [zu_id e, zi_uid eD0, zi_uid (show A (4 * p + d) = 0 by rw [eA, e]; rfl), zk_id nz]
    refine ⟨fu, kb, C, ln, lx, oc, os, rd, wr, pc, HT, HB, ⟨od, osx, of, occ, nz, dd⟩, HP, fun post h => ?_⟩
    refine ⟨by rw [ei]; exact vp_in_nI (by omega) (by decide), ?_⟩
    rw [ei, zcl (f := D) (by omega), eD0]
    exact nm_e (br_t rfl h)
  · rw [e, zx_o ho] at eD
    obtain ⟨os', rd', wr', HS', hX⟩ := xo_cntD (fu := fu) (nk := nk) (lv := lv) (qa := qa) (qz := qz) (ec := ec) (pn := pn) (st := st) (kb := kb) (ch := ch) (kw := kw) (K := K) (lx := lx) (bo := bo) (lk := lk) (oc := oc) (eN := eN) (eV := eV) (U := U) (F := F) (Ww := Ww) (Q := Q) (os := os) (ps := ps) (pc := pc) (pw := pw) (rd := rd) (wr := wr) (S := S) (pr := pr) (P := P) (Z := Z) (gx := gx) (R := R) (L := L) (D := upd D (4 * p + d) 0) (bh := bh) (O := O) (k0 := 4 * p + d) (c := 1 + o) osx (by omega) e (by omega)
    rw [zx_o ho] at hX
    have hP' : zg_P (zu dc (4 * p + d) 0) ps pc pw fl pp := zp_mono HP (fun j hj z => ⟨zp_cl z, rfl⟩)
    by_cases q : zh_o (zu dc (4 * p + d) 0) (1 + o)
    · have hh : ∀ o', o' < 8 → (zh_o (zu dc (4 * p + d) 0) (1 + o') ↔ zh_o dc (1 + o')) := by
        intro o' ho'
        refine ⟨zo_h0 (by omega), fun z => ?_⟩
        by_cases c : o' = o
        · rw [c]; exact q
        · exact zo_h2 (by rw [e]; omega) z
      have nz' := zo_NZ nz (dc' := zu dc (4 * p + d) 0) (fun o' ho' => (hh o' ho').mpr)
      rw [zk_id nz']
      refine ⟨fu, kb, C, ln, lx, oc, os', rd', wr', pc, HT, HB, ⟨od', HS', zo_OF of (fun o' ho' => (hh o' ho').mp), zo_OC occ hh, nz', dd'⟩, hP', fun post h => ?_⟩
      refine ⟨by rw [ei]; exact vp_in_nI (by omega) (by decide), ?_⟩
      rw [ei, zcl (f := D) (by omega), eD, nI_clamp (n := 4 * p + d) (by omega), zb_0]
      refine nm_e (br_f (nI_ne0 (by omega) (by omega)) ⟨vp_in_nI (by omega) (by decide), nm_e (hX _ (br_t (nI_lt (b := 16) (by omega) (by decide)) ?_))⟩)
      rw [zx_opn o ho, zcl (f := os') (by omega), HS'.1 o ho]
      exact ⟨vp_in_nI ho (by decide), br_f (nI_nle (zh_pos.mp q) (Nat.lt_of_lt_of_le zc_20 (by decide))) h⟩
    · have hold : zh_o dc (1 + o) := ⟨4 * p + d, by omega, e⟩
      obtain ⟨⟨n, n1, hn, eF, hK⟩, _⟩ := of o ho hold
      have hne : ∀ o', o' < 8 → o' ≠ o → (zh_o (zu dc (4 * p + d) 0) (1 + o') ↔ zh_o dc (1 + o')) := fun o' ho' c => ⟨zo_h0 (by omega), zo_h2 (by rw [e]; omega)⟩
      have hcnt : zc (fun o' => F o' = nI n ∧ zh_o dc (1 + o')) 8 = zc (fun o' => F o' = nI n ∧ zh_o (zu dc (4 * p + d) 0) (1 + o')) 8 + 1 :=
        zc_inc (a := o) (fun z => q z.2) ⟨eF, hold⟩ ho (fun o' ho' c => by rw [hne o' ho' c])
      have hKn0 : K n ≠ 0 := by rw [hK]; decide
      have eoc := occ n hn hKn0
      have b8 := zc_le (fun o' => F o' = nI n ∧ zh_o (zu dc (4 * p + d) 0) (1 + o')) 8
      have of' : zr_OF (zu dc (4 * p + d) 0) K F Q := zo_OF of (fun o' ho' => zo_h0 (by omega))
      have occ' : zr_OC (zu dc (4 * p + d) 0) K F (upd oc n (nI (zc (fun o' => F o' = nI n ∧ zh_o (zu dc (4 * p + d) 0) (1 + o')) 8))) := by
        intro x hx hKx
        by_cases c : x = n
        · subst c; rw [pk_us]
        · rw [pk_un c, occ x hx hKx]
          refine congrArg nI (zc_eq fun o' ho' => ?_)
          by_cases co : o' = o
          · subst co
            exact ⟨fun z => absurd (zi_inj (by omega) (by omega) (z.1.symm.trans eF)) c, fun z => absurd (zi_inj (by omega) (by omega) (z.1.symm.trans eF)) c⟩
          · rw [hne o' ho' co]
      have nzx : ∀ x, x < 10 → x ≠ n → K x = 1 → zh_l E x ∨ zh_f (zu dc (4 * p + d) 0) F x := by
        intro x hx c hKx
        rcases nz x hx hKx with a | ⟨o', ho', e1, z⟩
        · exact Or.inl a
        · refine Or.inr ⟨o', ho', e1, (hne o' ho' (fun co => ?_)).mpr z⟩
          subst co
          exact c (zi_inj (by omega) (by omega) (e1.symm.trans eF))
      have elk := HT.2.2.2.2.2.2 n hn hKn0
      have b60 := zt_l60 HT.2.2.1 HT.2.2.2.2.2.1 hn
      have hwalk : ∀ post : SX → Prop, wpX_freeIfUnused (fun u => post u) (fu, nk, lv, qa, qz, ec, pn, st, kb, ch, kw, K, lx, bo, lk, upd oc n (nI (zc (fun o' => F o' = nI n ∧ zh_o (zu dc (4 * p + d) 0) (1 + o')) 8)), eN, eV, U, F, Ww, Q, os', ps, pc, pw, rd', wr', S, pr, P, Z, gx, R, L, upd D (4 * p + d) 0, bh, O) (nI n) → wpX_closeEnd post (fu, nk, lv, qa, qz, ec, pn, st, kb, ch, kw, K, lx, bo, lk, oc, eN, eV, U, F, Ww, Q, os, ps, pc, pw, rd, wr, S, pr, P, Z, gx, R, L, D, bh, O) (nI p) (nI d) := by
        intro post h
        refine ⟨by rw [ei]; exact vp_in_nI (by omega) (by decide), ?_⟩
        rw [ei, zcl (f := D) (by omega), eD, nI_clamp (n := 4 * p + d) (by omega), zb_0]
        refine nm_e (br_f (nI_ne0 (by omega) (by omega)) ⟨vp_in_nI (by omega) (by decide), nm_e (hX _ (br_t (nI_lt (b := 16) (by omega) (by decide)) ?_))⟩)
        rw [zx_opn o ho, zcl (f := os') (by omega), HS'.1 o ho, zo_pos q]
        refine ⟨vp_in_nI ho (by decide), br_t (by decide) ⟨vp_in_nI ho (by decide), nm_r (e' := nI n) ((zcl (by omega)).trans eF) ⟨vp_in_nI hn (by decide), vp_in_nI hn (by decide), ?_⟩⟩⟩
        rw [zcl (f := oc) (by omega), eoc, hcnt, nI_pred, zb_nar8 (by omega), nI_clamp (n := n) (by omega)]
        exact nm_e h
      by_cases c : zh_l E n ∨ zh_f (zu dc (4 * p + d) 0) F n
      · have nz' : zr_NZ (zu dc (4 * p + d) 0) K E F := by
          intro x hx hKx
          by_cases cx : x = n
          · rw [cx]; exact c
          · exact nzx x hx cx hKx
        rw [zk_id nz']
        refine ⟨fu, kb, C, ln, lx, _, os', rd', wr', pc, HT, HB, ⟨od', HS', of', occ', nz', dd'⟩, hP', fun post h => hwalk post ?_⟩
        refine xd_freeNo hn elk (by omega) pk_us (by omega) ?_ h
        rcases c with z | ⟨o', ho', z⟩
        · exact Or.inl (zt_hl.mp z)
        · exact Or.inr (zc_pos ho' z)
      · have cl : ¬ zh_l E n := fun z => c (Or.inl z)
        have cf : ¬ zh_f (zu dc (4 * p + d) 0) F n := fun z => c (Or.inr z)
        obtain ⟨of2, occ2, nz2⟩ := zo_free of' occ' nzx cf
        rw [zk_1 hn hK cl cf nzx]
        obtain ⟨HS, HF, HY⟩ := HB
        obtain ⟨fu', kb', C', g1, g2, g3, gX⟩ := xs_empty (fu := fu) (nk := nk) (lv := lv) (qa := qa) (qz := qz) (ec := ec) (pn := pn) (st := st) (kb := kb) (ch := ch) (kw := kw) (K := K) (lx := lx) (bo := bo) (lk := lk) (oc := upd oc n (nI (zc (fun o' => F o' = nI n ∧ zh_o (zu dc (4 * p + d) 0) (1 + o')) 8))) (eN := eN) (eV := eV) (U := U) (F := F) (Ww := Ww) (Q := Q) (os := os') (ps := ps) (pc := pc) (pw := pw) (rd := rd') (wr := wr') (S := S) (pr := pr) (P := P) (Z := Z) (gx := gx) (R := R) (L := L) (D := upd D (4 * p + d) 0) (bh := bh) (O := O) (n := n) HS HF hn hK
        refine ⟨fu', kb', C', zu ln n 0, upd lx n 0, _, os', rd', wr', pc, zt_free HT hK cl (fun x hx => pk_un hx), ⟨g1, zs_FXg g2 zu_s, zs_FYg ?_⟩, ⟨od', HS', of2, occ2, nz2, dd'⟩, hP', fun post h => hwalk post ?_⟩
        · intro m hm cm hKm
          rw [zu_n cm]
          obtain ⟨x, y⟩ := HY m hm hKm
          have b20 := (HF.1 m hm hKm).1
          refine ⟨x, fun i hi => ?_⟩
          have e5 : (5 * m + i / 4) / 5 = m := by omega
          rw [g3 (5 * m + i / 4) (i % 4) (by omega) ⟨by rw [e5]; exact hKm, by rw [e5]; omega⟩ (by rw [e5]; exact cm) (Nat.mod_lt _ (by decide))]
          exact y i hi
        · have z1 : zc (fun k => E k = nI n) 150 = 0 := by rw [zt_hl] at cl; omega
          have z2 : zc (fun o' => F o' = nI n ∧ zh_o (zu dc (4 * p + d) 0) (1 + o')) 8 = 0 := zc_none fun o' ho' z => cf ⟨o', ho', z⟩
          rw [z1] at elk
          refine xd_freeFile hn elk (by rw [pk_us, z2]; rfl) hK gX h
  · rw [e, zx_r hj] at eD
    obtain ⟨os', rd', wr', HS', hX⟩ := xo_cntD (fu := fu) (nk := nk) (lv := lv) (qa := qa) (qz := qz) (ec := ec) (pn := pn) (st := st) (kb := kb) (ch := ch) (kw := kw) (K := K) (lx := lx) (bo := bo) (lk := lk) (oc := oc) (eN := eN) (eV := eV) (U := U) (F := F) (Ww := Ww) (Q := Q) (os := os) (ps := ps) (pc := pc) (pw := pw) (rd := rd) (wr := wr) (S := S) (pr := pr) (P := P) (Z := Z) (gx := gx) (R := R) (L := L) (D := upd D (4 * p + d) 0) (bh := bh) (O := O) (k0 := 4 * p + d) (c := 9 + j) osx (by omega) e (by omega)
    rw [zx_r hj] at hX
    have hh : ∀ o', o' < 8 → (zh_o (zu dc (4 * p + d) 0) (1 + o') ↔ zh_o dc (1 + o')) := fun o' ho' => ⟨zo_h0 (by omega), zo_h2 (by rw [e]; omega)⟩
    have nz' := zo_NZ nz (dc' := zu dc (4 * p + d) 0) (fun o' ho' => (hh o' ho').mpr)
    rw [zk_id nz']
    by_cases q : zh_o (zu dc (4 * p + d) 0) (9 + j) ∨ zh_o (zu dc (4 * p + d) 0) (11 + j)
    · refine ⟨fu, kb, C, ln, lx, oc, os', rd', wr', pc, HT, HB, ⟨od', HS', zo_OF of (fun o' ho' => (hh o' ho').mp), zo_OC occ hh, nz', dd'⟩, zp_mono HP (fun j hj z => ⟨zp_cl z, rfl⟩), fun post h => ?_⟩
      refine ⟨by rw [ei]; exact vp_in_nI (by omega) (by decide), ?_⟩
      rw [ei, zcl (f := D) (by omega), eD, nI_clamp (n := 4 * p + d) (by omega), zb_0]
      refine nm_e (br_f (nI_ne0 (by omega) (by omega)) ⟨vp_in_nI (by omega) (by decide), nm_e (hX _ (br_f (nI_nlt (b := 16) (by omega) (by omega)) ?_))⟩)
      exact xr_pipe0 hj (xr_isThere hj HS' (fun _ => br_f (by decide) h) (fun a b => absurd q (fun z => z.elim a b)))
    · refine ⟨fu, kb, C, ln, lx, oc, os', rd', wr', upd pc j 0, HT, HB, ⟨od', HS', zo_OF of (fun o' ho' => (hh o' ho').mp), zo_OC occ hh, nz', dd'⟩, zp_mono HP (fun j' hj' z => ⟨zp_cl z, ?_⟩), fun post h => ?_⟩
      · exact pk_un (fun c => by rw [c] at z; exact q z)
      · refine ⟨by rw [ei]; exact vp_in_nI (by omega) (by decide), ?_⟩
        rw [ei, zcl (f := D) (by omega), eD, nI_clamp (n := 4 * p + d) (by omega), zb_0]
        refine nm_e (br_f (nI_ne0 (by omega) (by omega)) ⟨vp_in_nI (by omega) (by decide), nm_e (hX _ (br_f (nI_nlt (b := 16) (by omega) (by omega)) ?_))⟩)
        refine xr_pipe0 hj (xr_isThere hj HS' (fun z => absurd z q) (fun _ _ => br_t rfl ⟨vp_in_nI hj (by decide), ?_⟩))
        rw [nI_clamp (n := j) (by omega)]
        exact nm_e h
  · rw [e, zx_w hj] at eD
    obtain ⟨os', rd', wr', HS', hX⟩ := xo_cntD (fu := fu) (nk := nk) (lv := lv) (qa := qa) (qz := qz) (ec := ec) (pn := pn) (st := st) (kb := kb) (ch := ch) (kw := kw) (K := K) (lx := lx) (bo := bo) (lk := lk) (oc := oc) (eN := eN) (eV := eV) (U := U) (F := F) (Ww := Ww) (Q := Q) (os := os) (ps := ps) (pc := pc) (pw := pw) (rd := rd) (wr := wr) (S := S) (pr := pr) (P := P) (Z := Z) (gx := gx) (R := R) (L := L) (D := upd D (4 * p + d) 0) (bh := bh) (O := O) (k0 := 4 * p + d) (c := 11 + j) osx (by omega) e (by omega)
    rw [zx_w hj] at hX
    have hh : ∀ o', o' < 8 → (zh_o (zu dc (4 * p + d) 0) (1 + o') ↔ zh_o dc (1 + o')) := fun o' ho' => ⟨zo_h0 (by omega), zo_h2 (by rw [e]; omega)⟩
    have nz' := zo_NZ nz (dc' := zu dc (4 * p + d) 0) (fun o' ho' => (hh o' ho').mpr)
    rw [zk_id nz']
    by_cases q : zh_o (zu dc (4 * p + d) 0) (9 + j) ∨ zh_o (zu dc (4 * p + d) 0) (11 + j)
    · refine ⟨fu, kb, C, ln, lx, oc, os', rd', wr', pc, HT, HB, ⟨od', HS', zo_OF of (fun o' ho' => (hh o' ho').mp), zo_OC occ hh, nz', dd'⟩, zp_mono HP (fun j hj z => ⟨zp_cl z, rfl⟩), fun post h => ?_⟩
      refine ⟨by rw [ei]; exact vp_in_nI (by omega) (by decide), ?_⟩
      rw [ei, zcl (f := D) (by omega), eD, nI_clamp (n := 4 * p + d) (by omega), zb_0]
      refine nm_e (br_f (nI_ne0 (by omega) (by omega)) ⟨vp_in_nI (by omega) (by decide), nm_e (hX _ (br_f (nI_nlt (b := 16) (by omega) (by omega)) ?_))⟩)
      exact xr_pipe1 hj (xr_isThere hj HS' (fun _ => br_f (by decide) h) (fun a b => absurd q (fun z => z.elim a b)))
    · refine ⟨fu, kb, C, ln, lx, oc, os', rd', wr', upd pc j 0, HT, HB, ⟨od', HS', zo_OF of (fun o' ho' => (hh o' ho').mp), zo_OC occ hh, nz', dd'⟩, zp_mono HP (fun j' hj' z => ⟨zp_cl z, ?_⟩), fun post h => ?_⟩
      · exact pk_un (fun c => by rw [c] at z; exact q z)
      · refine ⟨by rw [ei]; exact vp_in_nI (by omega) (by decide), ?_⟩
        rw [ei, zcl (f := D) (by omega), eD, nI_clamp (n := 4 * p + d) (by omega), zb_0]
        refine nm_e (br_f (nI_ne0 (by omega) (by omega)) ⟨vp_in_nI (by omega) (by decide), nm_e (hX _ (br_f (nI_nlt (b := 16) (by omega) (by omega)) ?_))⟩)
        refine xr_pipe1 hj (xr_isThere hj HS' (fun z => absurd z q) (fun _ _ => br_t rfl ⟨vp_in_nI hj (by decide), ?_⟩))
        rw [nI_clamp (n := j) (by omega)]
        exact nm_e h
end
end
section
/-! what the reference's readers answer -/
theorem za_in {h : Nat} {x : Int32} (h0 : ¬ x < 0) (h1 : ¬ nI h < x) (hh : h < 2 ^ 30) : za_r (h + 1) x := by
  obtain ⟨j, hj, e⟩ := nI_of h0
  subst e
  rw [nI_ltI (by omega) hj] at h1
  exact ⟨j, by omega, rfl⟩
section
variable {qn : Int32} {ec : Int64} {pn go : Int32} {K ly wd E U S py Py Z gy R A L F Ww Q fl pp qy O : Nat → Int32} {dc : Nat → Nat}
theorem yr_in0 {post : Int32 → Prop} {x : Int32} {h : Nat} (hh : h < 2 ^ 30) (h1 : za_r (h + 1) x → post 1) (h0 : ¬ za_r (h + 1) x → post 0) : wpY_in post (qn, ec, pn, go, K, ly, wd, E, U, S, py, Py, Z, gy, R, A, L, F, Ww, Q, fl, pp, qy, O) x 0 (nI h) := by
  by_cases c : x < 0
  · exact br_t c (h0 (za_neg (by omega) c))
  · refine br_f c ?_
    by_cases c2 : nI h < x
    · refine br_t c2 (h0 ?_)
      rintro ⟨m, hm, e⟩
      rw [e, nI_ltI (by omega) (by omega)] at c2
      omega
    · exact br_f c2 (h1 (za_in c c2 hh))
theorem yr_inz {post : Int32 → Prop} {x : Int32} {z : Nat} (hz : z < 2 ^ 30) (h1 : za_r z x → post 1) (h0 : ¬ za_r z x → post 0) : wpY_in post (qn, ec, pn, go, K, ly, wd, E, U, S, py, Py, Z, gy, R, A, L, F, Ww, Q, fl, pp, qy, O) x 0 (nI z - 1) := by
  cases z with
  | zero =>
    by_cases c : x < 0
    · exact br_t c (h0 (fun ⟨m, hm, _⟩ => absurd hm (by omega)))
    · refine br_f c (br_t ?_ (h0 (fun ⟨m, hm, _⟩ => absurd hm (by omega))))
      obtain ⟨j, hj, e⟩ := nI_of c
      subst e
      show (-1 : Int32) < nI j
      rw [Int32.lt_iff_toInt_lt, nI_toInt hj, show (-1 : Int32).toInt = -1 by decide]
      omega
  | succ z =>
    rw [nI_pred]
    exact yr_in0 (by omega) h1 h0
theorem yr_inN {post : Int32 → Prop} {v a b : Nat} (hv : v < 2 ^ 31) (ha : a < 2 ^ 31) (hb : b < 2 ^ 31) (h1 : a ≤ v → v ≤ b → post 1) (h0 : ¬ (a ≤ v ∧ v ≤ b) → post 0) : wpY_in post (qn, ec, pn, go, K, ly, wd, E, U, S, py, Py, Z, gy, R, A, L, F, Ww, Q, fl, pp, qy, O) (nI v) (nI a) (nI b) := by
  by_cases c : v < a
  · exact br_t (nI_lt c ha) (h0 (by omega))
  · refine br_f (nI_nlt (by omega) hv) ?_
    by_cases c2 : b < v
    · exact br_t (nI_lt c2 hv) (h0 (by omega))
    · exact br_f (nI_nlt (by omega) hb) (h1 (by omega) (by omega))
theorem yr_smallestNode {post : Int32 → Prop} {r : Int32} (H : zf_F (fun n => K n = 0) 10 r) (hp : post r) : wpY_smallestNode post (qn, ec, pn, go, K, ly, wd, E, U, S, py, Py, Z, gy, R, A, L, F, Ww, Q, fl, pp, qy, O) := by
  show ∃ n, wY_smallestNode_2 post qn ec pn go K ly wd E U S py Py Z gy R A L F Ww Q fl pp qy O n (nI 0)
  refine zf_scan (Wq := fun n i => wY_smallestNode_2 post qn ec pn go K ly wd E U S py Py Z gy R A L F Ww Q fl pp qy O n i) H 0 (by decide) (fun j hj => absurd hj (by omega)) ?_ ?_ ?_
  · intro e n; exact br_t (nI_le (a := 10) (b := 10) (by decide) (by decide)) (e ▸ hp)
  · intro n i _ hi hh e; exact br_f (nI_ge (b := 10) hi (by decide)) ⟨vp_in_nI hi (by decide), br_t ((zcl (by omega)).trans hh) (e ▸ hp)⟩
  · intro n i _ hi hh k; exact br_f (nI_ge (b := 10) hi (by decide)) ⟨vp_in_nI hi (by decide), br_f (fun z => hh ((zcl (by omega)).symm.trans z)) (nm_r (nI_1 i) k)⟩
theorem yr_smallestProcess {post : Int32 → Prop} {r : Int32} (H : zf_F (fun n => S n = 0) 5 r) (hp : post r) : wpY_smallestProcess post (qn, ec, pn, go, K, ly, wd, E, U, S, py, Py, Z, gy, R, A, L, F, Ww, Q, fl, pp, qy, O) := by
  show ∃ n, wY_smallestProcess_2 post qn ec pn go K ly wd E U S py Py Z gy R A L F Ww Q fl pp qy O n (nI 0)
  refine zf_scan (Wq := fun n i => wY_smallestProcess_2 post qn ec pn go K ly wd E U S py Py Z gy R A L F Ww Q fl pp qy O n i) H 0 (by decide) (fun j hj => absurd hj (by omega)) ?_ ?_ ?_
  · intro e n; exact br_t (nI_le (a := 5) (b := 5) (by decide) (by decide)) (e ▸ hp)
  · intro n i _ hi hh e; exact br_f (nI_ge (b := 5) hi (by decide)) ⟨vp_in_nI hi (by decide), br_t ((zcl (by omega)).trans hh) (e ▸ hp)⟩
  · intro n i _ hi hh k; exact br_f (nI_ge (b := 5) hi (by decide)) ⟨vp_in_nI hi (by decide), br_f (fun z => hh ((zcl (by omega)).symm.trans z)) (nm_r (nI_1 i) k)⟩
theorem yr_eo7 {post : Int32 → Prop} {d : Nat} (hd : d < 10) (H3 : zr_K3 K U E) (h : post (nI (zc (fun m => E (15 * d + m) ≠ -1) 15))) :
    ∀ t i, i + t = 15 → wY_entriesOf_7 post (nI d) qn ec pn go K ly wd E U S py Py Z gy R A L F Ww Q fl pp qy O (t + 1) (nI (zc (fun m => E (15 * d + m) ≠ -1) i)) (nI (15 * d + i)) := by
  have e15 : 15 * nI d + 15 = nI (15 * d + 15) := by rw [zi_m15, zi_a15]
  intro t
  induction t with
  | zero =>
    intro i hi
    have e : i = 15 := by omega
    subst e
    refine br_t ?_ h
    rw [e15]; exact nI_le (Nat.le_refl _) (by omega)
  | succ t ih =>
    intro i hi
    refine br_f (by rw [e15]; exact nI_ge (by omega) (by omega)) ⟨vp_in_nI (by omega) (by decide), ?_⟩
    rw [zcl (f := E) (by omega)]
    rcases H3 (15 * d + i) (by omega) with q | ⟨x, x1, hx, q, _⟩
    · refine br_t (by rw [q]; decide) (nm_r (e' := nI (15 * d + (i + 1))) (nI_1 _) ?_)
      have := ih (i + 1) (by omega)
      rw [show zc (fun m => E (15 * d + m) ≠ -1) (i + 1) = zc (fun m => E (15 * d + m) ≠ -1) i + zb1 (E (15 * d + i) ≠ -1) from rfl, zb1_f (fun z => z q), Nat.add_zero] at this
      exact this
    · refine br_f (by rw [q]; exact nI_pos (by omega)) (nm_r (e' := nI (zc (fun m => E (15 * d + m) ≠ -1) (i + 1))) ?_ (nm_r (e' := nI (15 * d + (i + 1))) (nI_1 _) (ih (i + 1) (by omega))))
      rw [show zc (fun m => E (15 * d + m) ≠ -1) (i + 1) = zc (fun m => E (15 * d + m) ≠ -1) i + zb1 (E (15 * d + i) ≠ -1) from rfl, zb1_t (by rw [q]; exact zi_m1ne (by omega)), nI_1]
theorem yr_entriesOf {post : Int32 → Prop} {d : Nat} (hd : d < 10) (H3 : zr_K3 K U E) (h : post (nI (zc (fun m => E (15 * d + m) ≠ -1) 15))) : wpY_entriesOf post (qn, ec, pn, go, K, ly, wd, E, U, S, py, Py, Z, gy, R, A, L, F, Ww, Q, fl, pp, qy, O) (nI d) :=
  nm_r (e' := nI (15 * d + 0)) (zi_m15 d) ⟨16, yr_eo7 hd H3 h 15 0 (by decide)⟩
theorem yr_named {post : Int32 → Prop} {d : Nat} {nm r : Int32} (hd : d < 10) (hv : zn_v E d nm r) (hp : post r) : wpY_named post (qn, ec, pn, go, K, ly, wd, E, U, S, py, Py, Z, gy, R, A, L, F, Ww, Q, fl, pp, qy, O) (nI d) nm := by
  unfold wpY_named
  refine yr_in0 (h := 14) (by decide) ?_ ?_
  · rintro ⟨m, hm, e⟩
    subst e
    refine br_f (by decide) ?_
    rw [zi_m15, nI_add]
    refine ⟨vp_in_nI (by omega) (by decide), ?_⟩
    rw [zcl (f := E) (by omega)]
    rcases hv with ⟨m', hm', em, er⟩ | ⟨hz, _⟩
    · have := zi_inj (by omega) (by omega) em
      subst this
      exact er ▸ hp
    · exact absurd ⟨m, hm, rfl⟩ hz
  · intro z
    refine br_t rfl ?_
    rcases hv with ⟨m', hm', em, _⟩ | ⟨_, er⟩
    · exact absurd ⟨m', hm', em⟩ z
    · exact er ▸ hp
theorem yr_canEnter {post : Int32 → Prop} {d : Nat} {nm r : Int32} (hd : d < 10) (H3 : zr_K3 K U E) (hr : zf_F (fun n => K n = 0) 10 r)
    (h1 : ∀ m, m < 15 → nm = nI m → E (15 * d + m) = -1 → r ≠ -1 → zc (fun m => E (15 * d + m) ≠ -1) 15 < 6 → post 1)
    (h0 : (¬ za_r 15 nm ∨ (∃ m, m < 15 ∧ nm = nI m ∧ E (15 * d + m) ≠ -1) ∨ r = -1 ∨ 6 ≤ zc (fun m => E (15 * d + m) ≠ -1) 15) → post 0) : wpY_canEnter post (qn, ec, pn, go, K, ly, wd, E, U, S, py, Py, Z, gy, R, A, L, F, Ww, Q, fl, pp, qy, O) (nI d) nm := by
  unfold wpY_canEnter
  refine yr_in0 (h := 14) (by decide) ?_ ?_
  · rintro ⟨m, hm, e⟩
    subst e
    refine br_f (by decide) ?_
    rw [zi_m15, nI_add]
    refine ⟨vp_in_nI (by omega) (by decide), ?_⟩
    rw [zcl (f := E) (by omega)]
    rcases H3 (15 * d + m) (by omega) with q | ⟨x, x1, hx, q, _⟩
    · refine br_f (by rw [q]; decide) (yr_smallestNode hr ?_)
      rcases hr with ⟨e, _⟩ | ⟨i, hi, e, _⟩
      · exact br_t (by rw [e]; decide) (h0 (Or.inr (Or.inr (Or.inl e))))
      · refine br_f (by rw [e]; exact nI_pos (by omega)) (yr_entriesOf hd H3 ?_)
        have b := zc_le (fun m => E (15 * d + m) ≠ -1) 15
        by_cases c : 6 ≤ zc (fun m => E (15 * d + m) ≠ -1) 15
        · exact br_t (nI_le (a := 6) c (by omega)) (h0 (Or.inr (Or.inr (Or.inr c))))
        · exact br_f (nI_ge (b := 6) (by omega) (by decide)) (h1 m hm rfl q (by rw [e]; exact zi_m1ne (by omega)) (by omega))
    · exact br_t (by rw [q]; exact nI_pos' (by omega)) (h0 (Or.inr (Or.inl ⟨m, hm, rfl, by rw [q]; exact zi_m1ne (by omega)⟩)))
  · exact fun z => br_t rfl (h0 (Or.inl z))
theorem yr_isLive {post : Int32 → Prop} {x : Int32} (h1 : za_l S x → post 1) (h0 : ¬ za_l S x → post 0) : wpY_isLive post (qn, ec, pn, go, K, ly, wd, E, U, S, py, Py, Z, gy, R, A, L, F, Ww, Q, fl, pp, qy, O) x := by
  unfold wpY_isLive
  refine yr_in0 (h := 4) (by decide) ?_ ?_
  · rintro ⟨q, hq, rfl⟩
    refine br_f (by decide) ⟨vp_in_nI hq (by decide), ?_⟩
    by_cases c : S q = 1
    · exact br_t ((zcl (by omega)).trans c) (h1 ⟨q, hq, rfl, Or.inl c⟩)
    · refine br_f (fun z => c ((zcl (by omega)).symm.trans z)) ⟨vp_in_nI hq (by decide), ?_⟩
      by_cases c2 : S q = 2
      · exact br_t ((zcl (by omega)).trans c2) (h1 ⟨q, hq, rfl, Or.inr c2⟩)
      · refine br_f (fun z => c2 ((zcl (by omega)).symm.trans z)) (h0 ?_)
        rintro ⟨q', hq', e, h⟩
        rw [zi_inj (by omega) (by omega) e] at c c2
        exact h.elim c c2
  · intro h
    exact br_t rfl (h0 fun ⟨q, hq, e, _⟩ => h ⟨q, hq, e⟩)
theorem yr_isPlace {post : Int32 → Prop} {x : Int32} (h1 : (∃ q, q < 5 ∧ (S q = 1 ∨ S q = 2) ∧ L q = x) → post 1) (h0 : (∀ q, q < 5 → ¬ ((S q = 1 ∨ S q = 2) ∧ L q = x)) → post 0) : wpY_isPlace post (qn, ec, pn, go, K, ly, wd, E, U, S, py, Py, Z, gy, R, A, L, F, Ww, Q, fl, pp, qy, O) x := by
  show ∃ n, wY_isPlace_2 post x qn ec pn go K ly wd E U S py Py Z gy R A L F Ww Q fl pp qy O n (nI 0)
  refine zf_any (Wq := fun n i => wY_isPlace_2 post x qn ec pn go K ly wd E U S py Py Z gy R A L F Ww Q fl pp qy O n i) (fun q => (S q = 1 ∨ S q = 2) ∧ L q = x) 5 ?_ ?_ ?_
  · intro h n; exact br_t (nI_le (a := 5) (b := 5) (by decide) (by decide)) (h0 h)
  · intro n i hi hh
    refine br_f (nI_ge (b := 5) hi (by decide)) (yr_isLive ?_ ?_)
    · exact fun _ => br_f (by decide) ⟨vp_in_nI hi (by decide), br_t ((zcl (by omega)).trans hh.2) (h1 ⟨i, hi, hh⟩)⟩
    · exact fun z => absurd ⟨i, hi, rfl, hh.1⟩ z
  · intro n i hi hh k
    refine br_f (nI_ge (b := 5) hi (by decide)) (yr_isLive ?_ ?_)
    · rintro ⟨q, hq, e, hl⟩
      have e2 := zi_inj (by omega) (by omega) e
      subst e2
      exact br_f (by decide) ⟨vp_in_nI hi (by decide), br_f (fun z => hh ⟨hl, (zcl (by omega)).symm.trans z⟩) (nm_r (nI_1 i) k)⟩
    · exact fun z => br_t rfl (nm_r (nI_1 i) k)
theorem yr_has {post : Int32 → Prop} {c : Nat} {D : Nat → Int32} (H : zr_OD dc D A) (hc : c ≤ 12) (h1 : zh_o dc c → post 1) (h0 : ¬ zh_o dc c → post 0) : wpY_has post (qn, ec, pn, go, K, ly, wd, E, U, S, py, Py, Z, gy, R, A, L, F, Ww, Q, fl, pp, qy, O) (nI (zyn c)) := by
  show ∃ n, wY_has_2 post (nI (zyn c)) qn ec pn go K ly wd E U S py Py Z gy R A L F Ww Q fl pp qy O n (nI 0)
  have hA : ∀ i, i < 20 → (A i = nI (zyn c) ↔ dc i = c) := by
    intro i hi
    obtain ⟨a, _, b⟩ := H i hi
    have b1 := zy_le a
    have b2 := zy_le hc
    rw [b]
    exact ⟨fun z => zy_inj _ a _ hc (zi_inj (by omega) (by omega) z), fun z => by rw [z]⟩
  refine zf_any (Wq := fun n i => wY_has_2 post (nI (zyn c)) qn ec pn go K ly wd E U S py Py Z gy R A L F Ww Q fl pp qy O n i) (fun k => dc k = c) 20 ?_ ?_ ?_
  · intro h n; exact br_t (nI_le (a := 20) (b := 20) (by decide) (by decide)) (h0 fun ⟨k, hk, e⟩ => h k hk e)
  · intro n i hi hh
    exact br_f (nI_ge (b := 20) hi (by decide)) ⟨vp_in_nI hi (by decide), br_t ((zcl (by omega)).trans ((hA i hi).mpr hh)) (h1 ⟨i, hi, hh⟩)⟩
  · intro n i hi hh k
    exact br_f (nI_ge (b := 20) hi (by decide)) ⟨vp_in_nI hi (by decide), br_f (fun z => hh ((hA i hi).mp ((zcl (by omega)).symm.trans z))) (nm_r (nI_1 i) k)⟩
theorem yr_newDescriptor {post : Int32 → Prop} {r : Int32} {p a : Nat} (hp5 : p < 5) (ha : a ≤ 4) (H : zf_F (fun d => a ≤ d ∧ A (4 * p + d) = 0) 4 r) (hp : post r) : wpY_newDescriptor post (qn, ec, pn, go, K, ly, wd, E, U, S, py, Py, Z, gy, R, A, L, F, Ww, Q, fl, pp, qy, O) (nI p) (nI a) := by
  show ∃ n, wY_newDescriptor_2 post (nI p) qn ec pn go K ly wd E U S py Py Z gy R A L F Ww Q fl pp qy O n (nI a)
  have ei : ∀ i, 4 * nI p + nI i = nI (4 * p + i) := fun i => by rw [zi_m4, nI_add]
  refine zf_scan (Wq := fun n i => wY_newDescriptor_2 post (nI p) qn ec pn go K ly wd E U S py Py Z gy R A L F Ww Q fl pp qy O n i) H a ha (fun j hj z => absurd z.1 (by omega)) ?_ ?_ ?_
  · intro e n; exact br_t (nI_le (a := 4) (b := 4) (by decide) (by decide)) (e ▸ hp)
  · intro n i _ hi hh e; refine br_f (nI_ge (b := 4) hi (by decide)) ?_
    rw [ei]
    exact ⟨vp_in_nI (by omega) (by decide), br_t ((zcl (by omega)).trans hh.2) (e ▸ hp)⟩
  · intro n i h0 hi hh k; refine br_f (nI_ge (b := 4) hi (by decide)) ?_
    rw [ei]
    exact ⟨vp_in_nI (by omega) (by decide), br_f (fun z => hh ⟨h0, (zcl (by omega)).symm.trans z⟩) (nm_r (nI_1 i) k)⟩
theorem yr_smallestOpening {post : Int32 → Prop} {r : Int32} {D : Nat → Int32} (HD : zr_OD dc D A) (H : zf_F (fun o => ¬ zh_o dc (1 + o)) 8 r) (hp : post r) : wpY_smallestOpening post (qn, ec, pn, go, K, ly, wd, E, U, S, py, Py, Z, gy, R, A, L, F, Ww, Q, fl, pp, qy, O) := by
  show ∃ n, wY_smallestOpening_2 post qn ec pn go K ly wd E U S py Py Z gy R A L F Ww Q fl pp qy O n (nI 0)
  have e1 : ∀ i, i < 8 → 1 + nI i = nI (zyn (1 + i)) := fun i hi => by rw [zi_1a, zy_o hi]
  refine zf_scan (Wq := fun n i => wY_smallestOpening_2 post qn ec pn go K ly wd E U S py Py Z gy R A L F Ww Q fl pp qy O n i) H 0 (by decide) (fun j hj => absurd hj (by omega)) ?_ ?_ ?_
  · intro e n; exact br_t (nI_le (a := 8) (b := 8) (by decide) (by decide)) (e ▸ hp)
  · intro n i _ hi hh e
    refine br_f (nI_ge (b := 8) hi (by decide)) ?_
    rw [e1 i hi]
    exact yr_has HD (by omega) (fun z => absurd z hh) (fun _ => br_t rfl (e ▸ hp))
  · intro n i _ hi hh k
    refine br_f (nI_ge (b := 8) hi (by decide)) ?_
    rw [e1 i hi]
    exact yr_has HD (by omega) (fun z => br_f (by decide) (nm_r (nI_1 i) k)) (fun z => absurd z hh)
theorem yr_endOf {post : Int32 → Prop} {p b c : Nat} {D : Nat → Int32} (hp5 : p < 5) (hb : b < 4) (H : zr_OD dc D A) (hc : za_c dc p (R (4 * p + b)) c) (hp : post (nI (zyn c))) : wpY_endOf post (qn, ec, pn, go, K, ly, wd, E, U, S, py, Py, Z, gy, R, A, L, F, Ww, Q, fl, pp, qy, O) (nI p) (nI b) := by
  have ei : ∀ i, 4 * nI p + nI i = nI (4 * p + i) := fun i => by rw [zi_m4, nI_add]
  refine ⟨by rw [ei]; exact vp_in_nI (by omega) (by decide), ?_⟩
  rw [ei, zcl (f := R) (by omega)]
  refine nm_e (yr_in0 (h := 3) (by decide) ?_ ?_)
  · rintro ⟨j, hj, e⟩
    rw [e, ei]
    refine br_f (by decide) ⟨vp_in_nI (by omega) (by decide), ?_⟩
    rw [zcl (f := A) (by omega), (H (4 * p + j) (by omega)).2.2]
    rcases hc with ⟨j', hj', e', ec⟩ | ⟨hz, _⟩
    · have := zi_inj (by omega) (by omega) (e.symm.trans e')
      subst this
      rw [← ec]; exact hp
    · exact absurd ⟨j, hj, e⟩ hz
  · intro z
    rcases hc with ⟨j', hj', e', ec⟩ | ⟨_, ec⟩
    · exact absurd ⟨j', hj', e'⟩ z
    · subst ec; exact br_t rfl hp
end
end
section
/-! the reference: ended children, waits -/
def ze_P (S py : Nat → Int32) (p : Int32) (i : Nat) (f : Int32) : Prop :=
  (∃ c, i ≤ c ∧ c < 5 ∧ (S c = 3 ∧ py c = p) ∧ f = nI c ∧ ∀ c', i ≤ c' → c' < c → ¬ (S c' = 3 ∧ py c' = p)) ∨
  ((∀ c, i ≤ c → c < 5 → ¬ (S c = 3 ∧ py c = p)) ∧ (((∃ c, i ≤ c ∧ c < 5 ∧ S c ≠ 0 ∧ py c = p) ∧ f = -1) ∨ ((∀ c, i ≤ c → c < 5 → ¬ (S c ≠ 0 ∧ py c = p)) ∧ f = -2)))
theorem ze_no {S py : Nat → Int32} {p f : Int32} {i : Nat} (H : ze_P S py p (i + 1) f) (h : ¬ (S i ≠ 0 ∧ py i = p)) : ze_P S py p i f := by
  have h3 : ¬ (S i = 3 ∧ py i = p) := fun z => h ⟨by rw [z.1]; decide, z.2⟩
  have up : ∀ c, i ≤ c → c = i ∨ i + 1 ≤ c := fun c hc => by omega
  rcases H with ⟨c, h1, h2, h4, h5, h6⟩ | ⟨h1, h2⟩
  · refine Or.inl ⟨c, by omega, h2, h4, h5, fun c' hc' hc2 => ?_⟩
    rcases up c' hc' with e | e
    · rw [e]; exact h3
    · exact h6 c' e hc2
  · refine Or.inr ⟨fun c hc hc2 => ?_, ?_⟩
    · rcases up c hc with e | e
      · rw [e]; exact h3
      · exact h1 c e hc2
    · rcases h2 with ⟨⟨c, a, b, d⟩, e⟩ | ⟨a, e⟩
      · exact Or.inl ⟨⟨c, by omega, b, d⟩, e⟩
      · refine Or.inr ⟨fun c hc hc2 => ?_, e⟩
        rcases up c hc with q | q
        · rw [q]; exact h
        · exact a c q hc2
theorem ze_en {S py : Nat → Int32} {p : Int32} {i : Nat} (hi : i < 5) (h : S i = 3 ∧ py i = p) : ze_P S py p i (nI i) := Or.inl ⟨i, Nat.le_refl _, hi, h, rfl, fun c' a b => by omega⟩
theorem ze_ch {S py : Nat → Int32} {p f : Int32} {i : Nat} (H : ze_P S py p (i + 1) f) (hi : i < 5) (h : S i ≠ 0 ∧ py i = p) (h3 : S i ≠ 3) : ze_P S py p i (if f = -2 then -1 else f) := by
  have up : ∀ c, i ≤ c → c = i ∨ i + 1 ≤ c := fun c hc => by omega
  rcases H with ⟨c, h1, h2, h4, h5, h6⟩ | ⟨h1, h2⟩
  · rw [if_neg (by rw [h5]; intro z; exact absurd (z ▸ nI_pos (n := c) (by omega)) (by decide))]
    refine Or.inl ⟨c, by omega, h2, h4, h5, fun c' hc' hc2 => ?_⟩
    rcases up c' hc' with e | e
    · rw [e]; exact fun z => h3 z.1
    · exact h6 c' e hc2
  · have hf : (if f = -2 then -1 else f) = -1 := by
      rcases h2 with ⟨_, e⟩ | ⟨_, e⟩
      · rw [e]; decide
      · rw [e]; decide
    rw [hf]
    refine Or.inr ⟨fun c hc hc2 => ?_, Or.inl ⟨⟨i, Nat.le_refl _, hi, h⟩, rfl⟩⟩
    rcases up c hc with e | e
    · rw [e]; exact fun z => h3 z.1
    · exact h1 c e hc2
theorem zy_pr : ∀ j, j < 2 → (nI (101 + j) - 101) &&& 1 = nI j ∧ nI (101 + j) + 100 = nI (201 + j) ∧ (nI (201 + j) - 201) &&& 1 = nI j ∧ nI (201 + j) - 100 = nI (101 + j) ∧ nI (101 + j) - 101 = nI j ∧ nI (201 + j) - 201 = nI j := by decide
section
variable {qn : Int32} {ec : Int64} {pn go : Int32} {K ly wd E U S py Py Z gy R A L F Ww Q fl pp qy O : Nat → Int32} {dc : Nat → Nat}
theorem yr_ec5 {post : Int32 → Prop} {p : Int32} (h : ∀ f, ze_P S py p 0 f → post f) : ∀ (i : Nat) (f : Int32), i ≤ 5 → ze_P S py p i f → wY_endedChild_5 post p qn ec pn go K ly wd E U S py Py Z gy R A L F Ww Q fl pp qy O (i + 1) f (nI i + (-1)) := by
  intro i
  induction i with
  | zero => intro f _ H; exact br_t (by decide) (h f H)
  | succ i ih =>
    intro f hi H
    rw [pk_m1]
    refine br_f (nI_pos (by omega)) ⟨vp_in_nI (by omega) (by decide), ?_⟩
    by_cases c0 : S i = 0
    · exact br_t ((zcl (by omega)).trans c0) (nm_e (ih f (by omega) (ze_no H (fun z => z.1 c0))))
    · refine br_f (fun z => c0 ((zcl (by omega)).symm.trans z)) ⟨vp_in_nI (by omega) (by decide), ?_⟩
      by_cases cp : py i = p
      · refine br_t ((zcl (by omega)).trans cp) ⟨vp_in_nI (by omega) (by decide), ?_⟩
        by_cases c3 : S i = 3
        · exact br_t ((zcl (by omega)).trans c3) (nm_e (ih _ (by omega) (ze_en (by omega) ⟨c3, cp⟩)))
        · refine br_f (fun z => c3 ((zcl (by omega)).symm.trans z)) ?_
          have := ze_ch H (by omega) ⟨c0, cp⟩ c3
          by_cases cf : f = -2
          · rw [if_pos cf] at this
            exact br_t cf (nm_e (ih _ (by omega) this))
          · rw [if_neg cf] at this
            exact br_f cf (nm_e (ih _ (by omega) this))
      · exact br_f (fun z => cp ((zcl (by omega)).symm.trans z)) (nm_e (ih f (by omega) (ze_no H (fun z => cp z.2))))
theorem yr_endedChild {post : Int32 → Prop} {p : Int32} (h : ∀ f, ze_P S py p 0 f → post f) : wpY_endedChild post (qn, ec, pn, go, K, ly, wd, E, U, S, py, Py, Z, gy, R, A, L, F, Ww, Q, fl, pp, qy, O) p :=
  ⟨6, yr_ec5 h 5 (-2) (by decide) (Or.inr ⟨fun c a b => by omega, Or.inr ⟨fun c a b => by omega, rfl⟩⟩)⟩
theorem yr_waits0 {post : Int32 → Prop} {p z : Nat} (hp5 : p < 5) (hz : z ≤ 20) (eZ : Z p = nI z) (hn : ¬ za_r z (Py p)) (h : post 0) : wpY_waits post (qn, ec, pn, go, K, ly, wd, E, U, S, py, Py, Z, gy, R, A, L, F, Ww, Q, fl, pp, qy, O) (nI p) := by
  refine ⟨vp_in_nI hp5 (by decide), vp_in_nI hp5 (by decide), ?_⟩
  rw [zcl (f := Py) (by omega), zcl (f := Z) (by omega), eZ]
  exact yr_inz (by omega) (fun q => absurd q hn) (fun _ => br_t rfl h)
theorem yr_waits {post : Int32 → Prop} {p z s b c : Nat} {w : Int32} {D : Nat → Int32} (hp5 : p < 5) (hz : z ≤ 20) (eZ : Z p = nI z) (eP : Py p = nI s) (hs : s < z) (hw : gy (20 * p + s) = w) (hb : (w >>> ((7 : Int32) &&& 31)) &&& 3 = nI b) (hb4 : b < 4)
    (H : zr_OD dc D A) (hc : za_c dc p (R (4 * p + b)) c) (hc12 : c ≤ 12) (h1 : zw_W S py dc fl p w c → post 1) (h0 : ¬ zw_W S py dc fl p w c → post 0) : wpY_waits post (qn, ec, pn, go, K, ly, wd, E, U, S, py, Py, Z, gy, R, A, L, F, Ww, Q, fl, pp, qy, O) (nI p) := by
  refine ⟨vp_in_nI hp5 (by decide), vp_in_nI hp5 (by decide), ?_⟩
  rw [zcl (f := Py) (by omega), zcl (f := Z) (by omega), eZ]
  refine yr_inz (by omega) (fun _ => br_f (by decide) ⟨vp_in_nI hp5 (by decide), ?_⟩) (fun q => absurd ⟨s, hs, eP⟩ q)
  rw [eP, zi_m20, nI_add]
  refine ⟨vp_in_nI (by omega) (by decide), nm_r (e' := w) ((zcl (by omega)).trans hw) (nm_e ?_)⟩
  rw [hb]
  refine yr_endOf hp5 hb4 H hc ?_
  by_cases o11 : w &&& 31 = 11
  · have n15 : ¬ w &&& 31 = 15 := by rw [o11]; decide
    have n16 : ¬ w &&& 31 = 16 := by rw [o11]; decide
    refine br_t o11 (yr_endedChild ?_)
    rintro f (⟨c', _, h2, h4, h5, _⟩ | ⟨g1, ⟨⟨c', a, b', d⟩, e⟩ | ⟨a, e⟩⟩)
    · refine br_f (by rw [h5]; exact zi_m1ne (by omega)) (h0 ?_)
      rintro (q | ⟨q, _⟩ | ⟨q, _⟩)
      · exact q.2.2 c' h2 h4
      · exact n15 q
      · exact n16 q
    · exact br_t e (h1 (Or.inl ⟨o11, ⟨c', b', d⟩, fun x hx => g1 x (by omega) hx⟩))
    · refine br_f (by rw [e]; decide) (h0 ?_)
      rintro (q | ⟨q, _⟩ | ⟨q, _⟩)
      · obtain ⟨x, hx, hx2⟩ := q.2.1
        exact a x (by omega) hx hx2
      · exact n15 q
      · exact n16 q
  · refine br_f o11 ?_
    have zb := zy_le hc12
    by_cases o15 : w &&& 31 = 15
    · have n16 : ¬ w &&& 31 = 16 := by rw [o15]; decide
      refine br_t o15 (yr_inN (v := zyn c) (a := 101) (b := 102) (by omega) (by decide) (by decide) ?_ ?_)
      · intro c1 c2
        refine br_f (by decide) ?_
        rcases zx_cs hc12 with e | ⟨o, ho, e⟩ | ⟨j, hj, e⟩ | ⟨j, hj, e⟩
        · subst e; rw [zy_0] at c1; omega
        · subst e; rw [zy_o ho] at c1; omega
        · subst e
          obtain ⟨e1, e2, e3, e4, _, _⟩ := zy_pr j hj
          rw [zy_r hj, e1, e2, zcl (f := fl) (by omega)]
          refine ⟨vp_in_nI hj (by decide), ?_⟩
          by_cases cf : fl j = 0
          · rw [← zy_w hj]
            refine br_t cf (yr_has H (by omega) (fun y => br_f (by decide) (h1 (Or.inr (Or.inl ⟨o15, j, hj, rfl, cf, y⟩)))) (fun y => br_t rfl (h0 ?_)))
            rintro (q | ⟨_, i, _, ei, _, q⟩ | ⟨q, _⟩)
            · exact o11 q.1
            · rw [show i = j by omega] at q; exact y q
            · exact n16 q
          · refine br_f cf (h0 ?_)
            rintro (q | ⟨_, i, _, ei, q, _⟩ | ⟨q, _⟩)
            · exact o11 q.1
            · rw [show i = j by omega] at q; exact cf q
            · exact n16 q
        · subst e; rw [zy_w hj] at c2; omega
      · intro cc
        refine br_t rfl (h0 ?_)
        rintro (q | ⟨_, i, hi, ei, _⟩ | ⟨q, _⟩)
        · exact o11 q.1
        · rw [ei, zy_r hi] at cc; omega
        · exact n16 q
    · refine br_f o15 ?_
      by_cases o16 : w &&& 31 = 16
      · refine br_t o16 (yr_inN (v := zyn c) (a := 201) (b := 202) (by omega) (by decide) (by decide) ?_ ?_)
        · intro c1 c2
          refine br_f (by decide) ?_
          rcases zx_cs hc12 with e | ⟨o, ho, e⟩ | ⟨j, hj, e⟩ | ⟨j, hj, e⟩
          · subst e; rw [zy_0] at c1; omega
          · subst e; rw [zy_o ho] at c1; omega
          · subst e; rw [zy_r hj] at c1; omega
          · subst e
            obtain ⟨e1, e2, e3, e4, _, _⟩ := zy_pr j hj
            rw [zy_w hj, e3, e4, zcl (f := fl) (by omega)]
            refine ⟨vp_in_nI hj (by decide), ?_⟩
            by_cases cf : fl j = 4
            · rw [← zy_r hj]
              refine br_t cf (yr_has H (by omega) (fun y => br_f (by decide) (h1 (Or.inr (Or.inr ⟨o16, j, hj, rfl, cf, y⟩)))) (fun y => br_t rfl (h0 ?_)))
              rintro (q | ⟨q, _⟩ | ⟨_, i, _, ei, _, q⟩)
              · exact o11 q.1
              · exact o15 q
              · rw [show i = j by omega] at q; exact y q
            · refine br_f cf (h0 ?_)
              rintro (q | ⟨q, _⟩ | ⟨_, i, _, ei, q, _⟩)
              · exact o11 q.1
              · exact o15 q
              · rw [show i = j by omega] at q; exact cf q
        · intro cc
          refine br_t rfl (h0 ?_)
          rintro (q | ⟨q, _⟩ | ⟨_, i, hi, ei, _⟩)
          · exact o11 q.1
          · exact o15 q
          · rw [ei, zy_w hi] at cc; omega
      · refine br_f o16 (h0 ?_)
        rintro (q | ⟨q, _⟩ | ⟨q, _⟩)
        · exact o11 q.1
        · exact o15 q
        · exact o16 q
end
end
section
/-! the reference: what its helpers store -/
section
variable {qn : Int32} {ec : Int64} {pn go : Int32} {K ly wd E U S py Py Z gy R A L F Ww Q fl pp qy O : Nat → Int32} {dc : Nat → Nat} {ql : List Nat}
theorem yo_fail {post : SY → Prop} {p : Nat} (hp : p < 5) (h : post (qn, ec, pn, go, K, ly, wd, E, U, S, py, Py, Z, gy, upd R (4 * p + 3) (-1), A, L, F, Ww, Q, fl, pp, qy, O)) : wpY_fail post (qn, ec, pn, go, K, ly, wd, E, U, S, py, Py, Z, gy, R, A, L, F, Ww, Q, fl, pp, qy, O) (nI p) := by
  have ei : 4 * nI p + 3 = nI (4 * p + 3) := by rw [zi_m4, zi_a3]
  refine ⟨by rw [ei]; exact vp_in_nI (by omega) (by decide), ?_⟩
  rw [ei, nI_clamp (by omega)]
  exact nm_e h
theorem yo_done {post : SY → Prop} {p : Nat} (hp : p < 5) (h : post (qn, ec, pn, go, K, ly, wd, E, U, S, py, Py, Z, gy, upd R (4 * p + 3) 1, A, L, F, Ww, Q, fl, pp, qy, O)) : wpY_done post (qn, ec, pn, go, K, ly, wd, E, U, S, py, Py, Z, gy, R, A, L, F, Ww, Q, fl, pp, qy, O) (nI p) := by
  have ei : 4 * nI p + 3 = nI (4 * p + 3) := by rw [zi_m4, zi_a3]
  refine ⟨by rw [ei]; exact vp_in_nI (by omega) (by decide), ?_⟩
  rw [ei, nI_clamp (by omega)]
  exact nm_e h
theorem yo_join {post : SY → Prop} {p : Nat} (hp : p < 5) (eq : qn = nI ql.length) (hl : ql.length ≤ 5) (h : post (nI (ql.length + 1), ec, pn, go, K, ly, wd, E, U, upd S p 1, py, Py, Z, gy, R, A, L, F, Ww, Q, fl, pp, upd qy ql.length (nI p), O)) : wpY_join post (qn, ec, pn, go, K, ly, wd, E, U, S, py, Py, Z, gy, R, A, L, F, Ww, Q, fl, pp, qy, O) (nI p) := by
  refine ⟨vp_in_nI hp (by decide), ?_⟩
  rw [eq, nI_clamp (n := p) (by omega), nI_clamp (n := ql.length) (by omega), nI_1]
  exact nm_e ⟨vp_in_nI (by omega) (by decide), nm_e (nm_e h)⟩
theorem yo_leave4 {p : Nat} (hp : p < 5) : ∀ (l2 l1 : List Nat) (qy : Nat → Int32), (∀ q, q ∈ l2 → q < 5) → qn = nI (l1.length + l2.length) → l1.length + l2.length ≤ 5 → (zq_r p l1).length ≤ l1.length → zq_y qy 0 (zq_r p l1) → zq_y qy l1.length l2 →
    ∃ qy' : Nat → Int32, zq_y qy' 0 (zq_r p l1 ++ zq_r p l2) ∧ ∀ post : SY → Prop, post (nI (zq_r p l1 ++ zq_r p l2).length, ec, pn, go, K, ly, wd, E, U, S, py, Py, Z, gy, R, A, L, F, Ww, Q, fl, pp, qy', O) → wY_leave_4 post (nI p) qn ec pn go (l2.length + 1) (nI (zq_r p l1).length) (nI l1.length) K ly wd E U S py Py Z gy R A L F Ww Q fl pp qy O
  | [], l1, qy, _, eq, _, _, h1, _ => by
    rw [show zq_r p [] = [] from rfl, List.append_nil]
    refine ⟨qy, h1, fun post h => br_t ?_ h⟩
    rw [eq]; exact nI_le (Nat.le_refl _) (by have : ([] : List Nat).length = 0 := rfl; omega)
  | q :: t, l1, qy, h5, eq, hl, hr, h1, h2 => by
    have hlen : (q :: t).length = t.length + 1 := rfl
    have hq5 := h5 q List.mem_cons_self
    have ht5 : ∀ x, x ∈ t → x < 5 := fun x hx => h5 x (List.mem_cons_of_mem _ hx)
    have hl1 : (l1 ++ [q]).length = l1.length + 1 := by simp
    have zra : zq_r p (l1 ++ [q]) = zq_r p l1 ++ zq_r p [q] := by
      clear h1 h2 hr hl eq hlen hl1
      induction l1 with
      | nil => rfl
      | cons a l ih =>
        show zq_r p (a :: (l ++ [q])) = zq_r p (a :: l) ++ zq_r p [q]
        by_cases c : a = p
        · rw [zq_r, zq_r, if_pos c, if_pos c]; exact ih
        · rw [zq_r, zq_r, if_neg c, if_neg c, ih]; rfl
    by_cases c : q = p
    · have z1 : zq_r p [q] = [] := by rw [zq_r, if_pos c]; rfl
      have z2 : zq_r p (q :: t) = zq_r p t := by rw [zq_r, if_pos c]
      rw [z1, List.append_nil] at zra
      obtain ⟨qy', g1, gX⟩ := yo_leave4 hp t (l1 ++ [q]) qy ht5 (by rw [eq, hl1, hlen]; exact congrArg nI (by omega)) (by omega) (by rw [zra]; omega) (by rw [zra]; exact h1) (by rw [hl1]; exact h2.2)
      rw [zra] at g1 gX
      rw [z2]
      refine ⟨qy', g1, fun post h => ?_⟩
      have := gX post h
      rw [hl1] at this
      refine br_f (by rw [eq]; exact nI_ge (by omega) (by omega)) ⟨vp_in_nI (by omega) (by decide), br_t ?_ (nm_r (nI_1 _) this)⟩
      rw [zcl (f := qy) (by omega), h2.1, c]
    · have z1 : zq_r p [q] = [q] := by rw [zq_r, if_neg c]; rfl
      have z2 : zq_r p (q :: t) = q :: zq_r p t := by rw [zq_r, if_neg c]
      rw [z1] at zra
      have hl2 : (zq_r p l1 ++ [q]).length = (zq_r p l1).length + 1 := by simp
      obtain ⟨qy', g1, gX⟩ := yo_leave4 hp t (l1 ++ [q]) (upd qy (zq_r p l1).length (nI q)) ht5 (by rw [eq, hl1, hlen]; exact congrArg nI (by omega)) (by omega) (by rw [zra, hl1, hl2]; omega)
        (by rw [zra, zq_ya]; exact ⟨zq_yu (Or.inr (by omega)) h1, by rw [Nat.zero_add]; exact pk_us, trivial⟩) (by rw [hl1]; exact zq_yu (Or.inl (by omega)) h2.2)
      rw [zra] at g1 gX
      have e3 : zq_r p l1 ++ [q] ++ zq_r p t = zq_r p l1 ++ q :: zq_r p t := by rw [List.append_assoc]; rfl
      rw [e3] at g1 gX
      rw [z2]
      refine ⟨qy', g1, fun post h => ?_⟩
      have := gX post h
      rw [hl1, hl2] at this
      refine br_f (by rw [eq]; exact nI_ge (by omega) (by omega)) ⟨vp_in_nI (by omega) (by decide), br_f ?_ ⟨vp_in_nI (by omega) (by decide), vp_in_nI (by omega) (by decide), ?_⟩⟩
      · rw [zcl (f := qy) (by omega), h2.1]
        exact fun z => c (zi_inj (by omega) (by omega) z)
      · rw [zcl (f := qy) (by omega), h2.1, nI_clamp (by omega)]
        exact nm_e (nm_r (nI_1 _) (nm_r (nI_1 _) this))
theorem yo_leave {p : Nat} (hp : p < 5) (h5 : ∀ q, q ∈ ql → q < 5) (hl : ql.length ≤ 5) (eq : qn = nI ql.length) (h : zq_y qy 0 ql) :
    ∃ qy' : Nat → Int32, zq_y qy' 0 (zq_r p ql) ∧ ∀ post : SY → Prop, post (nI (zq_r p ql).length, ec, pn, go, K, ly, wd, E, U, S, py, Py, Z, gy, R, A, L, F, Ww, Q, fl, pp, qy', O) → wpY_leave post (qn, ec, pn, go, K, ly, wd, E, U, S, py, Py, Z, gy, R, A, L, F, Ww, Q, fl, pp, qy, O) (nI p) := by
  obtain ⟨qy', g1, gX⟩ := yo_leave4 (qn := qn) (ec := ec) (pn := pn) (go := go) (K := K) (ly := ly) (wd := wd) (E := E) (U := U) (S := S) (py := py) (Py := Py) (Z := Z) (gy := gy) (R := R) (A := A) (L := L) (F := F) (Ww := Ww) (Q := Q) (fl := fl) (pp := pp) (O := O) hp ql [] qy h5 (by rw [eq]; exact congrArg nI (by simp)) (by simpa using hl) (by simp [zq_r]) trivial h
  exact ⟨qy', g1, fun post h => ⟨ql.length + 1, gX post h⟩⟩
theorem yo_load14 {p n : Nat} (hp : p < 5) (hn : n < 10) : ∀ (t i : Nat) (gy : Nat → Int32), i + t = 20 → ∃ gy' : Nat → Int32, (∀ k, i ≤ k → k < 20 → gy' (20 * p + k) = wd (20 * n + k)) ∧ (∀ j, ¬ (20 * p + i ≤ j ∧ j < 20 * p + 20) → gy' j = gy j) ∧
    ∀ post : SY → Prop, post (qn, ec, pn, go, K, ly, wd, E, U, S, py, upd Py p 0, Z, gy', R, A, L, F, Ww, Q, fl, pp, qy, O) → wY_load_14 post (nI p) (nI n) qn ec pn go (t + 1) (nI i) K ly wd E U S py Py Z gy R A L F Ww Q fl pp qy O := by
  intro t
  induction t with
  | zero =>
    intro i gy hi
    have e : i = 20 := by omega
    subst e
    refine ⟨gy, fun k a b => by omega, fun _ _ => rfl, fun post h => br_t (nI_le (a := 20) (b := 20) (by decide) (by decide)) ⟨vp_in_nI hp (by decide), ?_⟩⟩
    rw [nI_clamp (by omega)]
    exact nm_e h
  | succ t ih =>
    intro i gy hi
    obtain ⟨gy', g1, g2, gX⟩ := ih (i + 1) (upd gy (20 * p + i) (wd (20 * n + i))) (by omega)
    refine ⟨gy', fun k a b => ?_, fun j hj => ?_, fun post h => ?_⟩
    · by_cases c : k = i
      · subst c; rw [g2 _ (by omega), pk_us]
      · exact g1 k (by omega) b
    · rw [g2 j (by omega), pk_un (by omega)]
    · refine br_f (nI_ge (b := 20) (by omega) (by decide)) ?_
      rw [zi_m20, zi_m20, nI_add, nI_add, zcl (f := wd) (by omega), nI_clamp (by omega)]
      exact ⟨vp_in_nI (by omega) (by decide), vp_in_nI (by omega) (by decide), nm_e (nm_r (nI_1 i) (gX post h))⟩
theorem yo_load {p n : Nat} (hp : p < 5) (hn : n < 10) : ∃ gy' : Nat → Int32, (∀ k, k < 20 → gy' (20 * p + k) = wd (20 * n + k)) ∧ (∀ j, ¬ (20 * p ≤ j ∧ j < 20 * p + 20) → gy' j = gy j) ∧
    ∀ post : SY → Prop, post (qn, ec, pn, go, K, ly, wd, E, U, S, py, upd Py p 0, upd Z p (ly n), gy', R, A, L, F, Ww, Q, fl, pp, qy, O) → wpY_load post (qn, ec, pn, go, K, ly, wd, E, U, S, py, Py, Z, gy, R, A, L, F, Ww, Q, fl, pp, qy, O) (nI p) (nI n) := by
  obtain ⟨gy', g1, g2, gX⟩ := yo_load14 (qn := qn) (ec := ec) (pn := pn) (go := go) (K := K) (ly := ly) (wd := wd) (E := E) (U := U) (S := S) (py := py) (Py := Py) (Z := upd Z p (ly n)) (R := R) (A := A) (L := L) (F := F) (Ww := Ww) (Q := Q) (fl := fl) (pp := pp) (qy := qy) (O := O) hp hn 20 0 gy (by decide)
  refine ⟨gy', fun k hk => g1 k (by omega) hk, g2, fun post h => ⟨vp_in_nI hn (by decide), vp_in_nI hp (by decide), ?_⟩⟩
  rw [zcl (f := ly) (by omega), nI_clamp (by omega)]
  exact nm_e ⟨21, gX post h⟩
theorem yo_en37 {post : Int32 → SY → Prop} {d m n : Nat} (hd : d < 10) (hm : m < 15) (hn : n < 10) (hE : ∀ k, k < 15 → E (15 * n + k) = -1) (h : post (nI n) (qn, ec, pn, go, K, ly, wd, upd E (15 * d + m) (nI n), U, S, py, Py, Z, gy, R, A, L, F, Ww, Q, fl, pp, qy, O)) : ∀ t i, i + t = 15 → wY_enterNew_37 post (nI d) (nI m) (nI n) qn ec pn go (t + 1) (nI (15 * n + i)) K ly wd E U S py Py Z gy R A L F Ww Q fl pp qy O := by
  have e15 : 15 * nI n + 15 = nI (15 * n + 15) := by rw [zi_m15, zi_a15]
  intro t
  induction t with
  | zero =>
    intro i hi
    refine br_t (by rw [e15]; exact nI_le (by omega) (by omega)) ?_
    rw [zi_m15, nI_add, nI_clamp (by omega)]
    exact ⟨vp_in_nI (by omega) (by decide), nm_e h⟩
  | succ t ih =>
    intro i hi
    refine br_f (by rw [e15]; exact nI_ge (by omega) (by omega)) ⟨vp_in_nI (by omega) (by decide), ?_⟩
    rw [nI_clamp (by omega), zi_uid (hE i (by omega))]
    exact nm_e (nm_r (e' := nI (15 * n + (i + 1))) (nI_1 _) (ih (i + 1) (by omega)))
theorem yo_enterNew {post : Int32 → SY → Prop} {d m n : Nat} {kd : Int32} (hd : d < 10) (hm : m < 15) (hn : n < 10) (hr : zf_F (fun n => K n = 0) 10 (nI n)) (hE : ∀ k, k < 15 → E (15 * n + k) = -1)
    (h : post (nI n) (qn, ec, pn, go, upd K n kd, upd ly n 0, wd, upd E (15 * d + m) (nI n), upd U n (nI d), S, py, Py, Z, gy, R, A, L, F, Ww, Q, fl, pp, qy, O)) : wpY_enterNew post (qn, ec, pn, go, K, ly, wd, E, U, S, py, Py, Z, gy, R, A, L, F, Ww, Q, fl, pp, qy, O) (nI d) (nI m) kd := by
  unfold wpY_enterNew
  refine yr_smallestNode hr ⟨vp_in_nI hn (by decide), ?_⟩
  rw [nI_clamp (by omega)]
  refine nm_e ⟨vp_in_nI hn (by decide), nm_e ⟨vp_in_nI hn (by decide), nm_e (nm_r (e' := nI (15 * n + 0)) (zi_m15 n) ⟨16, ?_⟩)⟩⟩
  exact yo_en37 hd hm hn hE h 15 0 (by decide)
theorem yo_sizeOf {post : Int32 → Prop} {n : Nat} (hn : n < 10) (H3 : zr_K3 K U E) (h1 : K n = 1 → post (ly n)) (h2 : K n ≠ 1 → post (nI (zc (fun m => E (15 * n + m) ≠ -1) 15))) : wpY_sizeOf post (qn, ec, pn, go, K, ly, wd, E, U, S, py, Py, Z, gy, R, A, L, F, Ww, Q, fl, pp, qy, O) (nI n) := by
  refine br_t (nI_pos' (by omega)) ⟨vp_in_nI hn (by decide), ?_⟩
  rw [zcl (f := K) (by omega), zcl (f := ly) (by omega)]
  by_cases c : K n = 1
  · exact br_t c ⟨vp_in_nI hn (by decide), h1 c⟩
  · exact br_f c (yr_entriesOf hn H3 (h2 c))
theorem yo_cl66 {post : SY → Prop} {J : Int32 → (Nat → Int32) → (Nat → Int32) → (Nat → Int32) → (Nat → Int32) → (Nat → Int32) → (Nat → Int32) → (Nat → Int32) → (Nat → Int32) → (Nat → Int32) → (Nat → Int32) → (Nat → Int32) → (Nat → Int32) → (Nat → Int32) → (Nat → Int32) → (Nat → Int32) → (Nat → Int32) → (Nat → Int32) → (Nat → Int32) → (Nat → Int32) → (Nat → Int32) → Prop}
    {i : Nat} {D : Nat → Int32} (hi : i < 10) (HD : zr_OD dc D A) :
    ∀ (t o : Nat) (f : Int32), o + t = 8 → (f = 0 ∨ f = 1) → ∃ f' : Int32, (f' = 1 ∧ (f = 1 ∨ ∃ o', o ≤ o' ∧ o' < 8 ∧ F o' = nI i ∧ zh_o dc (1 + o')) ∨ f' = 0 ∧ f = 0 ∧ ∀ o', o ≤ o' → o' < 8 → ¬ (F o' = nI i ∧ zh_o dc (1 + o'))) ∧
      ((f' = 1 → J (nI (i + 1)) K ly wd E U S py Py Z gy R A L F Ww Q fl pp qy O) → (f' = 0 → J (nI (i + 1)) (upd K i 0) ly wd E U S py Py Z gy R A L F Ww Q fl pp qy O) → wY_clean_66 post J (nI i) qn ec pn go K ly wd E U S py Py Z gy R A L F Ww Q fl pp qy O (t + 1) f (nI o)) := by
  intro t
  induction t with
  | zero =>
    intro o f ho hf
    have e : o = 8 := by omega
    subst e
    refine ⟨f, ?_, fun g1 g0 => br_t (nI_le (a := 8) (b := 8) (by decide) (by decide)) ?_⟩
    · rcases hf with e | e
      · exact Or.inr ⟨e, e, fun o' a b => by omega⟩
      · exact Or.inl ⟨e, Or.inl e⟩
    · rcases hf with e | e
      · refine br_t e ⟨vp_in_nI hi (by decide), ?_⟩
        rw [nI_clamp (by omega)]
        exact nm_e (nm_r (nI_1 i) (g0 e))
      · exact br_f (by rw [e]; decide) (nm_r (nI_1 i) (g1 e))
  | succ t ih =>
    intro o f ho hf
    have e1 : 1 + nI o = nI (zyn (1 + o)) := by rw [zi_1a, zy_o (by omega)]
    have up : ∀ c, o ≤ c → c = o ∨ o + 1 ≤ c := fun c hc => by omega
    by_cases c : F o = nI i ∧ zh_o dc (1 + o)
    · obtain ⟨f', a, b⟩ := ih (o + 1) 1 (by omega) (Or.inr rfl)
      refine ⟨f', ?_, fun g1 g0 => ?_⟩
      · rcases a with ⟨x, _⟩ | ⟨_, x, _⟩
        · exact Or.inl ⟨x, Or.inr ⟨o, Nat.le_refl _, by omega, c⟩⟩
        · exact absurd x (by decide)
      · refine br_f (nI_ge (b := 8) (by omega) (by decide)) ⟨vp_in_nI (by omega) (by decide), br_t ((zcl (by omega)).trans c.1) ?_⟩
        rw [e1]
        exact yr_has HD (by omega) (fun _ => br_f (by decide) (nm_r (nI_1 o) (b g1 g0))) (fun z => absurd c.2 z)
    · obtain ⟨f', a, b⟩ := ih (o + 1) f (by omega) hf
      refine ⟨f', ?_, fun g1 g0 => ?_⟩
      · rcases a with ⟨x, y⟩ | ⟨x, y, z⟩
        · refine Or.inl ⟨x, ?_⟩
          rcases y with y | ⟨o', p1, p2, p3⟩
          · exact Or.inl y
          · exact Or.inr ⟨o', by omega, p2, p3⟩
        · refine Or.inr ⟨x, y, fun o' p1 p2 => ?_⟩
          rcases up o' p1 with q | q
          · rw [q]; exact c
          · exact z o' q p2
      · refine br_f (nI_ge (b := 8) (by omega) (by decide)) ⟨vp_in_nI (by omega) (by decide), ?_⟩
        by_cases cf : F o = nI i
        · refine br_t ((zcl (by omega)).trans cf) ?_
          rw [e1]
          exact yr_has HD (by omega) (fun z => absurd ⟨cf, z⟩ c) (fun _ => br_t rfl (nm_r (nI_1 o) (b g1 g0)))
        · exact br_f (fun z => cf ((zcl (by omega)).symm.trans z)) (nm_r (nI_1 o) (b g1 g0))
theorem yo_cl26 {post : SY → Prop} {J : Int32 → (Nat → Int32) → (Nat → Int32) → (Nat → Int32) → (Nat → Int32) → (Nat → Int32) → (Nat → Int32) → (Nat → Int32) → (Nat → Int32) → (Nat → Int32) → (Nat → Int32) → (Nat → Int32) → (Nat → Int32) → (Nat → Int32) → (Nat → Int32) → (Nat → Int32) → (Nat → Int32) → (Nat → Int32) → (Nat → Int32) → (Nat → Int32) → (Nat → Int32) → Prop} {i : Nat} {D : Nat → Int32} (hi : i < 10) (hE : ∀ k, k < 150 → E k = nI i → K (k / 15) = 2) :
    ∀ (t k : Nat) (f : Int32), k + t = 150 → (f = 0 ∨ f = 1) → ∃ f' : Int32, (f' = 1 ∧ (f = 1 ∨ ∃ k', k ≤ k' ∧ k' < 150 ∧ E k' = nI i) ∨ f' = 0 ∧ f = 0 ∧ ∀ k', k ≤ k' → k' < 150 → ¬ E k' = nI i) ∧
      ((∃ n, wY_clean_66 post J (nI i) qn ec pn go K ly wd E U S py Py Z gy R A L F Ww Q fl pp qy O n f' 0) → wY_clean_26 post J (nI i) qn ec pn go K ly wd E U S py Py Z gy R A L F Ww Q fl pp qy O (t + 1) f (nI k)) := by
  intro t
  induction t with
  | zero =>
    intro k f hk hf
    have e : k = 150 := by omega
    subst e
    refine ⟨f, ?_, fun g => br_t (nI_le (a := 150) (b := 150) (by decide) (by decide)) g⟩
    rcases hf with e | e
    · exact Or.inr ⟨e, e, fun o' a b => by omega⟩
    · exact Or.inl ⟨e, Or.inl e⟩
  | succ t ih =>
    intro k f hk hf
    have up : ∀ c, k ≤ c → c = k ∨ k + 1 ≤ c := fun c hc => by omega
    by_cases c : E k = nI i
    · obtain ⟨f', a, b⟩ := ih (k + 1) 1 (by omega) (Or.inr rfl)
      refine ⟨f', ?_, fun g => ?_⟩
      · rcases a with ⟨x, _⟩ | ⟨_, x, _⟩
        · exact Or.inl ⟨x, Or.inr ⟨k, Nat.le_refl _, by omega, c⟩⟩
        · exact absurd x (by decide)
      · refine br_f (nI_ge (b := 150) (by omega) (by decide)) ⟨vp_in_nI (by omega) (by decide), br_t ((zcl (by omega)).trans c) ⟨by decide, ?_⟩⟩
        rw [show nI k / 15 = nI (k / 15) from pk_div (d := 15) (by omega) (by decide) (by decide)]
        exact ⟨vp_in_nI (by omega) (by decide), br_t ((zcl (by omega)).trans (hE k (by omega) c)) (nm_r (nI_1 k) (b g))⟩
    · obtain ⟨f', a, b⟩ := ih (k + 1) f (by omega) hf
      refine ⟨f', ?_, fun g => br_f (nI_ge (b := 150) (by omega) (by decide)) ⟨vp_in_nI (by omega) (by decide), br_f (fun z => c ((zcl (by omega)).symm.trans z)) (nm_r (nI_1 k) (b g))⟩⟩
      rcases a with ⟨x, y⟩ | ⟨x, y, z⟩
      · refine Or.inl ⟨x, ?_⟩
        rcases y with y | ⟨o', p1, p2, p3⟩
        · exact Or.inl y
        · exact Or.inr ⟨o', by omega, p2, p3⟩
      · refine Or.inr ⟨x, y, fun o' p1 p2 => ?_⟩
        rcases up o' p1 with q | q
        · rw [q]; exact c
        · exact z o' q p2
theorem yo_cl2 {post : SY → Prop} {D K0 : Nat → Int32} (HD : zr_OD dc D A) (H3 : zr_K3 K0 U E) (h : post (qn, ec, pn, go, zk_c dc E F K0, ly, wd, E, U, S, py, Py, Z, gy, R, A, L, F, Ww, Q, fl, pp, qy, O)) :
    ∀ (t i : Nat) (K : Nat → Int32), 1 ≤ i → i + t = 10 → (∀ n, K n = if n < i then zk_c dc E F K0 n else K0 n) → (∀ n, n < 1 → K0 n ≠ 1) → wY_clean_2 post qn ec pn go (t + 1) (nI i) K ly wd E U S py Py Z gy R A L F Ww Q fl pp qy O := by
  intro t
  induction t with
  | zero =>
    intro i K h1 hi hK _
    have e : i = 10 := by omega
    subst e
    have eK : K = zk_c dc E F K0 := by
      funext n
      rw [hK n]
      by_cases c : n < 10
      · rw [if_pos c]
      · rw [if_neg c]; exact (zk_f (fun z => c z.1)).symm
    rw [eK]
    exact br_t (nI_le (a := 10) (b := 10) (by decide) (by decide)) h
  | succ t ih =>
    intro i K h1 hi hK h00
    have eKi : K i = K0 i := by rw [hK i, if_neg (by omega)]
    have e2 : ∀ n, K0 n = 2 → K n = 2 := by
      intro n h2
      rw [hK n]
      by_cases c : n < i
      · rw [if_pos c, zk_f (fun z => by rw [h2] at z; exact absurd z.2.1 (by decide))]; exact h2
      · rw [if_neg c]; exact h2
    have hE : ∀ k, k < 150 → E k = nI i → K (k / 15) = 2 := by
      intro k hk e
      rcases H3 k hk with q | ⟨x, _, _, _, _, q, _⟩
      · exact absurd (e.symm.trans q) (zi_m1ne (by omega))
      · exact e2 _ q
    refine br_f (nI_ge (b := 10) (by omega) (by decide)) ⟨vp_in_nI (by omega) (by decide), ?_⟩
    have step : ∀ f0 : Int32, (f0 = 0 ∧ K0 i = 1 ∨ f0 = 1 ∧ K0 i ≠ 1) → wY_clean_26 post (wY_clean_2 post qn ec pn go (t + 1)) (nI i) qn ec pn go K ly wd E U S py Py Z gy R A L F Ww Q fl pp qy O 151 f0 (nI 0) := by
      intro f0 hf0
      obtain ⟨f1, a1, b1⟩ := yo_cl26 (qn := qn) (ec := ec) (pn := pn) (go := go) (K := K) (ly := ly) (wd := wd) (E := E) (U := U) (S := S) (py := py) (Py := Py) (Z := Z) (gy := gy) (R := R) (A := A) (L := L) (F := F) (Ww := Ww) (Q := Q) (fl := fl) (pp := pp) (qy := qy) (O := O) (post := post) (J := wY_clean_2 post qn ec pn go (t + 1)) (D := D) (i := i) (by omega) hE 150 0 f0 (by decide) (hf0.elim (fun z => Or.inl z.1) (fun z => Or.inr z.1))
      obtain ⟨f2, a2, b2⟩ := yo_cl66 (qn := qn) (ec := ec) (pn := pn) (go := go) (K := K) (ly := ly) (wd := wd) (E := E) (U := U) (S := S) (py := py) (Py := Py) (Z := Z) (gy := gy) (R := R) (A := A) (L := L) (F := F) (Ww := Ww) (Q := Q) (fl := fl) (pp := pp) (qy := qy) (O := O) (post := post) (J := wY_clean_2 post qn ec pn go (t + 1)) (dc := dc) (D := D) (i := i) (by omega) HD 8 0 f1 (by decide) (a1.elim (fun z => Or.inr z.1) (fun z => Or.inl z.1))
      refine b1 ⟨9, b2 (fun e => ?_) (fun e => ?_)⟩
      · refine ih (i + 1) K (by omega) (by omega) (fun n => ?_) h00
        by_cases c : n = i
        · subst c
          rw [if_pos (by omega), eKi]
          refine (zk_f fun z => ?_).symm
          rcases a2 with ⟨_, q | ⟨o', _, p2, p3⟩⟩ | ⟨q, _⟩
          · rcases a1 with ⟨_, r | ⟨k', _, p2, p3⟩⟩ | ⟨r, _⟩
            · rcases hf0 with s | s
              · rw [s.1] at r; exact absurd r (by decide)
              · exact s.2 z.2.1
            · exact z.2.2.1 ⟨k', p2, p3⟩
            · rw [q] at r; exact absurd r (by decide)
          · exact z.2.2.2 ⟨o', p2, p3⟩
          · rw [e] at q; exact absurd q (by decide)
        · rw [hK n]
          by_cases c2 : n < i
          · rw [if_pos c2, if_pos (by omega)]
          · rw [if_neg c2, if_neg (by omega)]
      · refine ih (i + 1) (upd K i 0) (by omega) (by omega) (fun n => ?_) h00
        by_cases c : n = i
        · subst c
          rw [pk_us, if_pos (by omega)]
          rcases a2 with ⟨q, _⟩ | ⟨_, q, q2⟩
          · rw [e] at q; exact absurd q (by decide)
          · rcases a1 with ⟨r, _⟩ | ⟨_, r, r2⟩
            · rw [r] at q; exact absurd q (by decide)
            · rcases hf0 with s | s
              · exact (zk_t (by omega) s.2 (fun ⟨k', p2, p3⟩ => r2 k' (by omega) p2 p3) (fun ⟨o', p2, p3⟩ => q2 o' (by omega) p2 p3)).symm
              · rw [r] at s; exact absurd s.1 (by decide)
        · rw [pk_un c, hK n]
          by_cases c2 : n < i
          · rw [if_pos c2, if_pos (by omega)]
          · rw [if_neg c2, if_neg (by omega)]
    by_cases c : K0 i = 1
    · exact br_t ((zcl (by omega)).trans (eKi.trans c)) ⟨151, step 0 (Or.inl ⟨rfl, c⟩)⟩
    · exact br_f (fun z => c (eKi.symm.trans ((zcl (by omega)).symm.trans z))) ⟨151, step 1 (Or.inr ⟨rfl, c⟩)⟩
theorem yo_clean {post : SY → Prop} {D : Nat → Int32} (HD : zr_OD dc D A) (H3 : zr_K3 K U E) (h0 : K 0 = 2) (h : post (qn, ec, pn, go, zk_c dc E F K, ly, wd, E, U, S, py, Py, Z, gy, R, A, L, F, Ww, Q, fl, pp, qy, O)) : wpY_clean post (qn, ec, pn, go, K, ly, wd, E, U, S, py, Py, Z, gy, R, A, L, F, Ww, Q, fl, pp, qy, O) := by
  refine ⟨10, yo_cl2 HD H3 h 9 1 K (by decide) (by decide) (fun n => ?_) (fun n hn => by rw [show n = 0 by omega, h0]; decide)⟩
  by_cases c : n < 1
  · rw [if_pos c, show n = 0 by omega]
    exact (zk_f (fun z => by rw [h0] at z; exact absurd z.2.1 (by decide))).symm
  · rw [if_neg c]
end
end
section
/-! the relation on whole states; the first rows of an instruction -/
/-- related states, cur at work -/
def zz_R (B : Nat) (cur : Nat) (u : SX) (v : SY) : Prop := ∃ (C : Nat → Int32) (ln bl dc : Nat → Nat) (ql : List Nat) (fu : Int64) (nk lv qa qz : Int32) (ec : Int64) (pn : Int32) (st kb ch kw K lx bo lk oc eN eV U F Ww Q os ps pc pw rd wr S pr P Z gx R L D bh O : Nat → Int32) (qn go : Int32) (ly wd E py gy A fl pp qy : Nat → Int32),
  u = (fu, nk, lv, qa, qz, ec, pn, st, kb, ch, kw, K, lx, bo, lk, oc, eN, eV, U, F, Ww, Q, os, ps, pc, pw, rd, wr, S, pr, P, Z, gx, R, L, D, bh, O) ∧ v = (qn, ec, pn, go, K, ly, wd, E, U, S, py, P, Z, gy, R, A, L, F, Ww, Q, fl, pp, qy, O) ∧ zz_I B cur C ln bl dc ql fu nk lv qa qz pn st kb ch kw K lx bo lk oc eN eV U F Q os ps pc pw rd wr S pr P Z gx L D bh qn ly wd E py gy A fl pp qy
theorem zz_mk {B cur : Nat} {C : Nat → Int32} {ln bl dc : Nat → Nat} {ql : List Nat} {fu : Int64} {nk lv qa qz : Int32} {ec : Int64} {pn : Int32} {st kb ch kw K lx bo lk oc eN eV U F Ww Q os ps pc pw rd wr S pr P Z gx R L D bh O : Nat → Int32} {qn go : Int32} {ly wd E py gy A fl pp qy : Nat → Int32} (I : zz_I B cur C ln bl dc ql fu nk lv qa qz pn st kb ch kw K lx bo lk oc eN eV U F Q os ps pc pw rd wr S pr P Z gx L D bh qn ly wd E py gy A fl pp qy) : zz_R B cur (fu, nk, lv, qa, qz, ec, pn, st, kb, ch, kw, K, lx, bo, lk, oc, eN, eV, U, F, Ww, Q, os, ps, pc, pw, rd, wr, S, pr, P, Z, gx, R, L, D, bh, O) (qn, ec, pn, go, K, ly, wd, E, U, S, py, P, Z, gy, R, A, L, F, Ww, Q, fl, pp, qy, O) :=
  ⟨C, ln, bl, dc, ql, fu, nk, lv, qa, qz, ec, pn, st, kb, ch, kw, K, lx, bo, lk, oc, eN, eV, U, F, Ww, Q, os, ps, pc, pw, rd, wr, S, pr, P, Z, gx, R, L, D, bh, O, qn, go, ly, wd, E, py, gy, A, fl, pp, qy, rfl, rfl, I⟩
theorem zz_el {B cur : Nat} {Φ : SX → SY → Prop} {u : SX} {v : SY} (h : ∀ (C : Nat → Int32) (ln bl dc : Nat → Nat) (ql : List Nat) (fu : Int64) (nk lv qa qz : Int32) (ec : Int64) (pn : Int32) (st kb ch kw K lx bo lk oc eN eV U F Ww Q os ps pc pw rd wr S pr P Z gx R L D bh O : Nat → Int32) (qn go : Int32) (ly wd E py gy A fl pp qy : Nat → Int32),
    zz_I B cur C ln bl dc ql fu nk lv qa qz pn st kb ch kw K lx bo lk oc eN eV U F Q os ps pc pw rd wr S pr P Z gx L D bh qn ly wd E py gy A fl pp qy → Φ (fu, nk, lv, qa, qz, ec, pn, st, kb, ch, kw, K, lx, bo, lk, oc, eN, eV, U, F, Ww, Q, os, ps, pc, pw, rd, wr, S, pr, P, Z, gx, R, L, D, bh, O) (qn, ec, pn, go, K, ly, wd, E, U, S, py, P, Z, gy, R, A, L, F, Ww, Q, fl, pp, qy, O)) (I : zz_R B cur u v) : Φ u v := by
  obtain ⟨C, ln, bl, dc, ql, fu, nk, lv, qa, qz, ec, pn, st, kb, ch, kw, K, lx, bo, lk, oc, eN, eV, U, F, Ww, Q, os, ps, pc, pw, rd, wr, S, pr, P, Z, gx, R, L, D, bh, O, qn, go, ly, wd, E, py, gy, A, fl, pp, qy, e1, e2, I⟩ := I
  rw [e1, e2]
  exact h C ln bl dc ql fu nk lv qa qz ec pn st kb ch kw K lx bo lk oc eN eV U F Ww Q os ps pc pw rd wr S pr P Z gx R L D bh O qn go ly wd E py gy A fl pp qy I
/-- the same, with what the reference's execute answers -/
def zz_Q (B p : Nat) (w r : Int32) (u : SX) (v : SY) : Prop := ∃ (C : Nat → Int32) (ln bl dc : Nat → Nat) (ql : List Nat) (fu : Int64) (nk lv qa qz : Int32) (ec : Int64) (pn : Int32) (st kb ch kw K lx bo lk oc eN eV U F Ww Q os ps pc pw rd wr S pr P Z gx R L D bh O : Nat → Int32) (qn go : Int32) (ly wd E py gy A fl pp qy : Nat → Int32),
  u = (fu, nk, lv, qa, qz, ec, pn, st, kb, ch, kw, K, lx, bo, lk, oc, eN, eV, U, F, Ww, Q, os, ps, pc, pw, rd, wr, S, pr, P, Z, gx, R, L, D, bh, O) ∧ v = (qn, ec, pn, go, K, ly, wd, E, U, S, py, P, Z, gy, R, A, L, F, Ww, Q, fl, pp, qy, O) ∧ zz_I B p C ln bl dc ql fu nk lv qa qz pn st kb ch kw K lx bo lk oc eN eV U F Q os ps pc pw rd wr S pr P Z gx L D bh qn ly wd E py gy A fl pp qy ∧ (r = 1 ∧ S p = 1 ∧ ¬ w &&& 31 = 25 ∨ r = 0 ∧ (S p ≠ 1 ∨ w &&& 31 = 25))
theorem zz_Qmk {B p : Nat} {w r : Int32} {C : Nat → Int32} {ln bl dc : Nat → Nat} {ql : List Nat} {fu : Int64} {nk lv qa qz : Int32} {ec : Int64} {pn : Int32} {st kb ch kw K lx bo lk oc eN eV U F Ww Q os ps pc pw rd wr S pr P Z gx R L D bh O : Nat → Int32} {qn go : Int32} {ly wd E py gy A fl pp qy : Nat → Int32} (I : zz_I B p C ln bl dc ql fu nk lv qa qz pn st kb ch kw K lx bo lk oc eN eV U F Q os ps pc pw rd wr S pr P Z gx L D bh qn ly wd E py gy A fl pp qy) (hr : r = 1 ∧ S p = 1 ∧ ¬ w &&& 31 = 25 ∨ r = 0 ∧ (S p ≠ 1 ∨ w &&& 31 = 25)) : zz_Q B p w r (fu, nk, lv, qa, qz, ec, pn, st, kb, ch, kw, K, lx, bo, lk, oc, eN, eV, U, F, Ww, Q, os, ps, pc, pw, rd, wr, S, pr, P, Z, gx, R, L, D, bh, O) (qn, ec, pn, go, K, ly, wd, E, U, S, py, P, Z, gy, R, A, L, F, Ww, Q, fl, pp, qy, O) :=
  ⟨C, ln, bl, dc, ql, fu, nk, lv, qa, qz, ec, pn, st, kb, ch, kw, K, lx, bo, lk, oc, eN, eV, U, F, Ww, Q, os, ps, pc, pw, rd, wr, S, pr, P, Z, gx, R, L, D, bh, O, qn, go, ly, wd, E, py, gy, A, fl, pp, qy, rfl, rfl, I, hr⟩
theorem zz_Qel {B p : Nat} {w r : Int32} {Φ : SX → SY → Prop} {u : SX} {v : SY} (h : ∀ (C : Nat → Int32) (ln bl dc : Nat → Nat) (ql : List Nat) (fu : Int64) (nk lv qa qz : Int32) (ec : Int64) (pn : Int32) (st kb ch kw K lx bo lk oc eN eV U F Ww Q os ps pc pw rd wr S pr P Z gx R L D bh O : Nat → Int32) (qn go : Int32) (ly wd E py gy A fl pp qy : Nat → Int32),
    zz_I B p C ln bl dc ql fu nk lv qa qz pn st kb ch kw K lx bo lk oc eN eV U F Q os ps pc pw rd wr S pr P Z gx L D bh qn ly wd E py gy A fl pp qy → (r = 1 ∧ S p = 1 ∧ ¬ w &&& 31 = 25 ∨ r = 0 ∧ (S p ≠ 1 ∨ w &&& 31 = 25)) → Φ (fu, nk, lv, qa, qz, ec, pn, st, kb, ch, kw, K, lx, bo, lk, oc, eN, eV, U, F, Ww, Q, os, ps, pc, pw, rd, wr, S, pr, P, Z, gx, R, L, D, bh, O) (qn, ec, pn, go, K, ly, wd, E, U, S, py, P, Z, gy, R, A, L, F, Ww, Q, fl, pp, qy, O)) (I : zz_Q B p w r u v) : Φ u v := by
  obtain ⟨C, ln, bl, dc, ql, fu, nk, lv, qa, qz, ec, pn, st, kb, ch, kw, K, lx, bo, lk, oc, eN, eV, U, F, Ww, Q, os, ps, pc, pw, rd, wr, S, pr, P, Z, gx, R, L, D, bh, O, qn, go, ly, wd, E, py, gy, A, fl, pp, qy, e1, e2, I, hr⟩ := I
  rw [e1, e2]
  exact h C ln bl dc ql fu nk lv qa qz ec pn st kb ch kw K lx bo lk oc eN eV U F Ww Q os ps pc pw rd wr S pr P Z gx R L D bh O qn go ly wd E py gy A fl pp qy I hr
/-- what w says: operation o, registers a, b, number n -/
def zw_D (w : Int32) (o a b : Nat) : Prop := w &&& 31 = nI o ∧ (w >>> ((5 : Int32) &&& 31)) &&& 3 = nI a ∧ (w >>> ((7 : Int32) &&& 31)) &&& 3 = nI b ∧ o < 32 ∧ a < 4 ∧ b < 4
theorem zw_ex (w : Int32) : ∃ o a b, zw_D w o a b := by
  obtain ⟨o, ho, e1⟩ := pk_andE w (m := 31) 5 (by decide)
  obtain ⟨a, ha, e2⟩ := pk_andE (w >>> ((5 : Int32) &&& 31)) (m := 3) 2 (by decide)
  obtain ⟨b, hb, e3⟩ := pk_andE (w >>> ((7 : Int32) &&& 31)) (m := 3) 2 (by decide)
  exact ⟨o, a, b, e1, e2, e3, ho, ha, hb⟩
section
variable {B : Nat} {cur : Nat} {C : Nat → Int32} {ln bl dc : Nat → Nat} {ql : List Nat} {fu : Int64} {nk lv qa qz pn : Int32} {st kb ch kw K lx bo lk oc eN eV U F Q os ps pc pw rd wr S pr P Z gx L D bh : Nat → Int32} {qn : Int32} {ly wd E py gy A fl pp qy : Nat → Int32}
theorem zi_P {p : Nat} {x : Int32} (I : zz_I B cur C ln bl dc ql fu nk lv qa qz pn st kb ch kw K lx bo lk oc eN eV U F Q os ps pc pw rd wr S pr P Z gx L D bh qn ly wd E py gy A fl pp qy) (h : S p ≠ 2) : zz_I B cur C ln bl dc ql fu nk lv qa qz pn st kb ch kw K lx bo lk oc eN eV U F Q os ps pc pw rd wr S pr (upd P p x) Z gx L D bh qn ly wd E py gy A fl pp qy := by
  obtain ⟨i1, i2, i3, i4, i5, j1, j2, j3, j4, j5⟩ := I
  refine ⟨i1, i2, i3, i4, i5, j1, j2, j3, ?_, j5⟩
  intro q hq hs
  rw [pk_un (fun e => h (by rw [← e]; exact hs))]
  exact j4 q hq hs
theorem zi_B (I : zz_I B cur C ln bl dc ql fu nk lv qa qz pn st kb ch kw K lx bo lk oc eN eV U F Q os ps pc pw rd wr S pr P Z gx L D bh qn ly wd E py gy A fl pp qy) (h : B + 1 < 1000000) : zz_I (B + 1) cur C ln bl dc ql fu nk lv qa qz pn st kb ch kw K lx bo lk oc eN eV U F Q os ps pc pw rd wr S pr P Z gx L D bh qn ly wd E py gy A fl pp qy := by
  obtain ⟨i1, i2, i3, i4, i5, j1, j2, j3, j4, _, n, hn, e⟩ := I
  exact ⟨i1, i2, i3, i4, i5, j1, j2, j3, j4, h, n, by omega, e⟩
end
end
section
/-! the component's execute: one lemma an operation -/
section
variable {fu : Int64} {nk lv qa qz : Int32} {ec : Int64} {pn : Int32} {st kb ch kw K lx bo lk oc eN eV U F Ww Q os ps pc pw rd wr S pr P Z gx R L D bh O : Nat → Int32} {fu2 : Int64} {nk2 lv2 qa2 qz2 : Int32} {ec2 : Int64} {pn2 : Int32} {st2 kb2 ch2 kw2 K2 lx2 bo2 lk2 oc2 eN2 eV2 U2 F2 Ww2 Q2 os2 ps2 pc2 pw2 rd2 wr2 S2 pr2 P2 Z2 gx2 R2 L2 D2 bh2 O2 : Nat → Int32}
theorem xe_0 {post : SX → Prop} {p a b : Nat} {w : Int32} (hp : p < 5) (hD : zw_D w 0 a b) (hX : ∀ post' : SX → Prop, post' (fu2, nk2, lv2, qa2, qz2, ec2, pn2, st2, kb2, ch2, kw2, K2, lx2, bo2, lk2, oc2, eN2, eV2, U2, F2, Ww2, Q2, os2, ps2, pc2, pw2, rd2, wr2, S2, pr2, P2, Z2, gx2, R2, L2, D2, bh2, O2) → wpX_end post' (fu, nk, lv, qa, qz, ec, pn, st, kb, ch, kw, K, lx, bo, lk, oc, eN, eV, U, F, Ww, Q, os, ps, pc, pw, rd, wr, S, pr, upd P p (P p + 1), Z, gx, R, L, D, bh, O) (nI p) (R (4 * p + a))) (h : post (fu2, nk2, lv2, qa2, qz2, ec2, pn2, st2, kb2, ch2, kw2, K2, lx2, bo2, lk2, oc2, eN2, eV2, U2, F2, Ww2, Q2, os2, ps2, pc2, pw2, rd2, wr2, S2, pr2, P2, Z2, gx2, R2, L2, D2, bh2, O2)) : wpX_execute post (fu, nk, lv, qa, qz, ec, pn, st, kb, ch, kw, K, lx, bo, lk, oc, eN, eV, U, F, Ww, Q, os, ps, pc, pw, rd, wr, S, pr, P, Z, gx, R, L, D, bh, O) (nI p) w := by
  obtain ⟨ho, ha, hb, _, ha4, hb4⟩ := hD
  have eia : 4 * nI p + nI a = nI (4 * p + a) := by rw [zi_m4, nI_add]
  have eib : 4 * nI p + nI b = nI (4 * p + b) := by rw [zi_m4, nI_add]
  refine nm_r ho (nm_r ha (nm_r hb (nm_e ?_)))
  rw [eia, eib, zcl (f := R) (i := 4 * p + a) (by omega), zcl (f := R) (i := 4 * p + b) (by omega), zcl (f := P) (i := p) (by omega), nI_clamp (n := p) (by omega)]
  refine ⟨vp_in_nI (by omega) (by decide), nm_e ⟨vp_in_nI (by omega) (by decide), nm_e ⟨vp_in_nI hp (by decide), vp_in_nI hp (by decide), nm_e ?_⟩⟩⟩
  exact br_t (by decide) (hX _ h)
theorem xe_1 {post : SX → Prop} {p a b : Nat} {w : Int32} (hp : p < 5) (hD : zw_D w 1 a b) (h : post (fu, nk, lv, qa, qz, ec, pn, st, kb, ch, kw, K, lx, bo, lk, oc, eN, eV, U, F, Ww, Q, os, ps, pc, pw, rd, wr, S, pr, upd P p (P p + 1), Z, gx, upd R (4 * p + a) ((w >>> ((9 : Int32) &&& 31))), L, D, bh, O)) : wpX_execute post (fu, nk, lv, qa, qz, ec, pn, st, kb, ch, kw, K, lx, bo, lk, oc, eN, eV, U, F, Ww, Q, os, ps, pc, pw, rd, wr, S, pr, P, Z, gx, R, L, D, bh, O) (nI p) w := by
  obtain ⟨ho, ha, hb, _, ha4, hb4⟩ := hD
  have eia : 4 * nI p + nI a = nI (4 * p + a) := by rw [zi_m4, nI_add]
  have eib : 4 * nI p + nI b = nI (4 * p + b) := by rw [zi_m4, nI_add]
  refine nm_r ho (nm_r ha (nm_r hb (nm_e ?_)))
  rw [eia, eib, zcl (f := R) (i := 4 * p + a) (by omega), zcl (f := R) (i := 4 * p + b) (by omega), zcl (f := P) (i := p) (by omega), nI_clamp (n := p) (by omega)]
  refine ⟨vp_in_nI (by omega) (by decide), nm_e ⟨vp_in_nI (by omega) (by decide), nm_e ⟨vp_in_nI hp (by decide), vp_in_nI hp (by decide), nm_e ?_⟩⟩⟩
  rw [nI_clamp (n := 4 * p + a) (by omega)]
  exact br_f (by decide) (br_f (by decide) (br_t (by decide) (⟨vp_in_nI (by omega) (by decide), nm_e h⟩)))
theorem xe_2 {post : SX → Prop} {p a b : Nat} {w : Int32} (hp : p < 5) (hD : zw_D w 2 a b) (h : post (fu, nk, lv, qa, qz, ec, pn, st, kb, ch, kw, K, lx, bo, lk, oc, eN, eV, U, F, Ww, Q, os, ps, pc, pw, rd, wr, S, pr, upd P p (P p + 1), Z, gx, upd R (4 * p + a) (R (4 * p + b)), L, D, bh, O)) : wpX_execute post (fu, nk, lv, qa, qz, ec, pn, st, kb, ch, kw, K, lx, bo, lk, oc, eN, eV, U, F, Ww, Q, os, ps, pc, pw, rd, wr, S, pr, P, Z, gx, R, L, D, bh, O) (nI p) w := by
  obtain ⟨ho, ha, hb, _, ha4, hb4⟩ := hD
  have eia : 4 * nI p + nI a = nI (4 * p + a) := by rw [zi_m4, nI_add]
  have eib : 4 * nI p + nI b = nI (4 * p + b) := by rw [zi_m4, nI_add]
  refine nm_r ho (nm_r ha (nm_r hb (nm_e ?_)))
  rw [eia, eib, zcl (f := R) (i := 4 * p + a) (by omega), zcl (f := R) (i := 4 * p + b) (by omega), zcl (f := P) (i := p) (by omega), nI_clamp (n := p) (by omega)]
  refine ⟨vp_in_nI (by omega) (by decide), nm_e ⟨vp_in_nI (by omega) (by decide), nm_e ⟨vp_in_nI hp (by decide), vp_in_nI hp (by decide), nm_e ?_⟩⟩⟩
  rw [nI_clamp (n := 4 * p + a) (by omega)]
  exact br_f (by decide) (br_f (by decide) (br_f (by decide) (br_t (by decide) (⟨vp_in_nI (by omega) (by decide), nm_e h⟩))))
theorem xe_3 {post : SX → Prop} {p a b : Nat} {w : Int32} (hp : p < 5) (hD : zw_D w 3 a b) (h : post (fu, nk, lv, qa, qz, ec, pn, st, kb, ch, kw, K, lx, bo, lk, oc, eN, eV, U, F, Ww, Q, os, ps, pc, pw, rd, wr, S, pr, upd P p (P p + 1), Z, gx, upd R (4 * p + a) (R (4 * p + a) + R (4 * p + b)), L, D, bh, O)) : wpX_execute post (fu, nk, lv, qa, qz, ec, pn, st, kb, ch, kw, K, lx, bo, lk, oc, eN, eV, U, F, Ww, Q, os, ps, pc, pw, rd, wr, S, pr, P, Z, gx, R, L, D, bh, O) (nI p) w := by
  obtain ⟨ho, ha, hb, _, ha4, hb4⟩ := hD
  have eia : 4 * nI p + nI a = nI (4 * p + a) := by rw [zi_m4, nI_add]
  have eib : 4 * nI p + nI b = nI (4 * p + b) := by rw [zi_m4, nI_add]
  refine nm_r ho (nm_r ha (nm_r hb (nm_e ?_)))
  rw [eia, eib, zcl (f := R) (i := 4 * p + a) (by omega), zcl (f := R) (i := 4 * p + b) (by omega), zcl (f := P) (i := p) (by omega), nI_clamp (n := p) (by omega)]
  refine ⟨vp_in_nI (by omega) (by decide), nm_e ⟨vp_in_nI (by omega) (by decide), nm_e ⟨vp_in_nI hp (by decide), vp_in_nI hp (by decide), nm_e ?_⟩⟩⟩
  rw [nI_clamp (n := 4 * p + a) (by omega)]
  exact br_f (by decide) (br_f (by decide) (br_f (by decide) (br_f (by decide) (br_t (by decide) (⟨vp_in_nI (by omega) (by decide), nm_e h⟩)))))
theorem xe_4 {post : SX → Prop} {p a b : Nat} {w : Int32} (hp : p < 5) (hD : zw_D w 4 a b) (h : post (fu, nk, lv, qa, qz, ec, pn, st, kb, ch, kw, K, lx, bo, lk, oc, eN, eV, U, F, Ww, Q, os, ps, pc, pw, rd, wr, S, pr, upd P p (P p + 1), Z, gx, upd R (4 * p + a) (R (4 * p + a) - R (4 * p + b)), L, D, bh, O)) : wpX_execute post (fu, nk, lv, qa, qz, ec, pn, st, kb, ch, kw, K, lx, bo, lk, oc, eN, eV, U, F, Ww, Q, os, ps, pc, pw, rd, wr, S, pr, P, Z, gx, R, L, D, bh, O) (nI p) w := by
  obtain ⟨ho, ha, hb, _, ha4, hb4⟩ := hD
  have eia : 4 * nI p + nI a = nI (4 * p + a) := by rw [zi_m4, nI_add]
  have eib : 4 * nI p + nI b = nI (4 * p + b) := by rw [zi_m4, nI_add]
  refine nm_r ho (nm_r ha (nm_r hb (nm_e ?_)))
  rw [eia, eib, zcl (f := R) (i := 4 * p + a) (by omega), zcl (f := R) (i := 4 * p + b) (by omega), zcl (f := P) (i := p) (by omega), nI_clamp (n := p) (by omega)]
  refine ⟨vp_in_nI (by omega) (by decide), nm_e ⟨vp_in_nI (by omega) (by decide), nm_e ⟨vp_in_nI hp (by decide), vp_in_nI hp (by decide), nm_e ?_⟩⟩⟩
  rw [nI_clamp (n := 4 * p + a) (by omega)]
  exact br_f (by decide) (br_f (by decide) (br_f (by decide) (br_f (by decide) (br_f (by decide) (br_t (by decide) (⟨vp_in_nI (by omega) (by decide), nm_e h⟩))))))
theorem xe_5 {post : SX → Prop} {p a b : Nat} {w : Int32} (hp : p < 5) (hD : zw_D w 5 a b) (h : post (fu, nk, lv, qa, qz, ec, pn, st, kb, ch, kw, K, lx, bo, lk, oc, eN, eV, U, F, Ww, Q, os, ps, pc, pw, rd, wr, S, pr, upd P p (P p + 1), Z, gx, upd R (4 * p + a) (R (4 * p + a) + (w >>> ((9 : Int32) &&& 31))), L, D, bh, O)) : wpX_execute post (fu, nk, lv, qa, qz, ec, pn, st, kb, ch, kw, K, lx, bo, lk, oc, eN, eV, U, F, Ww, Q, os, ps, pc, pw, rd, wr, S, pr, P, Z, gx, R, L, D, bh, O) (nI p) w := by
  obtain ⟨ho, ha, hb, _, ha4, hb4⟩ := hD
  have eia : 4 * nI p + nI a = nI (4 * p + a) := by rw [zi_m4, nI_add]
  have eib : 4 * nI p + nI b = nI (4 * p + b) := by rw [zi_m4, nI_add]
  refine nm_r ho (nm_r ha (nm_r hb (nm_e ?_)))
  rw [eia, eib, zcl (f := R) (i := 4 * p + a) (by omega), zcl (f := R) (i := 4 * p + b) (by omega), zcl (f := P) (i := p) (by omega), nI_clamp (n := p) (by omega)]
  refine ⟨vp_in_nI (by omega) (by decide), nm_e ⟨vp_in_nI (by omega) (by decide), nm_e ⟨vp_in_nI hp (by decide), vp_in_nI hp (by decide), nm_e ?_⟩⟩⟩
  rw [nI_clamp (n := 4 * p + a) (by omega)]
  exact br_f (by decide) (br_f (by decide) (br_f (by decide) (br_f (by decide) (br_f (by decide) (br_f (by decide) (br_t (by decide) (⟨vp_in_nI (by omega) (by decide), nm_e h⟩)))))))
theorem xe_6 {post : SX → Prop} {p a b : Nat} {w : Int32} (hp : p < 5) (hD : zw_D w 6 a b) (h : post (fu, nk, lv, qa, qz, ec, pn, st, kb, ch, kw, K, lx, bo, lk, oc, eN, eV, U, F, Ww, Q, os, ps, pc, pw, rd, wr, S, pr, upd P p (P p + 1), Z, gx, upd R (4 * p + a) (if R (4 * p + b) ≤ R (4 * p + a) then 0 else 1), L, D, bh, O)) : wpX_execute post (fu, nk, lv, qa, qz, ec, pn, st, kb, ch, kw, K, lx, bo, lk, oc, eN, eV, U, F, Ww, Q, os, ps, pc, pw, rd, wr, S, pr, P, Z, gx, R, L, D, bh, O) (nI p) w := by
  obtain ⟨ho, ha, hb, _, ha4, hb4⟩ := hD
  have eia : 4 * nI p + nI a = nI (4 * p + a) := by rw [zi_m4, nI_add]
  have eib : 4 * nI p + nI b = nI (4 * p + b) := by rw [zi_m4, nI_add]
  refine nm_r ho (nm_r ha (nm_r hb (nm_e ?_)))
  rw [eia, eib, zcl (f := R) (i := 4 * p + a) (by omega), zcl (f := R) (i := 4 * p + b) (by omega), zcl (f := P) (i := p) (by omega), nI_clamp (n := p) (by omega)]
  refine ⟨vp_in_nI (by omega) (by decide), nm_e ⟨vp_in_nI (by omega) (by decide), nm_e ⟨vp_in_nI hp (by decide), vp_in_nI hp (by decide), nm_e ?_⟩⟩⟩
  rw [nI_clamp (n := 4 * p + a) (by omega)]
  refine br_f (by decide) (br_f (by decide) (br_f (by decide) (br_f (by decide) (br_f (by decide) (br_f (by decide) (br_f (by decide) (?_)))))))
  by_cases c : R (4 * p + b) ≤ R (4 * p + a)
  · rw [if_pos c] at h; exact br_t c ⟨vp_in_nI (by omega) (by decide), nm_e h⟩
  · rw [if_neg c] at h; exact br_f c ⟨vp_in_nI (by omega) (by decide), nm_e h⟩
theorem xe_8 {post : SX → Prop} {p a b : Nat} {w : Int32} (hp : p < 5) (hD : zw_D w 8 a b) (h : post (fu, nk, lv, qa, qz, ec, pn, st, kb, ch, kw, K, lx, bo, lk, oc, eN, eV, U, F, Ww, Q, os, ps, pc, pw, rd, wr, S, pr, upd P p (w >>> ((9 : Int32) &&& 31)), Z, gx, R, L, D, bh, O)) : wpX_execute post (fu, nk, lv, qa, qz, ec, pn, st, kb, ch, kw, K, lx, bo, lk, oc, eN, eV, U, F, Ww, Q, os, ps, pc, pw, rd, wr, S, pr, P, Z, gx, R, L, D, bh, O) (nI p) w := by
  obtain ⟨ho, ha, hb, _, ha4, hb4⟩ := hD
  have eia : 4 * nI p + nI a = nI (4 * p + a) := by rw [zi_m4, nI_add]
  have eib : 4 * nI p + nI b = nI (4 * p + b) := by rw [zi_m4, nI_add]
  refine nm_r ho (nm_r ha (nm_r hb (nm_e ?_)))
  rw [eia, eib, zcl (f := R) (i := 4 * p + a) (by omega), zcl (f := R) (i := 4 * p + b) (by omega), zcl (f := P) (i := p) (by omega), nI_clamp (n := p) (by omega)]
  refine ⟨vp_in_nI (by omega) (by decide), nm_e ⟨vp_in_nI (by omega) (by decide), nm_e ⟨vp_in_nI hp (by decide), vp_in_nI hp (by decide), nm_e ?_⟩⟩⟩
  refine br_f (by decide) (br_t (by decide) (br_f (by decide) (br_t (by decide) (⟨vp_in_nI hp (by decide), nm_e ?_⟩))))
  rw [zi_utw]
  exact h
theorem xe_7t {post : SX → Prop} {p a b : Nat} {w : Int32} (hp : p < 5) (hD : zw_D w 7 a b) (hx :  R (4 * p + a) = 0) (h : post (fu, nk, lv, qa, qz, ec, pn, st, kb, ch, kw, K, lx, bo, lk, oc, eN, eV, U, F, Ww, Q, os, ps, pc, pw, rd, wr, S, pr, upd P p (w >>> ((9 : Int32) &&& 31)), Z, gx, R, L, D, bh, O)) : wpX_execute post (fu, nk, lv, qa, qz, ec, pn, st, kb, ch, kw, K, lx, bo, lk, oc, eN, eV, U, F, Ww, Q, os, ps, pc, pw, rd, wr, S, pr, P, Z, gx, R, L, D, bh, O) (nI p) w := by
  obtain ⟨ho, ha, hb, _, ha4, hb4⟩ := hD
  have eia : 4 * nI p + nI a = nI (4 * p + a) := by rw [zi_m4, nI_add]
  have eib : 4 * nI p + nI b = nI (4 * p + b) := by rw [zi_m4, nI_add]
  refine nm_r ho (nm_r ha (nm_r hb (nm_e ?_)))
  rw [eia, eib, zcl (f := R) (i := 4 * p + a) (by omega), zcl (f := R) (i := 4 * p + b) (by omega), zcl (f := P) (i := p) (by omega), nI_clamp (n := p) (by omega)]
  refine ⟨vp_in_nI (by omega) (by decide), nm_e ⟨vp_in_nI (by omega) (by decide), nm_e ⟨vp_in_nI hp (by decide), vp_in_nI hp (by decide), nm_e ?_⟩⟩⟩
  refine br_f (by decide) (br_t (by decide) (br_f (by decide) (br_f (by decide) (?_))))
  refine br_t hx ?_
  unfold wX_execute_189
  refine br_t (by decide)  (?_)
  unfold wX_execute_200
  rw [nI_clamp (n := p) (by omega), zi_utw]
  exact br_t rfl ⟨vp_in_nI hp (by decide), nm_e h⟩
theorem xe_7f {post : SX → Prop} {p a b : Nat} {w : Int32} (hp : p < 5) (hD : zw_D w 7 a b) (hx : ¬ R (4 * p + a) = 0) (h : post (fu, nk, lv, qa, qz, ec, pn, st, kb, ch, kw, K, lx, bo, lk, oc, eN, eV, U, F, Ww, Q, os, ps, pc, pw, rd, wr, S, pr, upd P p (P p + 1), Z, gx, R, L, D, bh, O)) : wpX_execute post (fu, nk, lv, qa, qz, ec, pn, st, kb, ch, kw, K, lx, bo, lk, oc, eN, eV, U, F, Ww, Q, os, ps, pc, pw, rd, wr, S, pr, P, Z, gx, R, L, D, bh, O) (nI p) w := by
  obtain ⟨ho, ha, hb, _, ha4, hb4⟩ := hD
  have eia : 4 * nI p + nI a = nI (4 * p + a) := by rw [zi_m4, nI_add]
  have eib : 4 * nI p + nI b = nI (4 * p + b) := by rw [zi_m4, nI_add]
  refine nm_r ho (nm_r ha (nm_r hb (nm_e ?_)))
  rw [eia, eib, zcl (f := R) (i := 4 * p + a) (by omega), zcl (f := R) (i := 4 * p + b) (by omega), zcl (f := P) (i := p) (by omega), nI_clamp (n := p) (by omega)]
  refine ⟨vp_in_nI (by omega) (by decide), nm_e ⟨vp_in_nI (by omega) (by decide), nm_e ⟨vp_in_nI hp (by decide), vp_in_nI hp (by decide), nm_e ?_⟩⟩⟩
  refine br_f (by decide) (br_t (by decide) (br_f (by decide) (br_f (by decide) (?_))))
  refine br_f hx ?_
  unfold wX_execute_189
  refine br_t (by decide)  (?_)
  unfold wX_execute_200
  exact br_f (by decide) h
theorem xe_9t {post : SX → Prop} {p a b : Nat} {w : Int32} (hp : p < 5) (hD : zw_D w 9 a b) (hx : ¬ R (4 * p + a) = 0) (h : post (fu, nk, lv, qa, qz, ec, pn, st, kb, ch, kw, K, lx, bo, lk, oc, eN, eV, U, F, Ww, Q, os, ps, pc, pw, rd, wr, S, pr, upd P p (w >>> ((9 : Int32) &&& 31)), Z, gx, R, L, D, bh, O)) : wpX_execute post (fu, nk, lv, qa, qz, ec, pn, st, kb, ch, kw, K, lx, bo, lk, oc, eN, eV, U, F, Ww, Q, os, ps, pc, pw, rd, wr, S, pr, P, Z, gx, R, L, D, bh, O) (nI p) w := by
  obtain ⟨ho, ha, hb, _, ha4, hb4⟩ := hD
  have eia : 4 * nI p + nI a = nI (4 * p + a) := by rw [zi_m4, nI_add]
  have eib : 4 * nI p + nI b = nI (4 * p + b) := by rw [zi_m4, nI_add]
  refine nm_r ho (nm_r ha (nm_r hb (nm_e ?_)))
  rw [eia, eib, zcl (f := R) (i := 4 * p + a) (by omega), zcl (f := R) (i := 4 * p + b) (by omega), zcl (f := P) (i := p) (by omega), nI_clamp (n := p) (by omega)]
  refine ⟨vp_in_nI (by omega) (by decide), nm_e ⟨vp_in_nI (by omega) (by decide), nm_e ⟨vp_in_nI hp (by decide), vp_in_nI hp (by decide), nm_e ?_⟩⟩⟩
  refine br_f (by decide) (br_t (by decide) (br_f (by decide) (br_f (by decide) (?_))))
  refine br_f hx ?_
  unfold wX_execute_189
  refine br_f (by decide)  (?_)
  unfold wX_execute_200
  rw [nI_clamp (n := p) (by omega), zi_utw]
  exact br_t rfl ⟨vp_in_nI hp (by decide), nm_e h⟩
theorem xe_9f {post : SX → Prop} {p a b : Nat} {w : Int32} (hp : p < 5) (hD : zw_D w 9 a b) (hx :  R (4 * p + a) = 0) (h : post (fu, nk, lv, qa, qz, ec, pn, st, kb, ch, kw, K, lx, bo, lk, oc, eN, eV, U, F, Ww, Q, os, ps, pc, pw, rd, wr, S, pr, upd P p (P p + 1), Z, gx, R, L, D, bh, O)) : wpX_execute post (fu, nk, lv, qa, qz, ec, pn, st, kb, ch, kw, K, lx, bo, lk, oc, eN, eV, U, F, Ww, Q, os, ps, pc, pw, rd, wr, S, pr, P, Z, gx, R, L, D, bh, O) (nI p) w := by
  obtain ⟨ho, ha, hb, _, ha4, hb4⟩ := hD
  have eia : 4 * nI p + nI a = nI (4 * p + a) := by rw [zi_m4, nI_add]
  have eib : 4 * nI p + nI b = nI (4 * p + b) := by rw [zi_m4, nI_add]
  refine nm_r ho (nm_r ha (nm_r hb (nm_e ?_)))
  rw [eia, eib, zcl (f := R) (i := 4 * p + a) (by omega), zcl (f := R) (i := 4 * p + b) (by omega), zcl (f := P) (i := p) (by omega), nI_clamp (n := p) (by omega)]
  refine ⟨vp_in_nI (by omega) (by decide), nm_e ⟨vp_in_nI (by omega) (by decide), nm_e ⟨vp_in_nI hp (by decide), vp_in_nI hp (by decide), nm_e ?_⟩⟩⟩
  refine br_f (by decide) (br_t (by decide) (br_f (by decide) (br_f (by decide) (?_))))
  refine br_t hx ?_
  unfold wX_execute_189
  refine br_f (by decide)  (?_)
  unfold wX_execute_200
  exact br_f (by decide) h
theorem xe_10 {post : SX → Prop} {p a b : Nat} {w : Int32} (hp : p < 5) (hD : zw_D w 10 a b) (hX : ∀ post' : SX → Prop, post' (fu2, nk2, lv2, qa2, qz2, ec2, pn2, st2, kb2, ch2, kw2, K2, lx2, bo2, lk2, oc2, eN2, eV2, U2, F2, Ww2, Q2, os2, ps2, pc2, pw2, rd2, wr2, S2, pr2, P2, Z2, gx2, R2, L2, D2, bh2, O2) → wpX_fork post' (fu, nk, lv, qa, qz, ec, pn, st, kb, ch, kw, K, lx, bo, lk, oc, eN, eV, U, F, Ww, Q, os, ps, pc, pw, rd, wr, S, pr, upd P p (P p + 1), Z, gx, R, L, D, bh, O) (nI p) (nI a)) (h : post (fu2, nk2, lv2, qa2, qz2, ec2, pn2, st2, kb2, ch2, kw2, K2, lx2, bo2, lk2, oc2, eN2, eV2, U2, F2, Ww2, Q2, os2, ps2, pc2, pw2, rd2, wr2, S2, pr2, P2, Z2, gx2, R2, L2, D2, bh2, O2)) : wpX_execute post (fu, nk, lv, qa, qz, ec, pn, st, kb, ch, kw, K, lx, bo, lk, oc, eN, eV, U, F, Ww, Q, os, ps, pc, pw, rd, wr, S, pr, P, Z, gx, R, L, D, bh, O) (nI p) w := by
  obtain ⟨ho, ha, hb, _, ha4, hb4⟩ := hD
  have eia : 4 * nI p + nI a = nI (4 * p + a) := by rw [zi_m4, nI_add]
  have eib : 4 * nI p + nI b = nI (4 * p + b) := by rw [zi_m4, nI_add]
  refine nm_r ho (nm_r ha (nm_r hb (nm_e ?_)))
  rw [eia, eib, zcl (f := R) (i := 4 * p + a) (by omega), zcl (f := R) (i := 4 * p + b) (by omega), zcl (f := P) (i := p) (by omega), nI_clamp (n := p) (by omega)]
  refine ⟨vp_in_nI (by omega) (by decide), nm_e ⟨vp_in_nI (by omega) (by decide), nm_e ⟨vp_in_nI hp (by decide), vp_in_nI hp (by decide), nm_e ?_⟩⟩⟩
  exact br_f (by decide) (br_t (by decide) (br_t (by decide) (br_t (by decide) (hX _ h))))
theorem xe_11 {post : SX → Prop} {p a b : Nat} {w : Int32} (hp : p < 5) (hD : zw_D w 11 a b) (hX : ∀ post' : SX → Prop, post' (fu2, nk2, lv2, qa2, qz2, ec2, pn2, st2, kb2, ch2, kw2, K2, lx2, bo2, lk2, oc2, eN2, eV2, U2, F2, Ww2, Q2, os2, ps2, pc2, pw2, rd2, wr2, S2, pr2, P2, Z2, gx2, R2, L2, D2, bh2, O2) → wpX_takeChild post' (fu, nk, lv, qa, qz, ec, pn, st, kb, ch, kw, K, lx, bo, lk, oc, eN, eV, U, F, Ww, Q, os, ps, pc, pw, rd, wr, S, pr, upd P p (P p + 1), Z, gx, R, L, D, bh, O) (nI p) (nI a) (nI b)) (h : post (fu2, nk2, lv2, qa2, qz2, ec2, pn2, st2, kb2, ch2, kw2, K2, lx2, bo2, lk2, oc2, eN2, eV2, U2, F2, Ww2, Q2, os2, ps2, pc2, pw2, rd2, wr2, S2, pr2, P2, Z2, gx2, R2, L2, D2, bh2, O2)) : wpX_execute post (fu, nk, lv, qa, qz, ec, pn, st, kb, ch, kw, K, lx, bo, lk, oc, eN, eV, U, F, Ww, Q, os, ps, pc, pw, rd, wr, S, pr, P, Z, gx, R, L, D, bh, O) (nI p) w := by
  obtain ⟨ho, ha, hb, _, ha4, hb4⟩ := hD
  have eia : 4 * nI p + nI a = nI (4 * p + a) := by rw [zi_m4, nI_add]
  have eib : 4 * nI p + nI b = nI (4 * p + b) := by rw [zi_m4, nI_add]
  refine nm_r ho (nm_r ha (nm_r hb (nm_e ?_)))
  rw [eia, eib, zcl (f := R) (i := 4 * p + a) (by omega), zcl (f := R) (i := 4 * p + b) (by omega), zcl (f := P) (i := p) (by omega), nI_clamp (n := p) (by omega)]
  refine ⟨vp_in_nI (by omega) (by decide), nm_e ⟨vp_in_nI (by omega) (by decide), nm_e ⟨vp_in_nI hp (by decide), vp_in_nI hp (by decide), nm_e ?_⟩⟩⟩
  exact br_f (by decide) (br_t (by decide) (br_t (by decide) (br_f (by decide) (br_t (by decide) (hX _ h)))))
theorem xe_15 {post : SX → Prop} {p a b : Nat} {w : Int32} (hp : p < 5) (hD : zw_D w 15 a b) (hX : ∀ post' : SX → Prop, post' (fu2, nk2, lv2, qa2, qz2, ec2, pn2, st2, kb2, ch2, kw2, K2, lx2, bo2, lk2, oc2, eN2, eV2, U2, F2, Ww2, Q2, os2, ps2, pc2, pw2, rd2, wr2, S2, pr2, P2, Z2, gx2, R2, L2, D2, bh2, O2) → wpX_read post' (fu, nk, lv, qa, qz, ec, pn, st, kb, ch, kw, K, lx, bo, lk, oc, eN, eV, U, F, Ww, Q, os, ps, pc, pw, rd, wr, S, pr, upd P p (P p + 1), Z, gx, R, L, D, bh, O) (nI p) (nI a) (R (4 * p + b))) (h : post (fu2, nk2, lv2, qa2, qz2, ec2, pn2, st2, kb2, ch2, kw2, K2, lx2, bo2, lk2, oc2, eN2, eV2, U2, F2, Ww2, Q2, os2, ps2, pc2, pw2, rd2, wr2, S2, pr2, P2, Z2, gx2, R2, L2, D2, bh2, O2)) : wpX_execute post (fu, nk, lv, qa, qz, ec, pn, st, kb, ch, kw, K, lx, bo, lk, oc, eN, eV, U, F, Ww, Q, os, ps, pc, pw, rd, wr, S, pr, P, Z, gx, R, L, D, bh, O) (nI p) w := by
  obtain ⟨ho, ha, hb, _, ha4, hb4⟩ := hD
  have eia : 4 * nI p + nI a = nI (4 * p + a) := by rw [zi_m4, nI_add]
  have eib : 4 * nI p + nI b = nI (4 * p + b) := by rw [zi_m4, nI_add]
  refine nm_r ho (nm_r ha (nm_r hb (nm_e ?_)))
  rw [eia, eib, zcl (f := R) (i := 4 * p + a) (by omega), zcl (f := R) (i := 4 * p + b) (by omega), zcl (f := P) (i := p) (by omega), nI_clamp (n := p) (by omega)]
  refine ⟨vp_in_nI (by omega) (by decide), nm_e ⟨vp_in_nI (by omega) (by decide), nm_e ⟨vp_in_nI hp (by decide), vp_in_nI hp (by decide), nm_e ?_⟩⟩⟩
  exact br_f (by decide) (br_t (by decide) (br_t (by decide) (br_f (by decide) (br_f (by decide) (br_t (by decide) (hX _ h))))))
theorem xe_16 {post : SX → Prop} {p a b : Nat} {w : Int32} (hp : p < 5) (hD : zw_D w 16 a b) (hX : ∀ post' : SX → Prop, post' (fu2, nk2, lv2, qa2, qz2, ec2, pn2, st2, kb2, ch2, kw2, K2, lx2, bo2, lk2, oc2, eN2, eV2, U2, F2, Ww2, Q2, os2, ps2, pc2, pw2, rd2, wr2, S2, pr2, P2, Z2, gx2, R2, L2, D2, bh2, O2) → wpX_write post' (fu, nk, lv, qa, qz, ec, pn, st, kb, ch, kw, K, lx, bo, lk, oc, eN, eV, U, F, Ww, Q, os, ps, pc, pw, rd, wr, S, pr, upd P p (P p + 1), Z, gx, R, L, D, bh, O) (nI p) (R (4 * p + a)) (R (4 * p + b))) (h : post (fu2, nk2, lv2, qa2, qz2, ec2, pn2, st2, kb2, ch2, kw2, K2, lx2, bo2, lk2, oc2, eN2, eV2, U2, F2, Ww2, Q2, os2, ps2, pc2, pw2, rd2, wr2, S2, pr2, P2, Z2, gx2, R2, L2, D2, bh2, O2)) : wpX_execute post (fu, nk, lv, qa, qz, ec, pn, st, kb, ch, kw, K, lx, bo, lk, oc, eN, eV, U, F, Ww, Q, os, ps, pc, pw, rd, wr, S, pr, P, Z, gx, R, L, D, bh, O) (nI p) w := by
  obtain ⟨ho, ha, hb, _, ha4, hb4⟩ := hD
  have eia : 4 * nI p + nI a = nI (4 * p + a) := by rw [zi_m4, nI_add]
  have eib : 4 * nI p + nI b = nI (4 * p + b) := by rw [zi_m4, nI_add]
  refine nm_r ho (nm_r ha (nm_r hb (nm_e ?_)))
  rw [eia, eib, zcl (f := R) (i := 4 * p + a) (by omega), zcl (f := R) (i := 4 * p + b) (by omega), zcl (f := P) (i := p) (by omega), nI_clamp (n := p) (by omega)]
  refine ⟨vp_in_nI (by omega) (by decide), nm_e ⟨vp_in_nI (by omega) (by decide), nm_e ⟨vp_in_nI hp (by decide), vp_in_nI hp (by decide), nm_e ?_⟩⟩⟩
  exact br_f (by decide) (br_t (by decide) (br_t (by decide) (br_f (by decide) (br_f (by decide) (br_f (by decide) (br_t (by decide) (hX _ h)))))))
theorem xe_24 {post : SX → Prop} {p a b : Nat} {w : Int32} (hp : p < 5) (hD : zw_D w 24 a b) (hX : ∀ post' : SX → Prop, post' (fu2, nk2, lv2, qa2, qz2, ec2, pn2, st2, kb2, ch2, kw2, K2, lx2, bo2, lk2, oc2, eN2, eV2, U2, F2, Ww2, Q2, os2, ps2, pc2, pw2, rd2, wr2, S2, pr2, P2, Z2, gx2, R2, L2, D2, bh2, O2) → wpX_print post' (fu, nk, lv, qa, qz, ec, pn, st, kb, ch, kw, K, lx, bo, lk, oc, eN, eV, U, F, Ww, Q, os, ps, pc, pw, rd, wr, S, pr, upd P p (P p + 1), Z, gx, R, L, D, bh, O) (R (4 * p + a))) (h : post (fu2, nk2, lv2, qa2, qz2, ec2, pn2, st2, kb2, ch2, kw2, K2, lx2, bo2, lk2, oc2, eN2, eV2, U2, F2, Ww2, Q2, os2, ps2, pc2, pw2, rd2, wr2, S2, pr2, P2, Z2, gx2, R2, L2, D2, bh2, O2)) : wpX_execute post (fu, nk, lv, qa, qz, ec, pn, st, kb, ch, kw, K, lx, bo, lk, oc, eN, eV, U, F, Ww, Q, os, ps, pc, pw, rd, wr, S, pr, P, Z, gx, R, L, D, bh, O) (nI p) w := by
  obtain ⟨ho, ha, hb, _, ha4, hb4⟩ := hD
  have eia : 4 * nI p + nI a = nI (4 * p + a) := by rw [zi_m4, nI_add]
  have eib : 4 * nI p + nI b = nI (4 * p + b) := by rw [zi_m4, nI_add]
  refine nm_r ho (nm_r ha (nm_r hb (nm_e ?_)))
  rw [eia, eib, zcl (f := R) (i := 4 * p + a) (by omega), zcl (f := R) (i := 4 * p + b) (by omega), zcl (f := P) (i := p) (by omega), nI_clamp (n := p) (by omega)]
  refine ⟨vp_in_nI (by omega) (by decide), nm_e ⟨vp_in_nI (by omega) (by decide), nm_e ⟨vp_in_nI hp (by decide), vp_in_nI hp (by decide), nm_e ?_⟩⟩⟩
  exact br_f (by decide) (br_t (by decide) (br_t (by decide) (br_f (by decide) (br_f (by decide) (br_f (by decide) (br_f (by decide) (br_t (by decide) (hX _ h))))))))
theorem xe_26 {post : SX → Prop} {p a b : Nat} {w : Int32} (hp : p < 5) (hD : zw_D w 26 a b) (h : post (fu, nk, lv, qa, qz, ec, pn, st, kb, ch, kw, K, lx, bo, lk, oc, eN, eV, U, F, Ww, Q, os, ps, pc, pw, rd, wr, S, pr, upd P p (P p + 1), Z, gx, upd R (4 * p + a) (nI p), L, D, bh, O)) : wpX_execute post (fu, nk, lv, qa, qz, ec, pn, st, kb, ch, kw, K, lx, bo, lk, oc, eN, eV, U, F, Ww, Q, os, ps, pc, pw, rd, wr, S, pr, P, Z, gx, R, L, D, bh, O) (nI p) w := by
  obtain ⟨ho, ha, hb, _, ha4, hb4⟩ := hD
  have eia : 4 * nI p + nI a = nI (4 * p + a) := by rw [zi_m4, nI_add]
  have eib : 4 * nI p + nI b = nI (4 * p + b) := by rw [zi_m4, nI_add]
  refine nm_r ho (nm_r ha (nm_r hb (nm_e ?_)))
  rw [eia, eib, zcl (f := R) (i := 4 * p + a) (by omega), zcl (f := R) (i := 4 * p + b) (by omega), zcl (f := P) (i := p) (by omega), nI_clamp (n := p) (by omega)]
  refine ⟨vp_in_nI (by omega) (by decide), nm_e ⟨vp_in_nI (by omega) (by decide), nm_e ⟨vp_in_nI hp (by decide), vp_in_nI hp (by decide), nm_e ?_⟩⟩⟩
  rw [nI_clamp (n := 4 * p + a) (by omega)]
  exact br_f (by decide) (br_t (by decide) (br_t (by decide) (br_f (by decide) (br_f (by decide) (br_f (by decide) (br_f (by decide) (br_f (by decide) (br_t (by decide) (⟨vp_in_nI (by omega) (by decide), nm_e h⟩)))))))))
theorem xe_27 {post : SX → Prop} {p a b : Nat} {w : Int32} (hp : p < 5) (hD : zw_D w 27 a b) {r : Int32} (hX : ∀ post' : Int32 → Prop, post' r → wpX_sizeOf post' (fu, nk, lv, qa, qz, ec, pn, st, kb, ch, kw, K, lx, bo, lk, oc, eN, eV, U, F, Ww, Q, os, ps, pc, pw, rd, wr, S, pr, upd P p (P p + 1), Z, gx, R, L, D, bh, O) (nI p) (R (4 * p + a))) (h : post (fu, nk, lv, qa, qz, ec, pn, st, kb, ch, kw, K, lx, bo, lk, oc, eN, eV, U, F, Ww, Q, os, ps, pc, pw, rd, wr, S, pr, upd P p (P p + 1), Z, gx, upd R (4 * p + a) r, L, D, bh, O)) : wpX_execute post (fu, nk, lv, qa, qz, ec, pn, st, kb, ch, kw, K, lx, bo, lk, oc, eN, eV, U, F, Ww, Q, os, ps, pc, pw, rd, wr, S, pr, P, Z, gx, R, L, D, bh, O) (nI p) w := by
  obtain ⟨ho, ha, hb, _, ha4, hb4⟩ := hD
  have eia : 4 * nI p + nI a = nI (4 * p + a) := by rw [zi_m4, nI_add]
  have eib : 4 * nI p + nI b = nI (4 * p + b) := by rw [zi_m4, nI_add]
  refine nm_r ho (nm_r ha (nm_r hb (nm_e ?_)))
  rw [eia, eib, zcl (f := R) (i := 4 * p + a) (by omega), zcl (f := R) (i := 4 * p + b) (by omega), zcl (f := P) (i := p) (by omega), nI_clamp (n := p) (by omega)]
  refine ⟨vp_in_nI (by omega) (by decide), nm_e ⟨vp_in_nI (by omega) (by decide), nm_e ⟨vp_in_nI hp (by decide), vp_in_nI hp (by decide), nm_e ?_⟩⟩⟩
  rw [nI_clamp (n := 4 * p + a) (by omega)]
  exact br_f (by decide) (br_t (by decide) (br_t (by decide) (br_f (by decide) (br_f (by decide) (br_f (by decide) (br_f (by decide) (br_f (by decide) (br_f (by decide) (br_t (by decide) (hX _ ⟨vp_in_nI (by omega) (by decide), nm_e h⟩))))))))))
theorem xe_25 {post : SX → Prop} {p a b : Nat} {w : Int32} (hp : p < 5) (hD : zw_D w 25 a b) (h : post (fu, nk, lv, qa, qz, ec, pn, st, kb, ch, kw, K, lx, bo, lk, oc, eN, eV, U, F, Ww, Q, os, ps, pc, pw, rd, wr, S, pr, upd P p (P p + 1), Z, gx, R, L, D, bh, O)) : wpX_execute post (fu, nk, lv, qa, qz, ec, pn, st, kb, ch, kw, K, lx, bo, lk, oc, eN, eV, U, F, Ww, Q, os, ps, pc, pw, rd, wr, S, pr, P, Z, gx, R, L, D, bh, O) (nI p) w := by
  obtain ⟨ho, ha, hb, _, ha4, hb4⟩ := hD
  have eia : 4 * nI p + nI a = nI (4 * p + a) := by rw [zi_m4, nI_add]
  have eib : 4 * nI p + nI b = nI (4 * p + b) := by rw [zi_m4, nI_add]
  refine nm_r ho (nm_r ha (nm_r hb (nm_e ?_)))
  rw [eia, eib, zcl (f := R) (i := 4 * p + a) (by omega), zcl (f := R) (i := 4 * p + b) (by omega), zcl (f := P) (i := p) (by omega), nI_clamp (n := p) (by omega)]
  refine ⟨vp_in_nI (by omega) (by decide), nm_e ⟨vp_in_nI (by omega) (by decide), nm_e ⟨vp_in_nI hp (by decide), vp_in_nI hp (by decide), nm_e ?_⟩⟩⟩
  exact br_f (by decide) (br_t (by decide) (br_t (by decide) (br_f (by decide) (br_f (by decide) (br_f (by decide) (br_f (by decide) (br_f (by decide) (br_f (by decide) (br_f (by decide) (br_f (by decide) (br_f (by decide) (br_t (by decide) (h)))))))))))))
theorem xe_29 {post : SX → Prop} {p a b : Nat} {w : Int32} (hp : p < 5) (hD : zw_D w 29 a b) (h : post (fu, nk, lv, qa, qz, ec, pn, st, kb, ch, kw, K, lx, bo, lk, oc, eN, eV, U, F, Ww, Q, os, ps, pc, pw, rd, wr, S, pr, upd P p (P p + 1), Z, gx, R, L, D, bh, O)) : wpX_execute post (fu, nk, lv, qa, qz, ec, pn, st, kb, ch, kw, K, lx, bo, lk, oc, eN, eV, U, F, Ww, Q, os, ps, pc, pw, rd, wr, S, pr, P, Z, gx, R, L, D, bh, O) (nI p) w := by
  obtain ⟨ho, ha, hb, _, ha4, hb4⟩ := hD
  have eia : 4 * nI p + nI a = nI (4 * p + a) := by rw [zi_m4, nI_add]
  have eib : 4 * nI p + nI b = nI (4 * p + b) := by rw [zi_m4, nI_add]
  refine nm_r ho (nm_r ha (nm_r hb (nm_e ?_)))
  rw [eia, eib, zcl (f := R) (i := 4 * p + a) (by omega), zcl (f := R) (i := 4 * p + b) (by omega), zcl (f := P) (i := p) (by omega), nI_clamp (n := p) (by omega)]
  refine ⟨vp_in_nI (by omega) (by decide), nm_e ⟨vp_in_nI (by omega) (by decide), nm_e ⟨vp_in_nI hp (by decide), vp_in_nI hp (by decide), nm_e ?_⟩⟩⟩
  exact br_f (by decide) (br_t (by decide) (br_t (by decide) (br_f (by decide) (br_f (by decide) (br_f (by decide) (br_f (by decide) (br_f (by decide) (br_f (by decide) (br_f (by decide) (br_f (by decide) (br_t (by decide) (h))))))))))))
theorem xe_30 {post : SX → Prop} {p a b : Nat} {w : Int32} (hp : p < 5) (hD : zw_D w 30 a b) (h : post (fu, nk, lv, qa, qz, ec, pn, st, kb, ch, kw, K, lx, bo, lk, oc, eN, eV, U, F, Ww, Q, os, ps, pc, pw, rd, wr, S, pr, upd P p (P p + 1), Z, gx, R, L, D, bh, O)) : wpX_execute post (fu, nk, lv, qa, qz, ec, pn, st, kb, ch, kw, K, lx, bo, lk, oc, eN, eV, U, F, Ww, Q, os, ps, pc, pw, rd, wr, S, pr, P, Z, gx, R, L, D, bh, O) (nI p) w := by
  obtain ⟨ho, ha, hb, _, ha4, hb4⟩ := hD
  have eia : 4 * nI p + nI a = nI (4 * p + a) := by rw [zi_m4, nI_add]
  have eib : 4 * nI p + nI b = nI (4 * p + b) := by rw [zi_m4, nI_add]
  refine nm_r ho (nm_r ha (nm_r hb (nm_e ?_)))
  rw [eia, eib, zcl (f := R) (i := 4 * p + a) (by omega), zcl (f := R) (i := 4 * p + b) (by omega), zcl (f := P) (i := p) (by omega), nI_clamp (n := p) (by omega)]
  refine ⟨vp_in_nI (by omega) (by decide), nm_e ⟨vp_in_nI (by omega) (by decide), nm_e ⟨vp_in_nI hp (by decide), vp_in_nI hp (by decide), nm_e ?_⟩⟩⟩
  exact br_f (by decide) (br_t (by decide) (br_t (by decide) (br_f (by decide) (br_f (by decide) (br_f (by decide) (br_f (by decide) (br_f (by decide) (br_f (by decide) (br_f (by decide) (br_f (by decide) (br_t (by decide) (h))))))))))))
theorem xe_31 {post : SX → Prop} {p a b : Nat} {w : Int32} (hp : p < 5) (hD : zw_D w 31 a b) (h : post (fu, nk, lv, qa, qz, ec, pn, st, kb, ch, kw, K, lx, bo, lk, oc, eN, eV, U, F, Ww, Q, os, ps, pc, pw, rd, wr, S, pr, upd P p (P p + 1), Z, gx, R, L, D, bh, O)) : wpX_execute post (fu, nk, lv, qa, qz, ec, pn, st, kb, ch, kw, K, lx, bo, lk, oc, eN, eV, U, F, Ww, Q, os, ps, pc, pw, rd, wr, S, pr, P, Z, gx, R, L, D, bh, O) (nI p) w := by
  obtain ⟨ho, ha, hb, _, ha4, hb4⟩ := hD
  have eia : 4 * nI p + nI a = nI (4 * p + a) := by rw [zi_m4, nI_add]
  have eib : 4 * nI p + nI b = nI (4 * p + b) := by rw [zi_m4, nI_add]
  refine nm_r ho (nm_r ha (nm_r hb (nm_e ?_)))
  rw [eia, eib, zcl (f := R) (i := 4 * p + a) (by omega), zcl (f := R) (i := 4 * p + b) (by omega), zcl (f := P) (i := p) (by omega), nI_clamp (n := p) (by omega)]
  refine ⟨vp_in_nI (by omega) (by decide), nm_e ⟨vp_in_nI (by omega) (by decide), nm_e ⟨vp_in_nI hp (by decide), vp_in_nI hp (by decide), nm_e ?_⟩⟩⟩
  exact br_f (by decide) (br_t (by decide) (br_t (by decide) (br_f (by decide) (br_f (by decide) (br_f (by decide) (br_f (by decide) (br_f (by decide) (br_f (by decide) (br_f (by decide) (br_f (by decide) (br_t (by decide) (h))))))))))))
theorem xk_no {post : SX → Prop} {p : Nat} {g t : Int32} (hp : p < 5) (hg : g = 0) (h : post (fu, nk, lv, qa, qz, ec, pn, st, kb, ch, kw, K, lx, bo, lk, oc, eN, eV, U, F, Ww, Q, os, ps, pc, pw, rd, wr, S, pr, P, Z, gx, upd R (4 * p + 3) (-1), L, D, bh, O)) : wX_callKernel_274 post (nI p) g t fu nk lv qa qz ec pn st kb ch kw K lx bo lk oc eN eV U F Ww Q os ps pc pw rd wr S pr P Z gx R L D bh O := by
  have ei : 4 * nI p + 3 = nI (4 * p + 3) := by rw [zi_m4, zi_a3]
  unfold wX_callKernel_274
  rw [ei, nI_clamp (by omega)]
  exact br_t hg ⟨vp_in_nI (by omega) (by decide), nm_e h⟩
theorem xk_t {post : SX → Prop} {p : Nat} {g : Int32} (hp : p < 5) (hg : ¬ g = 0) (h : post (fu, nk, lv, qa, qz, ec, pn, st, kb, ch, kw, K, lx, bo, lk, oc, eN, eV, U, F, Ww, Q, os, ps, pc, pw, rd, wr, S, pr, P, Z, gx, upd R (4 * p + 3) 1, L, D, bh, O)) : wX_callKernel_274 post (nI p) g 1 fu nk lv qa qz ec pn st kb ch kw K lx bo lk oc eN eV U F Ww Q os ps pc pw rd wr S pr P Z gx R L D bh O := by
  have ei : 4 * nI p + 3 = nI (4 * p + 3) := by rw [zi_m4, zi_a3]
  unfold wX_callKernel_274
  rw [ei, nI_clamp (by omega)]
  exact br_f hg (br_f (by decide) ⟨vp_in_nI (by omega) (by decide), nm_e h⟩)
theorem xk_q {post : SX → Prop} {p : Nat} {g : Int32} (hg : ¬ g = 0) (h : post (fu, nk, lv, qa, qz, ec, pn, st, kb, ch, kw, K, lx, bo, lk, oc, eN, eV, U, F, Ww, Q, os, ps, pc, pw, rd, wr, S, pr, P, Z, gx, R, L, D, bh, O)) : wX_callKernel_274 post (nI p) g 0 fu nk lv qa qz ec pn st kb ch kw K lx bo lk oc eN eV U F Ww Q os ps pc pw rd wr S pr P Z gx R L D bh O := br_f hg (br_t rfl h)
theorem xe_12 {post : SX → Prop} {p a b : Nat} {w : Int32} (hp : p < 5) (hD : zw_D w 12 a b) {g : Int32} (hX : ∀ post' : Int32 → SX → Prop, post' g (fu2, nk2, lv2, qa2, qz2, ec2, pn2, st2, kb2, ch2, kw2, K2, lx2, bo2, lk2, oc2, eN2, eV2, U2, F2, Ww2, Q2, os2, ps2, pc2, pw2, rd2, wr2, S2, pr2, P2, Z2, gx2, R2, L2, D2, bh2, O2) → wpX_loadNamed post' (fu, nk, lv, qa, qz, ec, pn, st, kb, ch, kw, K, lx, bo, lk, oc, eN, eV, U, F, Ww, Q, os, ps, pc, pw, rd, wr, S, pr, upd P p (P p + 1), Z, gx, R, L, D, bh, O) (nI p) (R (4 * p + a))) (h0 : g = 0 → post (fu2, nk2, lv2, qa2, qz2, ec2, pn2, st2, kb2, ch2, kw2, K2, lx2, bo2, lk2, oc2, eN2, eV2, U2, F2, Ww2, Q2, os2, ps2, pc2, pw2, rd2, wr2, S2, pr2, P2, Z2, gx2, upd R2 (4 * p + 3) (-1), L2, D2, bh2, O2)) (h1 : ¬ g = 0 → post (fu2, nk2, lv2, qa2, qz2, ec2, pn2, st2, kb2, ch2, kw2, K2, lx2, bo2, lk2, oc2, eN2, eV2, U2, F2, Ww2, Q2, os2, ps2, pc2, pw2, rd2, wr2, S2, pr2, P2, Z2, gx2, R2, L2, D2, bh2, O2)) : wpX_execute post (fu, nk, lv, qa, qz, ec, pn, st, kb, ch, kw, K, lx, bo, lk, oc, eN, eV, U, F, Ww, Q, os, ps, pc, pw, rd, wr, S, pr, P, Z, gx, R, L, D, bh, O) (nI p) w := by
  obtain ⟨ho, ha, hb, _, ha4, hb4⟩ := hD
  have eia : 4 * nI p + nI a = nI (4 * p + a) := by rw [zi_m4, nI_add]
  have eib : 4 * nI p + nI b = nI (4 * p + b) := by rw [zi_m4, nI_add]
  refine nm_r ho (nm_r ha (nm_r hb (nm_e ?_)))
  rw [eia, eib, zcl (f := R) (i := 4 * p + a) (by omega), zcl (f := R) (i := 4 * p + b) (by omega), zcl (f := P) (i := p) (by omega), nI_clamp (n := p) (by omega)]
  refine ⟨vp_in_nI (by omega) (by decide), nm_e ⟨vp_in_nI (by omega) (by decide), nm_e ⟨vp_in_nI hp (by decide), vp_in_nI hp (by decide), nm_e ?_⟩⟩⟩
  refine br_f (by decide) (br_t (by decide) (br_t (by decide) (br_f (by decide) (br_f (by decide) (br_f (by decide) (br_f (by decide) (br_f (by decide) (br_f (by decide) (br_f (by decide) (br_f (by decide) (br_f (by decide) (br_f (by decide) (?_)))))))))))))
  refine ⟨by rw [eia]; exact vp_in_nI (by omega) (by decide), ?_⟩
  rw [eia, eib, zcl (f := R) (i := 4 * p + a) (by omega), zcl (f := R) (i := 4 * p + b) (by omega)]
  refine nm_e ⟨vp_in_nI (by omega) (by decide), nm_e ?_⟩
  refine br_t (by decide) (hX _ ?_)
  rcases Classical.em (g = 0) with hg | hg
  · exact br_f (by decide) (br_t (by decide) (xk_no hp hg (h0 hg)))
  · exact br_f (by decide) (br_t (by decide) (xk_q hg (h1 hg)))
theorem xe_13 {post : SX → Prop} {p a b : Nat} {w : Int32} (hp : p < 5) (hD : zw_D w 13 a b) {g : Int32} (hX : ∀ post' : Int32 → SX → Prop, post' g (fu2, nk2, lv2, qa2, qz2, ec2, pn2, st2, kb2, ch2, kw2, K2, lx2, bo2, lk2, oc2, eN2, eV2, U2, F2, Ww2, Q2, os2, ps2, pc2, pw2, rd2, wr2, S2, pr2, P2, Z2, gx2, R2, L2, D2, bh2, O2) → wpX_open post' (fu, nk, lv, qa, qz, ec, pn, st, kb, ch, kw, K, lx, bo, lk, oc, eN, eV, U, F, Ww, Q, os, ps, pc, pw, rd, wr, S, pr, upd P p (P p + 1), Z, gx, R, L, D, bh, O) (nI p) (nI a) (R (4 * p + a)) ((w >>> ((9 : Int32) &&& 31)) &&& 3)) (h0 : g = 0 → post (fu2, nk2, lv2, qa2, qz2, ec2, pn2, st2, kb2, ch2, kw2, K2, lx2, bo2, lk2, oc2, eN2, eV2, U2, F2, Ww2, Q2, os2, ps2, pc2, pw2, rd2, wr2, S2, pr2, P2, Z2, gx2, upd R2 (4 * p + 3) (-1), L2, D2, bh2, O2)) (h1 : ¬ g = 0 → post (fu2, nk2, lv2, qa2, qz2, ec2, pn2, st2, kb2, ch2, kw2, K2, lx2, bo2, lk2, oc2, eN2, eV2, U2, F2, Ww2, Q2, os2, ps2, pc2, pw2, rd2, wr2, S2, pr2, P2, Z2, gx2, R2, L2, D2, bh2, O2)) : wpX_execute post (fu, nk, lv, qa, qz, ec, pn, st, kb, ch, kw, K, lx, bo, lk, oc, eN, eV, U, F, Ww, Q, os, ps, pc, pw, rd, wr, S, pr, P, Z, gx, R, L, D, bh, O) (nI p) w := by
  obtain ⟨ho, ha, hb, _, ha4, hb4⟩ := hD
  have eia : 4 * nI p + nI a = nI (4 * p + a) := by rw [zi_m4, nI_add]
  have eib : 4 * nI p + nI b = nI (4 * p + b) := by rw [zi_m4, nI_add]
  refine nm_r ho (nm_r ha (nm_r hb (nm_e ?_)))
  rw [eia, eib, zcl (f := R) (i := 4 * p + a) (by omega), zcl (f := R) (i := 4 * p + b) (by omega), zcl (f := P) (i := p) (by omega), nI_clamp (n := p) (by omega)]
  refine ⟨vp_in_nI (by omega) (by decide), nm_e ⟨vp_in_nI (by omega) (by decide), nm_e ⟨vp_in_nI hp (by decide), vp_in_nI hp (by decide), nm_e ?_⟩⟩⟩
  refine br_f (by decide) (br_t (by decide) (br_t (by decide) (br_f (by decide) (br_f (by decide) (br_f (by decide) (br_f (by decide) (br_f (by decide) (br_f (by decide) (br_f (by decide) (br_f (by decide) (br_f (by decide) (br_f (by decide) (?_)))))))))))))
  refine ⟨by rw [eia]; exact vp_in_nI (by omega) (by decide), ?_⟩
  rw [eia, eib, zcl (f := R) (i := 4 * p + a) (by omega), zcl (f := R) (i := 4 * p + b) (by omega)]
  refine nm_e ⟨vp_in_nI (by omega) (by decide), nm_e ?_⟩
  refine br_f (by decide) (br_t (by decide) (hX _ ?_))
  rcases Classical.em (g = 0) with hg | hg
  · exact br_f (by decide) (br_t (by decide) (xk_no hp hg (h0 hg)))
  · exact br_f (by decide) (br_t (by decide) (xk_q hg (h1 hg)))
theorem xe_14 {post : SX → Prop} {p a b : Nat} {w : Int32} (hp : p < 5) (hD : zw_D w 14 a b) {g : Int32} (hX : ∀ post' : Int32 → SX → Prop, post' g (fu2, nk2, lv2, qa2, qz2, ec2, pn2, st2, kb2, ch2, kw2, K2, lx2, bo2, lk2, oc2, eN2, eV2, U2, F2, Ww2, Q2, os2, ps2, pc2, pw2, rd2, wr2, S2, pr2, P2, Z2, gx2, R2, L2, D2, bh2, O2) → wpX_close post' (fu, nk, lv, qa, qz, ec, pn, st, kb, ch, kw, K, lx, bo, lk, oc, eN, eV, U, F, Ww, Q, os, ps, pc, pw, rd, wr, S, pr, upd P p (P p + 1), Z, gx, R, L, D, bh, O) (nI p) (R (4 * p + b))) (h0 : g = 0 → post (fu2, nk2, lv2, qa2, qz2, ec2, pn2, st2, kb2, ch2, kw2, K2, lx2, bo2, lk2, oc2, eN2, eV2, U2, F2, Ww2, Q2, os2, ps2, pc2, pw2, rd2, wr2, S2, pr2, P2, Z2, gx2, upd R2 (4 * p + 3) (-1), L2, D2, bh2, O2)) (h1 : ¬ g = 0 → post (fu2, nk2, lv2, qa2, qz2, ec2, pn2, st2, kb2, ch2, kw2, K2, lx2, bo2, lk2, oc2, eN2, eV2, U2, F2, Ww2, Q2, os2, ps2, pc2, pw2, rd2, wr2, S2, pr2, P2, Z2, gx2, upd R2 (4 * p + 3) 1, L2, D2, bh2, O2)) : wpX_execute post (fu, nk, lv, qa, qz, ec, pn, st, kb, ch, kw, K, lx, bo, lk, oc, eN, eV, U, F, Ww, Q, os, ps, pc, pw, rd, wr, S, pr, P, Z, gx, R, L, D, bh, O) (nI p) w := by
  obtain ⟨ho, ha, hb, _, ha4, hb4⟩ := hD
  have eia : 4 * nI p + nI a = nI (4 * p + a) := by rw [zi_m4, nI_add]
  have eib : 4 * nI p + nI b = nI (4 * p + b) := by rw [zi_m4, nI_add]
  refine nm_r ho (nm_r ha (nm_r hb (nm_e ?_)))
  rw [eia, eib, zcl (f := R) (i := 4 * p + a) (by omega), zcl (f := R) (i := 4 * p + b) (by omega), zcl (f := P) (i := p) (by omega), nI_clamp (n := p) (by omega)]
  refine ⟨vp_in_nI (by omega) (by decide), nm_e ⟨vp_in_nI (by omega) (by decide), nm_e ⟨vp_in_nI hp (by decide), vp_in_nI hp (by decide), nm_e ?_⟩⟩⟩
  refine br_f (by decide) (br_t (by decide) (br_t (by decide) (br_f (by decide) (br_f (by decide) (br_f (by decide) (br_f (by decide) (br_f (by decide) (br_f (by decide) (br_f (by decide) (br_f (by decide) (br_f (by decide) (br_f (by decide) (?_)))))))))))))
  refine ⟨by rw [eia]; exact vp_in_nI (by omega) (by decide), ?_⟩
  rw [eia, eib, zcl (f := R) (i := 4 * p + a) (by omega), zcl (f := R) (i := 4 * p + b) (by omega)]
  refine nm_e ⟨vp_in_nI (by omega) (by decide), nm_e ?_⟩
  refine br_f (by decide) (br_f (by decide) (br_t (by decide) (hX _ ?_)))
  rcases Classical.em (g = 0) with hg | hg
  · exact br_t (by decide) (xk_no hp hg (h0 hg))
  · exact br_t (by decide) (xk_t hp hg (h1 hg))
theorem xe_17 {post : SX → Prop} {p a b : Nat} {w : Int32} (hp : p < 5) (hD : zw_D w 17 a b) {g : Int32} (hX : ∀ post' : Int32 → SX → Prop, post' g (fu2, nk2, lv2, qa2, qz2, ec2, pn2, st2, kb2, ch2, kw2, K2, lx2, bo2, lk2, oc2, eN2, eV2, U2, F2, Ww2, Q2, os2, ps2, pc2, pw2, rd2, wr2, S2, pr2, P2, Z2, gx2, R2, L2, D2, bh2, O2) → wpX_makePipe post' (fu, nk, lv, qa, qz, ec, pn, st, kb, ch, kw, K, lx, bo, lk, oc, eN, eV, U, F, Ww, Q, os, ps, pc, pw, rd, wr, S, pr, upd P p (P p + 1), Z, gx, R, L, D, bh, O) (nI p) (nI a) (nI b)) (h0 : g = 0 → post (fu2, nk2, lv2, qa2, qz2, ec2, pn2, st2, kb2, ch2, kw2, K2, lx2, bo2, lk2, oc2, eN2, eV2, U2, F2, Ww2, Q2, os2, ps2, pc2, pw2, rd2, wr2, S2, pr2, P2, Z2, gx2, upd R2 (4 * p + 3) (-1), L2, D2, bh2, O2)) (h1 : ¬ g = 0 → post (fu2, nk2, lv2, qa2, qz2, ec2, pn2, st2, kb2, ch2, kw2, K2, lx2, bo2, lk2, oc2, eN2, eV2, U2, F2, Ww2, Q2, os2, ps2, pc2, pw2, rd2, wr2, S2, pr2, P2, Z2, gx2, R2, L2, D2, bh2, O2)) : wpX_execute post (fu, nk, lv, qa, qz, ec, pn, st, kb, ch, kw, K, lx, bo, lk, oc, eN, eV, U, F, Ww, Q, os, ps, pc, pw, rd, wr, S, pr, P, Z, gx, R, L, D, bh, O) (nI p) w := by
  obtain ⟨ho, ha, hb, _, ha4, hb4⟩ := hD
  have eia : 4 * nI p + nI a = nI (4 * p + a) := by rw [zi_m4, nI_add]
  have eib : 4 * nI p + nI b = nI (4 * p + b) := by rw [zi_m4, nI_add]
  refine nm_r ho (nm_r ha (nm_r hb (nm_e ?_)))
  rw [eia, eib, zcl (f := R) (i := 4 * p + a) (by omega), zcl (f := R) (i := 4 * p + b) (by omega), zcl (f := P) (i := p) (by omega), nI_clamp (n := p) (by omega)]
  refine ⟨vp_in_nI (by omega) (by decide), nm_e ⟨vp_in_nI (by omega) (by decide), nm_e ⟨vp_in_nI hp (by decide), vp_in_nI hp (by decide), nm_e ?_⟩⟩⟩
  refine br_f (by decide) (br_t (by decide) (br_t (by decide) (br_f (by decide) (br_f (by decide) (br_f (by decide) (br_f (by decide) (br_f (by decide) (br_f (by decide) (br_f (by decide) (br_f (by decide) (br_f (by decide) (br_f (by decide) (?_)))))))))))))
  refine ⟨by rw [eia]; exact vp_in_nI (by omega) (by decide), ?_⟩
  rw [eia, eib, zcl (f := R) (i := 4 * p + a) (by omega), zcl (f := R) (i := 4 * p + b) (by omega)]
  refine nm_e ⟨vp_in_nI (by omega) (by decide), nm_e ?_⟩
  refine br_f (by decide) (br_f (by decide) (br_f (by decide) (br_t (by decide) (hX _ ?_))))
  rcases Classical.em (g = 0) with hg | hg
  · exact br_f (by decide) (br_t (by decide) (xk_no hp hg (h0 hg)))
  · exact br_f (by decide) (br_t (by decide) (xk_q hg (h1 hg)))
theorem xe_18 {post : SX → Prop} {p a b : Nat} {w : Int32} (hp : p < 5) (hD : zw_D w 18 a b) {g : Int32} (hX : ∀ post' : Int32 → SX → Prop, post' g (fu2, nk2, lv2, qa2, qz2, ec2, pn2, st2, kb2, ch2, kw2, K2, lx2, bo2, lk2, oc2, eN2, eV2, U2, F2, Ww2, Q2, os2, ps2, pc2, pw2, rd2, wr2, S2, pr2, P2, Z2, gx2, R2, L2, D2, bh2, O2) → wpX_copyEnd post' (fu, nk, lv, qa, qz, ec, pn, st, kb, ch, kw, K, lx, bo, lk, oc, eN, eV, U, F, Ww, Q, os, ps, pc, pw, rd, wr, S, pr, upd P p (P p + 1), Z, gx, R, L, D, bh, O) (nI p) (nI a) (R (4 * p + b))) (h0 : g = 0 → post (fu2, nk2, lv2, qa2, qz2, ec2, pn2, st2, kb2, ch2, kw2, K2, lx2, bo2, lk2, oc2, eN2, eV2, U2, F2, Ww2, Q2, os2, ps2, pc2, pw2, rd2, wr2, S2, pr2, P2, Z2, gx2, upd R2 (4 * p + 3) (-1), L2, D2, bh2, O2)) (h1 : ¬ g = 0 → post (fu2, nk2, lv2, qa2, qz2, ec2, pn2, st2, kb2, ch2, kw2, K2, lx2, bo2, lk2, oc2, eN2, eV2, U2, F2, Ww2, Q2, os2, ps2, pc2, pw2, rd2, wr2, S2, pr2, P2, Z2, gx2, R2, L2, D2, bh2, O2)) : wpX_execute post (fu, nk, lv, qa, qz, ec, pn, st, kb, ch, kw, K, lx, bo, lk, oc, eN, eV, U, F, Ww, Q, os, ps, pc, pw, rd, wr, S, pr, P, Z, gx, R, L, D, bh, O) (nI p) w := by
  obtain ⟨ho, ha, hb, _, ha4, hb4⟩ := hD
  have eia : 4 * nI p + nI a = nI (4 * p + a) := by rw [zi_m4, nI_add]
  have eib : 4 * nI p + nI b = nI (4 * p + b) := by rw [zi_m4, nI_add]
  refine nm_r ho (nm_r ha (nm_r hb (nm_e ?_)))
  rw [eia, eib, zcl (f := R) (i := 4 * p + a) (by omega), zcl (f := R) (i := 4 * p + b) (by omega), zcl (f := P) (i := p) (by omega), nI_clamp (n := p) (by omega)]
  refine ⟨vp_in_nI (by omega) (by decide), nm_e ⟨vp_in_nI (by omega) (by decide), nm_e ⟨vp_in_nI hp (by decide), vp_in_nI hp (by decide), nm_e ?_⟩⟩⟩
  refine br_f (by decide) (br_t (by decide) (br_t (by decide) (br_f (by decide) (br_f (by decide) (br_f (by decide) (br_f (by decide) (br_f (by decide) (br_f (by decide) (br_f (by decide) (br_f (by decide) (br_f (by decide) (br_f (by decide) (?_)))))))))))))
  refine ⟨by rw [eia]; exact vp_in_nI (by omega) (by decide), ?_⟩
  rw [eia, eib, zcl (f := R) (i := 4 * p + a) (by omega), zcl (f := R) (i := 4 * p + b) (by omega)]
  refine nm_e ⟨vp_in_nI (by omega) (by decide), nm_e ?_⟩
  refine br_f (by decide) (br_f (by decide) (br_f (by decide) (br_f (by decide) (br_t (by decide) (hX _ ?_)))))
  rcases Classical.em (g = 0) with hg | hg
  · exact br_f (by decide) (br_t (by decide) (xk_no hp hg (h0 hg)))
  · exact br_f (by decide) (br_t (by decide) (xk_q hg (h1 hg)))
theorem xe_19 {post : SX → Prop} {p a b : Nat} {w : Int32} (hp : p < 5) (hD : zw_D w 19 a b) {g : Int32} (hX : ∀ post' : Int32 → SX → Prop, post' g (fu2, nk2, lv2, qa2, qz2, ec2, pn2, st2, kb2, ch2, kw2, K2, lx2, bo2, lk2, oc2, eN2, eV2, U2, F2, Ww2, Q2, os2, ps2, pc2, pw2, rd2, wr2, S2, pr2, P2, Z2, gx2, R2, L2, D2, bh2, O2) → wpX_seek post' (fu, nk, lv, qa, qz, ec, pn, st, kb, ch, kw, K, lx, bo, lk, oc, eN, eV, U, F, Ww, Q, os, ps, pc, pw, rd, wr, S, pr, upd P p (P p + 1), Z, gx, R, L, D, bh, O) (nI p) (R (4 * p + a)) (R (4 * p + b))) (h0 : g = 0 → post (fu2, nk2, lv2, qa2, qz2, ec2, pn2, st2, kb2, ch2, kw2, K2, lx2, bo2, lk2, oc2, eN2, eV2, U2, F2, Ww2, Q2, os2, ps2, pc2, pw2, rd2, wr2, S2, pr2, P2, Z2, gx2, upd R2 (4 * p + 3) (-1), L2, D2, bh2, O2)) (h1 : ¬ g = 0 → post (fu2, nk2, lv2, qa2, qz2, ec2, pn2, st2, kb2, ch2, kw2, K2, lx2, bo2, lk2, oc2, eN2, eV2, U2, F2, Ww2, Q2, os2, ps2, pc2, pw2, rd2, wr2, S2, pr2, P2, Z2, gx2, upd R2 (4 * p + 3) 1, L2, D2, bh2, O2)) : wpX_execute post (fu, nk, lv, qa, qz, ec, pn, st, kb, ch, kw, K, lx, bo, lk, oc, eN, eV, U, F, Ww, Q, os, ps, pc, pw, rd, wr, S, pr, P, Z, gx, R, L, D, bh, O) (nI p) w := by
  obtain ⟨ho, ha, hb, _, ha4, hb4⟩ := hD
  have eia : 4 * nI p + nI a = nI (4 * p + a) := by rw [zi_m4, nI_add]
  have eib : 4 * nI p + nI b = nI (4 * p + b) := by rw [zi_m4, nI_add]
  refine nm_r ho (nm_r ha (nm_r hb (nm_e ?_)))
  rw [eia, eib, zcl (f := R) (i := 4 * p + a) (by omega), zcl (f := R) (i := 4 * p + b) (by omega), zcl (f := P) (i := p) (by omega), nI_clamp (n := p) (by omega)]
  refine ⟨vp_in_nI (by omega) (by decide), nm_e ⟨vp_in_nI (by omega) (by decide), nm_e ⟨vp_in_nI hp (by decide), vp_in_nI hp (by decide), nm_e ?_⟩⟩⟩
  refine br_f (by decide) (br_t (by decide) (br_t (by decide) (br_f (by decide) (br_f (by decide) (br_f (by decide) (br_f (by decide) (br_f (by decide) (br_f (by decide) (br_f (by decide) (br_f (by decide) (br_f (by decide) (br_f (by decide) (?_)))))))))))))
  refine ⟨by rw [eia]; exact vp_in_nI (by omega) (by decide), ?_⟩
  rw [eia, eib, zcl (f := R) (i := 4 * p + a) (by omega), zcl (f := R) (i := 4 * p + b) (by omega)]
  refine nm_e ⟨vp_in_nI (by omega) (by decide), nm_e ?_⟩
  refine br_f (by decide) (br_f (by decide) (br_f (by decide) (br_f (by decide) (br_f (by decide) (br_t (by decide) (hX _ ?_))))))
  rcases Classical.em (g = 0) with hg | hg
  · exact br_f (by decide) (br_f (by decide) (xk_no hp hg (h0 hg)))
  · exact br_f (by decide) (br_f (by decide) (xk_t hp hg (h1 hg)))
theorem xe_21 {post : SX → Prop} {p a b : Nat} {w : Int32} (hp : p < 5) (hD : zw_D w 21 a b) {g : Int32} (hX : ∀ post' : Int32 → SX → Prop, post' g (fu2, nk2, lv2, qa2, qz2, ec2, pn2, st2, kb2, ch2, kw2, K2, lx2, bo2, lk2, oc2, eN2, eV2, U2, F2, Ww2, Q2, os2, ps2, pc2, pw2, rd2, wr2, S2, pr2, P2, Z2, gx2, R2, L2, D2, bh2, O2) → wpX_go post' (fu, nk, lv, qa, qz, ec, pn, st, kb, ch, kw, K, lx, bo, lk, oc, eN, eV, U, F, Ww, Q, os, ps, pc, pw, rd, wr, S, pr, upd P p (P p + 1), Z, gx, R, L, D, bh, O) (nI p) (R (4 * p + a))) (h0 : g = 0 → post (fu2, nk2, lv2, qa2, qz2, ec2, pn2, st2, kb2, ch2, kw2, K2, lx2, bo2, lk2, oc2, eN2, eV2, U2, F2, Ww2, Q2, os2, ps2, pc2, pw2, rd2, wr2, S2, pr2, P2, Z2, gx2, upd R2 (4 * p + 3) (-1), L2, D2, bh2, O2)) (h1 : ¬ g = 0 → post (fu2, nk2, lv2, qa2, qz2, ec2, pn2, st2, kb2, ch2, kw2, K2, lx2, bo2, lk2, oc2, eN2, eV2, U2, F2, Ww2, Q2, os2, ps2, pc2, pw2, rd2, wr2, S2, pr2, P2, Z2, gx2, upd R2 (4 * p + 3) 1, L2, D2, bh2, O2)) : wpX_execute post (fu, nk, lv, qa, qz, ec, pn, st, kb, ch, kw, K, lx, bo, lk, oc, eN, eV, U, F, Ww, Q, os, ps, pc, pw, rd, wr, S, pr, P, Z, gx, R, L, D, bh, O) (nI p) w := by
  obtain ⟨ho, ha, hb, _, ha4, hb4⟩ := hD
  have eia : 4 * nI p + nI a = nI (4 * p + a) := by rw [zi_m4, nI_add]
  have eib : 4 * nI p + nI b = nI (4 * p + b) := by rw [zi_m4, nI_add]
  refine nm_r ho (nm_r ha (nm_r hb (nm_e ?_)))
  rw [eia, eib, zcl (f := R) (i := 4 * p + a) (by omega), zcl (f := R) (i := 4 * p + b) (by omega), zcl (f := P) (i := p) (by omega), nI_clamp (n := p) (by omega)]
  refine ⟨vp_in_nI (by omega) (by decide), nm_e ⟨vp_in_nI (by omega) (by decide), nm_e ⟨vp_in_nI hp (by decide), vp_in_nI hp (by decide), nm_e ?_⟩⟩⟩
  refine br_f (by decide) (br_t (by decide) (br_t (by decide) (br_f (by decide) (br_f (by decide) (br_f (by decide) (br_f (by decide) (br_f (by decide) (br_f (by decide) (br_f (by decide) (br_f (by decide) (br_f (by decide) (br_f (by decide) (?_)))))))))))))
  refine ⟨by rw [eia]; exact vp_in_nI (by omega) (by decide), ?_⟩
  rw [eia, eib, zcl (f := R) (i := 4 * p + a) (by omega), zcl (f := R) (i := 4 * p + b) (by omega)]
  refine nm_e ⟨vp_in_nI (by omega) (by decide), nm_e ?_⟩
  refine br_f (by decide) (br_f (by decide) (br_f (by decide) (br_f (by decide) (br_f (by decide) (br_f (by decide) (br_f (by decide) (br_t (by decide) (hX _ ?_))))))))
  rcases Classical.em (g = 0) with hg | hg
  · exact br_f (by decide) (br_f (by decide) (xk_no hp hg (h0 hg)))
  · exact br_f (by decide) (br_f (by decide) (xk_t hp hg (h1 hg)))
theorem xe_22 {post : SX → Prop} {p a b : Nat} {w : Int32} (hp : p < 5) (hD : zw_D w 22 a b) {g : Int32} (hX : ∀ post' : Int32 → SX → Prop, post' g (fu2, nk2, lv2, qa2, qz2, ec2, pn2, st2, kb2, ch2, kw2, K2, lx2, bo2, lk2, oc2, eN2, eV2, U2, F2, Ww2, Q2, os2, ps2, pc2, pw2, rd2, wr2, S2, pr2, P2, Z2, gx2, R2, L2, D2, bh2, O2) → wpX_link post' (fu, nk, lv, qa, qz, ec, pn, st, kb, ch, kw, K, lx, bo, lk, oc, eN, eV, U, F, Ww, Q, os, ps, pc, pw, rd, wr, S, pr, upd P p (P p + 1), Z, gx, R, L, D, bh, O) (nI p) (R (4 * p + a)) (R (4 * p + b))) (h0 : g = 0 → post (fu2, nk2, lv2, qa2, qz2, ec2, pn2, st2, kb2, ch2, kw2, K2, lx2, bo2, lk2, oc2, eN2, eV2, U2, F2, Ww2, Q2, os2, ps2, pc2, pw2, rd2, wr2, S2, pr2, P2, Z2, gx2, upd R2 (4 * p + 3) (-1), L2, D2, bh2, O2)) (h1 : ¬ g = 0 → post (fu2, nk2, lv2, qa2, qz2, ec2, pn2, st2, kb2, ch2, kw2, K2, lx2, bo2, lk2, oc2, eN2, eV2, U2, F2, Ww2, Q2, os2, ps2, pc2, pw2, rd2, wr2, S2, pr2, P2, Z2, gx2, upd R2 (4 * p + 3) 1, L2, D2, bh2, O2)) : wpX_execute post (fu, nk, lv, qa, qz, ec, pn, st, kb, ch, kw, K, lx, bo, lk, oc, eN, eV, U, F, Ww, Q, os, ps, pc, pw, rd, wr, S, pr, P, Z, gx, R, L, D, bh, O) (nI p) w := by
  obtain ⟨ho, ha, hb, _, ha4, hb4⟩ := hD
  have eia : 4 * nI p + nI a = nI (4 * p + a) := by rw [zi_m4, nI_add]
  have eib : 4 * nI p + nI b = nI (4 * p + b) := by rw [zi_m4, nI_add]
  refine nm_r ho (nm_r ha (nm_r hb (nm_e ?_)))
  rw [eia, eib, zcl (f := R) (i := 4 * p + a) (by omega), zcl (f := R) (i := 4 * p + b) (by omega), zcl (f := P) (i := p) (by omega), nI_clamp (n := p) (by omega)]
  refine ⟨vp_in_nI (by omega) (by decide), nm_e ⟨vp_in_nI (by omega) (by decide), nm_e ⟨vp_in_nI hp (by decide), vp_in_nI hp (by decide), nm_e ?_⟩⟩⟩
  refine br_f (by decide) (br_t (by decide) (br_t (by decide) (br_f (by decide) (br_f (by decide) (br_f (by decide) (br_f (by decide) (br_f (by decide) (br_f (by decide) (br_f (by decide) (br_f (by decide) (br_f (by decide) (br_f (by decide) (?_)))))))))))))
  refine ⟨by rw [eia]; exact vp_in_nI (by omega) (by decide), ?_⟩
  rw [eia, eib, zcl (f := R) (i := 4 * p + a) (by omega), zcl (f := R) (i := 4 * p + b) (by omega)]
  refine nm_e ⟨vp_in_nI (by omega) (by decide), nm_e ?_⟩
  refine br_f (by decide) (br_f (by decide) (br_f (by decide) (br_f (by decide) (br_f (by decide) (br_f (by decide) (br_f (by decide) (br_f (by decide) (br_t (by decide) (hX _ ?_)))))))))
  rcases Classical.em (g = 0) with hg | hg
  · exact br_f (by decide) (br_f (by decide) (xk_no hp hg (h0 hg)))
  · exact br_f (by decide) (br_f (by decide) (xk_t hp hg (h1 hg)))
theorem xe_23 {post : SX → Prop} {p a b : Nat} {w : Int32} (hp : p < 5) (hD : zw_D w 23 a b) {g : Int32} (hX : ∀ post' : Int32 → SX → Prop, post' g (fu2, nk2, lv2, qa2, qz2, ec2, pn2, st2, kb2, ch2, kw2, K2, lx2, bo2, lk2, oc2, eN2, eV2, U2, F2, Ww2, Q2, os2, ps2, pc2, pw2, rd2, wr2, S2, pr2, P2, Z2, gx2, R2, L2, D2, bh2, O2) → wpX_remove post' (fu, nk, lv, qa, qz, ec, pn, st, kb, ch, kw, K, lx, bo, lk, oc, eN, eV, U, F, Ww, Q, os, ps, pc, pw, rd, wr, S, pr, upd P p (P p + 1), Z, gx, R, L, D, bh, O) (nI p) (R (4 * p + a))) (h0 : g = 0 → post (fu2, nk2, lv2, qa2, qz2, ec2, pn2, st2, kb2, ch2, kw2, K2, lx2, bo2, lk2, oc2, eN2, eV2, U2, F2, Ww2, Q2, os2, ps2, pc2, pw2, rd2, wr2, S2, pr2, P2, Z2, gx2, upd R2 (4 * p + 3) (-1), L2, D2, bh2, O2)) (h1 : ¬ g = 0 → post (fu2, nk2, lv2, qa2, qz2, ec2, pn2, st2, kb2, ch2, kw2, K2, lx2, bo2, lk2, oc2, eN2, eV2, U2, F2, Ww2, Q2, os2, ps2, pc2, pw2, rd2, wr2, S2, pr2, P2, Z2, gx2, upd R2 (4 * p + 3) 1, L2, D2, bh2, O2)) : wpX_execute post (fu, nk, lv, qa, qz, ec, pn, st, kb, ch, kw, K, lx, bo, lk, oc, eN, eV, U, F, Ww, Q, os, ps, pc, pw, rd, wr, S, pr, P, Z, gx, R, L, D, bh, O) (nI p) w := by
  obtain ⟨ho, ha, hb, _, ha4, hb4⟩ := hD
  have eia : 4 * nI p + nI a = nI (4 * p + a) := by rw [zi_m4, nI_add]
  have eib : 4 * nI p + nI b = nI (4 * p + b) := by rw [zi_m4, nI_add]
  refine nm_r ho (nm_r ha (nm_r hb (nm_e ?_)))
  rw [eia, eib, zcl (f := R) (i := 4 * p + a) (by omega), zcl (f := R) (i := 4 * p + b) (by omega), zcl (f := P) (i := p) (by omega), nI_clamp (n := p) (by omega)]
  refine ⟨vp_in_nI (by omega) (by decide), nm_e ⟨vp_in_nI (by omega) (by decide), nm_e ⟨vp_in_nI hp (by decide), vp_in_nI hp (by decide), nm_e ?_⟩⟩⟩
  refine br_f (by decide) (br_t (by decide) (br_t (by decide) (br_f (by decide) (br_f (by decide) (br_f (by decide) (br_f (by decide) (br_f (by decide) (br_f (by decide) (br_f (by decide) (br_f (by decide) (br_f (by decide) (br_f (by decide) (?_)))))))))))))
  refine ⟨by rw [eia]; exact vp_in_nI (by omega) (by decide), ?_⟩
  rw [eia, eib, zcl (f := R) (i := 4 * p + a) (by omega), zcl (f := R) (i := 4 * p + b) (by omega)]
  refine nm_e ⟨vp_in_nI (by omega) (by decide), nm_e ?_⟩
  refine br_f (by decide) (br_f (by decide) (br_f (by decide) (br_f (by decide) (br_f (by decide) (br_f (by decide) (br_f (by decide) (br_f (by decide) (br_f (by decide) (br_t (by decide) (hX _ ?_))))))))))
  rcases Classical.em (g = 0) with hg | hg
  · exact br_f (by decide) (br_f (by decide) (xk_no hp hg (h0 hg)))
  · exact br_f (by decide) (br_f (by decide) (xk_t hp hg (h1 hg)))
theorem xe_28 {post : SX → Prop} {p a b : Nat} {w : Int32} (hp : p < 5) (hD : zw_D w 28 a b) {g : Int32} (hX : ∀ post' : Int32 → SX → Prop, post' g (fu2, nk2, lv2, qa2, qz2, ec2, pn2, st2, kb2, ch2, kw2, K2, lx2, bo2, lk2, oc2, eN2, eV2, U2, F2, Ww2, Q2, os2, ps2, pc2, pw2, rd2, wr2, S2, pr2, P2, Z2, gx2, R2, L2, D2, bh2, O2) → wpX_kill post' (fu, nk, lv, qa, qz, ec, pn, st, kb, ch, kw, K, lx, bo, lk, oc, eN, eV, U, F, Ww, Q, os, ps, pc, pw, rd, wr, S, pr, upd P p (P p + 1), Z, gx, R, L, D, bh, O) (nI p) (R (4 * p + a))) (h0 : g = 0 → post (fu2, nk2, lv2, qa2, qz2, ec2, pn2, st2, kb2, ch2, kw2, K2, lx2, bo2, lk2, oc2, eN2, eV2, U2, F2, Ww2, Q2, os2, ps2, pc2, pw2, rd2, wr2, S2, pr2, P2, Z2, gx2, upd R2 (4 * p + 3) (-1), L2, D2, bh2, O2)) (h1 : ¬ g = 0 → post (fu2, nk2, lv2, qa2, qz2, ec2, pn2, st2, kb2, ch2, kw2, K2, lx2, bo2, lk2, oc2, eN2, eV2, U2, F2, Ww2, Q2, os2, ps2, pc2, pw2, rd2, wr2, S2, pr2, P2, Z2, gx2, upd R2 (4 * p + 3) 1, L2, D2, bh2, O2)) : wpX_execute post (fu, nk, lv, qa, qz, ec, pn, st, kb, ch, kw, K, lx, bo, lk, oc, eN, eV, U, F, Ww, Q, os, ps, pc, pw, rd, wr, S, pr, P, Z, gx, R, L, D, bh, O) (nI p) w := by
  obtain ⟨ho, ha, hb, _, ha4, hb4⟩ := hD
  have eia : 4 * nI p + nI a = nI (4 * p + a) := by rw [zi_m4, nI_add]
  have eib : 4 * nI p + nI b = nI (4 * p + b) := by rw [zi_m4, nI_add]
  refine nm_r ho (nm_r ha (nm_r hb (nm_e ?_)))
  rw [eia, eib, zcl (f := R) (i := 4 * p + a) (by omega), zcl (f := R) (i := 4 * p + b) (by omega), zcl (f := P) (i := p) (by omega), nI_clamp (n := p) (by omega)]
  refine ⟨vp_in_nI (by omega) (by decide), nm_e ⟨vp_in_nI (by omega) (by decide), nm_e ⟨vp_in_nI hp (by decide), vp_in_nI hp (by decide), nm_e ?_⟩⟩⟩
  refine br_f (by decide) (br_t (by decide) (br_t (by decide) (br_f (by decide) (br_f (by decide) (br_f (by decide) (br_f (by decide) (br_f (by decide) (br_f (by decide) (br_f (by decide) (br_f (by decide) (br_f (by decide) (br_f (by decide) (?_)))))))))))))
  refine ⟨by rw [eia]; exact vp_in_nI (by omega) (by decide), ?_⟩
  rw [eia, eib, zcl (f := R) (i := 4 * p + a) (by omega), zcl (f := R) (i := 4 * p + b) (by omega)]
  refine nm_e ⟨vp_in_nI (by omega) (by decide), nm_e ?_⟩
  refine br_f (by decide) (br_f (by decide) (br_f (by decide) (br_f (by decide) (br_f (by decide) (br_f (by decide) (br_f (by decide) (br_f (by decide) (br_f (by decide) (br_f (by decide) (hX _ ?_))))))))))
  rcases Classical.em (g = 0) with hg | hg
  · exact br_f (by decide) (br_f (by decide) (xk_no hp hg (h0 hg)))
  · exact br_f (by decide) (br_f (by decide) (xk_t hp hg (h1 hg)))
theorem xe_20f {post : SX → Prop} {p a b : Nat} {w : Int32} (hp : p < 5) (hD : zw_D w 20 a b) {r : Int32} (hX : ∀ post' : Int32 → Prop, post' r → wpX_find post' (fu, nk, lv, qa, qz, ec, pn, st, kb, ch, kw, K, lx, bo, lk, oc, eN, eV, U, F, Ww, Q, os, ps, pc, pw, rd, wr, S, pr, upd P p (P p + 1), Z, gx, R, L, D, bh, O) (L p) (R (4 * p + a))) (hr : 0 ≤ r) (h : post (fu, nk, lv, qa, qz, ec, pn, st, kb, ch, kw, K, lx, bo, lk, oc, eN, eV, U, F, Ww, Q, os, ps, pc, pw, rd, wr, S, pr, upd P p (P p + 1), Z, gx, upd R (4 * p + 3) (-1), L, D, bh, O)) : wpX_execute post (fu, nk, lv, qa, qz, ec, pn, st, kb, ch, kw, K, lx, bo, lk, oc, eN, eV, U, F, Ww, Q, os, ps, pc, pw, rd, wr, S, pr, P, Z, gx, R, L, D, bh, O) (nI p) w := by
  obtain ⟨ho, ha, hb, _, ha4, hb4⟩ := hD
  have eia : 4 * nI p + nI a = nI (4 * p + a) := by rw [zi_m4, nI_add]
  have eib : 4 * nI p + nI b = nI (4 * p + b) := by rw [zi_m4, nI_add]
  refine nm_r ho (nm_r ha (nm_r hb (nm_e ?_)))
  rw [eia, eib, zcl (f := R) (i := 4 * p + a) (by omega), zcl (f := R) (i := 4 * p + b) (by omega), zcl (f := P) (i := p) (by omega), nI_clamp (n := p) (by omega)]
  refine ⟨vp_in_nI (by omega) (by decide), nm_e ⟨vp_in_nI (by omega) (by decide), nm_e ⟨vp_in_nI hp (by decide), vp_in_nI hp (by decide), nm_e ?_⟩⟩⟩
  refine br_f (by decide) (br_t (by decide) (br_t (by decide) (br_f (by decide) (br_f (by decide) (br_f (by decide) (br_f (by decide) (br_f (by decide) (br_f (by decide) (br_f (by decide) (br_f (by decide) (br_f (by decide) (br_f (by decide) (?_)))))))))))))
  refine ⟨by rw [eia]; exact vp_in_nI (by omega) (by decide), ?_⟩
  rw [eia, eib, zcl (f := R) (i := 4 * p + a) (by omega), zcl (f := R) (i := 4 * p + b) (by omega)]
  refine nm_e ⟨vp_in_nI (by omega) (by decide), nm_e ?_⟩
  rw [zcl (f := L) (i := p) (by omega)]
  refine br_f (by decide) (br_f (by decide) (br_f (by decide) (br_f (by decide) (br_f (by decide) (br_f (by decide) (br_t (by decide) (⟨vp_in_nI hp (by decide), hX _ (br_t hr ?_)⟩)))))))
  exact br_f (by decide) (br_f (by decide) (xk_no hp rfl h))
theorem xe_20n {post : SX → Prop} {p a b : Nat} {w : Int32} (hp : p < 5) (hD : zw_D w 20 a b) {r g : Int32} (hX : ∀ post' : Int32 → Prop, post' r → wpX_find post' (fu, nk, lv, qa, qz, ec, pn, st, kb, ch, kw, K, lx, bo, lk, oc, eN, eV, U, F, Ww, Q, os, ps, pc, pw, rd, wr, S, pr, upd P p (P p + 1), Z, gx, R, L, D, bh, O) (L p) (R (4 * p + a))) (hr : ¬ 0 ≤ r) (hN : ∀ post' : Int32 → SX → Prop, post' g (fu2, nk2, lv2, qa2, qz2, ec2, pn2, st2, kb2, ch2, kw2, K2, lx2, bo2, lk2, oc2, eN2, eV2, U2, F2, Ww2, Q2, os2, ps2, pc2, pw2, rd2, wr2, S2, pr2, P2, Z2, gx2, R2, L2, D2, bh2, O2) → wpX_enterNew post' (fu, nk, lv, qa, qz, ec, pn, st, kb, ch, kw, K, lx, bo, lk, oc, eN, eV, U, F, Ww, Q, os, ps, pc, pw, rd, wr, S, pr, upd P p (P p + 1), Z, gx, R, L, D, bh, O) (L p) (R (4 * p + a)) 2) (h0 : g < 0 → post (fu2, nk2, lv2, qa2, qz2, ec2, pn2, st2, kb2, ch2, kw2, K2, lx2, bo2, lk2, oc2, eN2, eV2, U2, F2, Ww2, Q2, os2, ps2, pc2, pw2, rd2, wr2, S2, pr2, P2, Z2, gx2, upd R2 (4 * p + 3) (-1), L2, D2, bh2, O2)) (h1 : ¬ g < 0 → post (fu2, nk2, lv2, qa2, qz2, ec2, pn2, st2, kb2, ch2, kw2, K2, lx2, bo2, lk2, oc2, eN2, eV2, U2, F2, Ww2, Q2, os2, ps2, pc2, pw2, rd2, wr2, S2, pr2, P2, Z2, gx2, upd R2 (4 * p + 3) 1, L2, D2, bh2, O2)) : wpX_execute post (fu, nk, lv, qa, qz, ec, pn, st, kb, ch, kw, K, lx, bo, lk, oc, eN, eV, U, F, Ww, Q, os, ps, pc, pw, rd, wr, S, pr, P, Z, gx, R, L, D, bh, O) (nI p) w := by
  obtain ⟨ho, ha, hb, _, ha4, hb4⟩ := hD
  have eia : 4 * nI p + nI a = nI (4 * p + a) := by rw [zi_m4, nI_add]
  have eib : 4 * nI p + nI b = nI (4 * p + b) := by rw [zi_m4, nI_add]
  refine nm_r ho (nm_r ha (nm_r hb (nm_e ?_)))
  rw [eia, eib, zcl (f := R) (i := 4 * p + a) (by omega), zcl (f := R) (i := 4 * p + b) (by omega), zcl (f := P) (i := p) (by omega), nI_clamp (n := p) (by omega)]
  refine ⟨vp_in_nI (by omega) (by decide), nm_e ⟨vp_in_nI (by omega) (by decide), nm_e ⟨vp_in_nI hp (by decide), vp_in_nI hp (by decide), nm_e ?_⟩⟩⟩
  refine br_f (by decide) (br_t (by decide) (br_t (by decide) (br_f (by decide) (br_f (by decide) (br_f (by decide) (br_f (by decide) (br_f (by decide) (br_f (by decide) (br_f (by decide) (br_f (by decide) (br_f (by decide) (br_f (by decide) (?_)))))))))))))
  refine ⟨by rw [eia]; exact vp_in_nI (by omega) (by decide), ?_⟩
  rw [eia, eib, zcl (f := R) (i := 4 * p + a) (by omega), zcl (f := R) (i := 4 * p + b) (by omega)]
  refine nm_e ⟨vp_in_nI (by omega) (by decide), nm_e ?_⟩
  rw [zcl (f := L) (i := p) (by omega)]
  refine br_f (by decide) (br_f (by decide) (br_f (by decide) (br_f (by decide) (br_f (by decide) (br_f (by decide) (br_t (by decide) (⟨vp_in_nI hp (by decide), hX _ (br_f hr ⟨vp_in_nI hp (by decide), hN _ ?_⟩)⟩)))))))
  rcases Classical.em (g < 0) with hg | hg
  · refine br_t hg ?_
    exact br_f (by decide) (br_f (by decide) (xk_no hp rfl (h0 hg)))
  · refine br_f hg ?_
    exact br_f (by decide) (br_f (by decide) (xk_t hp (by decide) (h1 hg)))
end
end
section
/-! the reference's execute: one lemma an operation -/
section
variable {qn : Int32} {ec : Int64} {pn go : Int32} {K ly wd E U S py Py Z gy R A L F Ww Q fl pp qy O : Nat → Int32} {qn2 : Int32} {ec2 : Int64} {pn2 go2 : Int32} {K2 ly2 wd2 E2 U2 S2 py2 Py2 Z2 gy2 R2 A2 L2 F2 Ww2 Q2 fl2 pp2 qy2 O2 : Nat → Int32}
theorem y262 {post : Int32 → SY → Prop} {p o : Nat} (hp : p < 5) (hgo : go = 1) (ho : ¬ nI o = 25) (h : post 1 (qn, ec, pn, go, K, ly, wd, E, U, S, py, upd Py p (Py p + 1), Z, gy, R, A, L, F, Ww, Q, fl, pp, qy, O)) : wY_execute_262 post (nI p) (nI o) qn ec pn go K ly wd E U S py Py Z gy R A L F Ww Q fl pp qy O := by
  unfold wY_execute_262
  rw [zcl (f := Py) (by omega), nI_clamp (by omega)]
  exact br_f (by rw [hgo]; decide) ⟨vp_in_nI hp (by decide), vp_in_nI hp (by decide), nm_e (br_f ho h)⟩
theorem y262y {post : Int32 → SY → Prop} {p : Nat} (hp : p < 5) (hgo : go = 1) (h : post 0 (qn, ec, pn, go, K, ly, wd, E, U, S, py, upd Py p (Py p + 1), Z, gy, R, A, L, F, Ww, Q, fl, pp, qy, O)) : wY_execute_262 post (nI p) (nI 25) qn ec pn go K ly wd E U S py Py Z gy R A L F Ww Q fl pp qy O := by
  unfold wY_execute_262
  rw [zcl (f := Py) (by omega), nI_clamp (by omega)]
  exact br_f (by rw [hgo]; decide) ⟨vp_in_nI hp (by decide), vp_in_nI hp (by decide), nm_e (br_t rfl h)⟩
theorem y262e {post : Int32 → SY → Prop} {p o : Nat} (hgo : go = 0) (h : post 0 (qn, ec, pn, go, K, ly, wd, E, U, S, py, Py, Z, gy, R, A, L, F, Ww, Q, fl, pp, qy, O)) : wY_execute_262 post (nI p) (nI o) qn ec pn go K ly wd E U S py Py Z gy R A L F Ww Q fl pp qy O := br_t hgo h
theorem ye_out {post : Int32 → SY → Prop} {p z : Nat} (hp : p < 5) (hz : z ≤ 20) (eZ : Z p = nI z) (hn : ¬ za_r z (Py p)) (hX : ∀ post' : SY → Prop, post' (qn2, ec2, pn2, go2, K2, ly2, wd2, E2, U2, S2, py2, Py2, Z2, gy2, R2, A2, L2, F2, Ww2, Q2, fl2, pp2, qy2, O2) → wpY_end post' (qn, ec + 1, pn, go, K, ly, wd, E, U, S, py, Py, Z, gy, R, A, L, F, Ww, Q, fl, pp, qy, O) (nI p) (-4)) (h : post 0 (qn2, ec2, pn2, go2, K2, ly2, wd2, E2, U2, S2, py2, Py2, Z2, gy2, R2, A2, L2, F2, Ww2, Q2, fl2, pp2, qy2, O2)) : wpY_execute post (qn, ec, pn, go, K, ly, wd, E, U, S, py, Py, Z, gy, R, A, L, F, Ww, Q, fl, pp, qy, O) (nI p) := by
  refine nm_e ⟨vp_in_nI hp (by decide), vp_in_nI hp (by decide), ?_⟩
  rw [zcl (f := Py) (i := p) (by omega), zcl (f := Z) (i := p) (by omega), eZ]
  exact yr_inz (by omega) (fun q => absurd q hn) (fun _ => br_t rfl (hX _ h))
theorem ye_0 {post : Int32 → SY → Prop} {p z s a b : Nat} {w : Int32} (hp : p < 5) (hz : z ≤ 20) (eZ : Z p = nI z) (eP : Py p = nI s) (hs : s < z) (hw : gy (20 * p + s) = w) (hD : zw_D w 0 a b) (hX : ∀ post' : SY → Prop, post' (qn2, ec2, pn2, go2, K2, ly2, wd2, E2, U2, S2, py2, Py2, Z2, gy2, R2, A2, L2, F2, Ww2, Q2, fl2, pp2, qy2, O2) → wpY_end post' (qn, ec + 1, pn, go, K, ly, wd, E, U, S, py, Py, Z, gy, R, A, L, F, Ww, Q, fl, pp, qy, O) (nI p) (R (4 * p + a))) (h : post 0 (qn2, ec2, pn2, go2, K2, ly2, wd2, E2, U2, S2, py2, Py2, Z2, gy2, R2, A2, L2, F2, Ww2, Q2, fl2, pp2, qy2, O2)) : wpY_execute post (qn, ec, pn, go, K, ly, wd, E, U, S, py, Py, Z, gy, R, A, L, F, Ww, Q, fl, pp, qy, O) (nI p) := by
  obtain ⟨ho, ha, hb, _, ha4, hb4⟩ := hD
  have eia : 4 * nI p + nI a = nI (4 * p + a) := by rw [zi_m4, nI_add]
  refine nm_e ⟨vp_in_nI hp (by decide), vp_in_nI hp (by decide), ?_⟩
  rw [zcl (f := Py) (i := p) (by omega), zcl (f := Z) (i := p) (by omega), eZ]
  refine yr_inz (by omega) (fun _ => br_f (by decide) ⟨vp_in_nI hp (by decide), ?_⟩) (fun q => absurd ⟨s, hs, eP⟩ q)
  rw [eP, zi_m20, nI_add (20 * p) s, nI_clamp (n := p) (by omega)]
  refine ⟨vp_in_nI (by omega) (by decide), nm_r (e' := w) ((zcl (by omega)).trans hw) (nm_r ho (nm_r ha (nm_e ?_)))⟩
  rw [eia, zcl (f := R) (i := 4 * p + a) (by omega)]
  refine ⟨vp_in_nI (by omega) (by decide), nm_e ?_⟩
  exact br_t (by decide) (hX _ h)
theorem ye_8 {post : Int32 → SY → Prop} {p z s a b : Nat} {w : Int32} (hp : p < 5) (hz : z ≤ 20) (eZ : Z p = nI z) (eP : Py p = nI s) (hs : s < z) (hw : gy (20 * p + s) = w) (hD : zw_D w 8 a b) (h : post 1 (qn, ec + 1, pn, go, K, ly, wd, E, U, S, py, upd Py p (w >>> ((9 : Int32) &&& 31)), Z, gy, R, A, L, F, Ww, Q, fl, pp, qy, O)) : wpY_execute post (qn, ec, pn, go, K, ly, wd, E, U, S, py, Py, Z, gy, R, A, L, F, Ww, Q, fl, pp, qy, O) (nI p) := by
  obtain ⟨ho, ha, hb, _, ha4, hb4⟩ := hD
  have eia : 4 * nI p + nI a = nI (4 * p + a) := by rw [zi_m4, nI_add]
  refine nm_e ⟨vp_in_nI hp (by decide), vp_in_nI hp (by decide), ?_⟩
  rw [zcl (f := Py) (i := p) (by omega), zcl (f := Z) (i := p) (by omega), eZ]
  refine yr_inz (by omega) (fun _ => br_f (by decide) ⟨vp_in_nI hp (by decide), ?_⟩) (fun q => absurd ⟨s, hs, eP⟩ q)
  rw [eP, zi_m20, nI_add (20 * p) s, nI_clamp (n := p) (by omega)]
  refine ⟨vp_in_nI (by omega) (by decide), nm_r (e' := w) ((zcl (by omega)).trans hw) (nm_r ho (nm_r ha (nm_e ?_)))⟩
  rw [eia, zcl (f := R) (i := 4 * p + a) (by omega)]
  refine ⟨vp_in_nI (by omega) (by decide), nm_e ?_⟩
  exact br_f (by decide) (br_f (by decide) (br_f (by decide) (br_t (by decide) (⟨vp_in_nI hp (by decide), nm_e h⟩))))
theorem ye_7t {post : Int32 → SY → Prop} {p z s a b : Nat} {w : Int32} (hp : p < 5) (hz : z ≤ 20) (eZ : Z p = nI z) (eP : Py p = nI s) (hs : s < z) (hw : gy (20 * p + s) = w) (hD : zw_D w 7 a b) (hx :  R (4 * p + a) = 0) (h : post 1 (qn, ec + 1, pn, go, K, ly, wd, E, U, S, py, upd Py p (w >>> ((9 : Int32) &&& 31)), Z, gy, R, A, L, F, Ww, Q, fl, pp, qy, O)) : wpY_execute post (qn, ec, pn, go, K, ly, wd, E, U, S, py, Py, Z, gy, R, A, L, F, Ww, Q, fl, pp, qy, O) (nI p) := by
  obtain ⟨ho, ha, hb, _, ha4, hb4⟩ := hD
  have eia : 4 * nI p + nI a = nI (4 * p + a) := by rw [zi_m4, nI_add]
  refine nm_e ⟨vp_in_nI hp (by decide), vp_in_nI hp (by decide), ?_⟩
  rw [zcl (f := Py) (i := p) (by omega), zcl (f := Z) (i := p) (by omega), eZ]
  refine yr_inz (by omega) (fun _ => br_f (by decide) ⟨vp_in_nI hp (by decide), ?_⟩) (fun q => absurd ⟨s, hs, eP⟩ q)
  rw [eP, zi_m20, nI_add (20 * p) s, nI_clamp (n := p) (by omega)]
  refine ⟨vp_in_nI (by omega) (by decide), nm_r (e' := w) ((zcl (by omega)).trans hw) (nm_r ho (nm_r ha (nm_e ?_)))⟩
  rw [eia, zcl (f := R) (i := 4 * p + a) (by omega)]
  refine ⟨vp_in_nI (by omega) (by decide), nm_e ?_⟩
  refine br_f (by decide) (br_f (by decide) (br_f (by decide) (br_f (by decide) (?_))))
  refine br_t hx ?_
  unfold wY_execute_130
  refine br_t (by decide)  (?_)
  unfold wY_execute_141
  rw [nI_clamp (n := p) (by omega)]
  exact br_t rfl ⟨vp_in_nI hp (by decide), nm_e h⟩
theorem ye_9t {post : Int32 → SY → Prop} {p z s a b : Nat} {w : Int32} (hp : p < 5) (hz : z ≤ 20) (eZ : Z p = nI z) (eP : Py p = nI s) (hs : s < z) (hw : gy (20 * p + s) = w) (hD : zw_D w 9 a b) (hx : ¬ R (4 * p + a) = 0) (h : post 1 (qn, ec + 1, pn, go, K, ly, wd, E, U, S, py, upd Py p (w >>> ((9 : Int32) &&& 31)), Z, gy, R, A, L, F, Ww, Q, fl, pp, qy, O)) : wpY_execute post (qn, ec, pn, go, K, ly, wd, E, U, S, py, Py, Z, gy, R, A, L, F, Ww, Q, fl, pp, qy, O) (nI p) := by
  obtain ⟨ho, ha, hb, _, ha4, hb4⟩ := hD
  have eia : 4 * nI p + nI a = nI (4 * p + a) := by rw [zi_m4, nI_add]
  refine nm_e ⟨vp_in_nI hp (by decide), vp_in_nI hp (by decide), ?_⟩
  rw [zcl (f := Py) (i := p) (by omega), zcl (f := Z) (i := p) (by omega), eZ]
  refine yr_inz (by omega) (fun _ => br_f (by decide) ⟨vp_in_nI hp (by decide), ?_⟩) (fun q => absurd ⟨s, hs, eP⟩ q)
  rw [eP, zi_m20, nI_add (20 * p) s, nI_clamp (n := p) (by omega)]
  refine ⟨vp_in_nI (by omega) (by decide), nm_r (e' := w) ((zcl (by omega)).trans hw) (nm_r ho (nm_r ha (nm_e ?_)))⟩
  rw [eia, zcl (f := R) (i := 4 * p + a) (by omega)]
  refine ⟨vp_in_nI (by omega) (by decide), nm_e ?_⟩
  refine br_f (by decide) (br_f (by decide) (br_f (by decide) (br_f (by decide) (?_))))
  refine br_f hx ?_
  unfold wY_execute_130
  refine br_f (by decide)  (?_)
  unfold wY_execute_141
  rw [nI_clamp (n := p) (by omega)]
  exact br_t rfl ⟨vp_in_nI hp (by decide), nm_e h⟩
theorem ye_s1 {post : Int32 → SY → Prop} {p z s a b : Nat} {w : Int32} (hp : p < 5) (hz : z ≤ 20) (eZ : Z p = nI z) (eP : Py p = nI s) (hs : s < z) (hw : gy (20 * p + s) = w) (hD : zw_D w 1 a b) (hX : ∀ post' : SY → Prop, post' (qn2, ec2, pn2, go2, K2, ly2, wd2, E2, U2, S2, py2, Py2, Z2, gy2, R2, A2, L2, F2, Ww2, Q2, fl2, pp2, qy2, O2) → wpY_simple post' (qn, ec + 1, pn, 1, K, ly, wd, E, U, S, py, Py, Z, gy, R, A, L, F, Ww, Q, fl, pp, qy, O) (nI p) (nI 1) (nI a) (nI b) (w >>> ((9 : Int32) &&& 31))) (hgo : go2 = 1) (h : post 1 (qn2, ec2, pn2, go2, K2, ly2, wd2, E2, U2, S2, py2, upd Py2 p (Py2 p + 1), Z2, gy2, R2, A2, L2, F2, Ww2, Q2, fl2, pp2, qy2, O2)) : wpY_execute post (qn, ec, pn, go, K, ly, wd, E, U, S, py, Py, Z, gy, R, A, L, F, Ww, Q, fl, pp, qy, O) (nI p) := by
  obtain ⟨ho, ha, hb, _, ha4, hb4⟩ := hD
  have eia : 4 * nI p + nI a = nI (4 * p + a) := by rw [zi_m4, nI_add]
  refine nm_e ⟨vp_in_nI hp (by decide), vp_in_nI hp (by decide), ?_⟩
  rw [zcl (f := Py) (i := p) (by omega), zcl (f := Z) (i := p) (by omega), eZ]
  refine yr_inz (by omega) (fun _ => br_f (by decide) ⟨vp_in_nI hp (by decide), ?_⟩) (fun q => absurd ⟨s, hs, eP⟩ q)
  rw [eP, zi_m20, nI_add (20 * p) s, nI_clamp (n := p) (by omega)]
  refine ⟨vp_in_nI (by omega) (by decide), nm_r (e' := w) ((zcl (by omega)).trans hw) (nm_r ho (nm_r ha (nm_e ?_)))⟩
  rw [eia, zcl (f := R) (i := 4 * p + a) (by omega)]
  refine ⟨vp_in_nI (by omega) (by decide), nm_e ?_⟩
  refine br_f (by decide) (br_t (by decide) (br_f (by decide) (br_t (by decide) (br_f (by decide) (?_)))))
  rw [hb]
  exact hX _ (y262 (o := 1) hp hgo (by decide) h)
theorem ye_s2 {post : Int32 → SY → Prop} {p z s a b : Nat} {w : Int32} (hp : p < 5) (hz : z ≤ 20) (eZ : Z p = nI z) (eP : Py p = nI s) (hs : s < z) (hw : gy (20 * p + s) = w) (hD : zw_D w 2 a b) (hX : ∀ post' : SY → Prop, post' (qn2, ec2, pn2, go2, K2, ly2, wd2, E2, U2, S2, py2, Py2, Z2, gy2, R2, A2, L2, F2, Ww2, Q2, fl2, pp2, qy2, O2) → wpY_simple post' (qn, ec + 1, pn, 1, K, ly, wd, E, U, S, py, Py, Z, gy, R, A, L, F, Ww, Q, fl, pp, qy, O) (nI p) (nI 2) (nI a) (nI b) (w >>> ((9 : Int32) &&& 31))) (hgo : go2 = 1) (h : post 1 (qn2, ec2, pn2, go2, K2, ly2, wd2, E2, U2, S2, py2, upd Py2 p (Py2 p + 1), Z2, gy2, R2, A2, L2, F2, Ww2, Q2, fl2, pp2, qy2, O2)) : wpY_execute post (qn, ec, pn, go, K, ly, wd, E, U, S, py, Py, Z, gy, R, A, L, F, Ww, Q, fl, pp, qy, O) (nI p) := by
  obtain ⟨ho, ha, hb, _, ha4, hb4⟩ := hD
  have eia : 4 * nI p + nI a = nI (4 * p + a) := by rw [zi_m4, nI_add]
  refine nm_e ⟨vp_in_nI hp (by decide), vp_in_nI hp (by decide), ?_⟩
  rw [zcl (f := Py) (i := p) (by omega), zcl (f := Z) (i := p) (by omega), eZ]
  refine yr_inz (by omega) (fun _ => br_f (by decide) ⟨vp_in_nI hp (by decide), ?_⟩) (fun q => absurd ⟨s, hs, eP⟩ q)
  rw [eP, zi_m20, nI_add (20 * p) s, nI_clamp (n := p) (by omega)]
  refine ⟨vp_in_nI (by omega) (by decide), nm_r (e' := w) ((zcl (by omega)).trans hw) (nm_r ho (nm_r ha (nm_e ?_)))⟩
  rw [eia, zcl (f := R) (i := 4 * p + a) (by omega)]
  refine ⟨vp_in_nI (by omega) (by decide), nm_e ?_⟩
  refine br_f (by decide) (br_t (by decide) (br_f (by decide) (br_t (by decide) (br_f (by decide) (?_)))))
  rw [hb]
  exact hX _ (y262 (o := 2) hp hgo (by decide) h)
theorem ye_s3 {post : Int32 → SY → Prop} {p z s a b : Nat} {w : Int32} (hp : p < 5) (hz : z ≤ 20) (eZ : Z p = nI z) (eP : Py p = nI s) (hs : s < z) (hw : gy (20 * p + s) = w) (hD : zw_D w 3 a b) (hX : ∀ post' : SY → Prop, post' (qn2, ec2, pn2, go2, K2, ly2, wd2, E2, U2, S2, py2, Py2, Z2, gy2, R2, A2, L2, F2, Ww2, Q2, fl2, pp2, qy2, O2) → wpY_simple post' (qn, ec + 1, pn, 1, K, ly, wd, E, U, S, py, Py, Z, gy, R, A, L, F, Ww, Q, fl, pp, qy, O) (nI p) (nI 3) (nI a) (nI b) (w >>> ((9 : Int32) &&& 31))) (hgo : go2 = 1) (h : post 1 (qn2, ec2, pn2, go2, K2, ly2, wd2, E2, U2, S2, py2, upd Py2 p (Py2 p + 1), Z2, gy2, R2, A2, L2, F2, Ww2, Q2, fl2, pp2, qy2, O2)) : wpY_execute post (qn, ec, pn, go, K, ly, wd, E, U, S, py, Py, Z, gy, R, A, L, F, Ww, Q, fl, pp, qy, O) (nI p) := by
  obtain ⟨ho, ha, hb, _, ha4, hb4⟩ := hD
  have eia : 4 * nI p + nI a = nI (4 * p + a) := by rw [zi_m4, nI_add]
  refine nm_e ⟨vp_in_nI hp (by decide), vp_in_nI hp (by decide), ?_⟩
  rw [zcl (f := Py) (i := p) (by omega), zcl (f := Z) (i := p) (by omega), eZ]
  refine yr_inz (by omega) (fun _ => br_f (by decide) ⟨vp_in_nI hp (by decide), ?_⟩) (fun q => absurd ⟨s, hs, eP⟩ q)
  rw [eP, zi_m20, nI_add (20 * p) s, nI_clamp (n := p) (by omega)]
  refine ⟨vp_in_nI (by omega) (by decide), nm_r (e' := w) ((zcl (by omega)).trans hw) (nm_r ho (nm_r ha (nm_e ?_)))⟩
  rw [eia, zcl (f := R) (i := 4 * p + a) (by omega)]
  refine ⟨vp_in_nI (by omega) (by decide), nm_e ?_⟩
  refine br_f (by decide) (br_t (by decide) (br_f (by decide) (br_t (by decide) (br_f (by decide) (?_)))))
  rw [hb]
  exact hX _ (y262 (o := 3) hp hgo (by decide) h)
theorem ye_s4 {post : Int32 → SY → Prop} {p z s a b : Nat} {w : Int32} (hp : p < 5) (hz : z ≤ 20) (eZ : Z p = nI z) (eP : Py p = nI s) (hs : s < z) (hw : gy (20 * p + s) = w) (hD : zw_D w 4 a b) (hX : ∀ post' : SY → Prop, post' (qn2, ec2, pn2, go2, K2, ly2, wd2, E2, U2, S2, py2, Py2, Z2, gy2, R2, A2, L2, F2, Ww2, Q2, fl2, pp2, qy2, O2) → wpY_simple post' (qn, ec + 1, pn, 1, K, ly, wd, E, U, S, py, Py, Z, gy, R, A, L, F, Ww, Q, fl, pp, qy, O) (nI p) (nI 4) (nI a) (nI b) (w >>> ((9 : Int32) &&& 31))) (hgo : go2 = 1) (h : post 1 (qn2, ec2, pn2, go2, K2, ly2, wd2, E2, U2, S2, py2, upd Py2 p (Py2 p + 1), Z2, gy2, R2, A2, L2, F2, Ww2, Q2, fl2, pp2, qy2, O2)) : wpY_execute post (qn, ec, pn, go, K, ly, wd, E, U, S, py, Py, Z, gy, R, A, L, F, Ww, Q, fl, pp, qy, O) (nI p) := by
  obtain ⟨ho, ha, hb, _, ha4, hb4⟩ := hD
  have eia : 4 * nI p + nI a = nI (4 * p + a) := by rw [zi_m4, nI_add]
  refine nm_e ⟨vp_in_nI hp (by decide), vp_in_nI hp (by decide), ?_⟩
  rw [zcl (f := Py) (i := p) (by omega), zcl (f := Z) (i := p) (by omega), eZ]
  refine yr_inz (by omega) (fun _ => br_f (by decide) ⟨vp_in_nI hp (by decide), ?_⟩) (fun q => absurd ⟨s, hs, eP⟩ q)
  rw [eP, zi_m20, nI_add (20 * p) s, nI_clamp (n := p) (by omega)]
  refine ⟨vp_in_nI (by omega) (by decide), nm_r (e' := w) ((zcl (by omega)).trans hw) (nm_r ho (nm_r ha (nm_e ?_)))⟩
  rw [eia, zcl (f := R) (i := 4 * p + a) (by omega)]
  refine ⟨vp_in_nI (by omega) (by decide), nm_e ?_⟩
  refine br_f (by decide) (br_t (by decide) (br_f (by decide) (br_t (by decide) (br_f (by decide) (?_)))))
  rw [hb]
  exact hX _ (y262 (o := 4) hp hgo (by decide) h)
theorem ye_s5 {post : Int32 → SY → Prop} {p z s a b : Nat} {w : Int32} (hp : p < 5) (hz : z ≤ 20) (eZ : Z p = nI z) (eP : Py p = nI s) (hs : s < z) (hw : gy (20 * p + s) = w) (hD : zw_D w 5 a b) (hX : ∀ post' : SY → Prop, post' (qn2, ec2, pn2, go2, K2, ly2, wd2, E2, U2, S2, py2, Py2, Z2, gy2, R2, A2, L2, F2, Ww2, Q2, fl2, pp2, qy2, O2) → wpY_simple post' (qn, ec + 1, pn, 1, K, ly, wd, E, U, S, py, Py, Z, gy, R, A, L, F, Ww, Q, fl, pp, qy, O) (nI p) (nI 5) (nI a) (nI b) (w >>> ((9 : Int32) &&& 31))) (hgo : go2 = 1) (h : post 1 (qn2, ec2, pn2, go2, K2, ly2, wd2, E2, U2, S2, py2, upd Py2 p (Py2 p + 1), Z2, gy2, R2, A2, L2, F2, Ww2, Q2, fl2, pp2, qy2, O2)) : wpY_execute post (qn, ec, pn, go, K, ly, wd, E, U, S, py, Py, Z, gy, R, A, L, F, Ww, Q, fl, pp, qy, O) (nI p) := by
  obtain ⟨ho, ha, hb, _, ha4, hb4⟩ := hD
  have eia : 4 * nI p + nI a = nI (4 * p + a) := by rw [zi_m4, nI_add]
  refine nm_e ⟨vp_in_nI hp (by decide), vp_in_nI hp (by decide), ?_⟩
  rw [zcl (f := Py) (i := p) (by omega), zcl (f := Z) (i := p) (by omega), eZ]
  refine yr_inz (by omega) (fun _ => br_f (by decide) ⟨vp_in_nI hp (by decide), ?_⟩) (fun q => absurd ⟨s, hs, eP⟩ q)
  rw [eP, zi_m20, nI_add (20 * p) s, nI_clamp (n := p) (by omega)]
  refine ⟨vp_in_nI (by omega) (by decide), nm_r (e' := w) ((zcl (by omega)).trans hw) (nm_r ho (nm_r ha (nm_e ?_)))⟩
  rw [eia, zcl (f := R) (i := 4 * p + a) (by omega)]
  refine ⟨vp_in_nI (by omega) (by decide), nm_e ?_⟩
  refine br_f (by decide) (br_t (by decide) (br_f (by decide) (br_t (by decide) (br_f (by decide) (?_)))))
  rw [hb]
  exact hX _ (y262 (o := 5) hp hgo (by decide) h)
theorem ye_s6 {post : Int32 → SY → Prop} {p z s a b : Nat} {w : Int32} (hp : p < 5) (hz : z ≤ 20) (eZ : Z p = nI z) (eP : Py p = nI s) (hs : s < z) (hw : gy (20 * p + s) = w) (hD : zw_D w 6 a b) (hX : ∀ post' : SY → Prop, post' (qn2, ec2, pn2, go2, K2, ly2, wd2, E2, U2, S2, py2, Py2, Z2, gy2, R2, A2, L2, F2, Ww2, Q2, fl2, pp2, qy2, O2) → wpY_simple post' (qn, ec + 1, pn, 1, K, ly, wd, E, U, S, py, Py, Z, gy, R, A, L, F, Ww, Q, fl, pp, qy, O) (nI p) (nI 6) (nI a) (nI b) (w >>> ((9 : Int32) &&& 31))) (hgo : go2 = 1) (h : post 1 (qn2, ec2, pn2, go2, K2, ly2, wd2, E2, U2, S2, py2, upd Py2 p (Py2 p + 1), Z2, gy2, R2, A2, L2, F2, Ww2, Q2, fl2, pp2, qy2, O2)) : wpY_execute post (qn, ec, pn, go, K, ly, wd, E, U, S, py, Py, Z, gy, R, A, L, F, Ww, Q, fl, pp, qy, O) (nI p) := by
  obtain ⟨ho, ha, hb, _, ha4, hb4⟩ := hD
  have eia : 4 * nI p + nI a = nI (4 * p + a) := by rw [zi_m4, nI_add]
  refine nm_e ⟨vp_in_nI hp (by decide), vp_in_nI hp (by decide), ?_⟩
  rw [zcl (f := Py) (i := p) (by omega), zcl (f := Z) (i := p) (by omega), eZ]
  refine yr_inz (by omega) (fun _ => br_f (by decide) ⟨vp_in_nI hp (by decide), ?_⟩) (fun q => absurd ⟨s, hs, eP⟩ q)
  rw [eP, zi_m20, nI_add (20 * p) s, nI_clamp (n := p) (by omega)]
  refine ⟨vp_in_nI (by omega) (by decide), nm_r (e' := w) ((zcl (by omega)).trans hw) (nm_r ho (nm_r ha (nm_e ?_)))⟩
  rw [eia, zcl (f := R) (i := 4 * p + a) (by omega)]
  refine ⟨vp_in_nI (by omega) (by decide), nm_e ?_⟩
  refine br_f (by decide) (br_t (by decide) (br_f (by decide) (br_t (by decide) (br_f (by decide) (?_)))))
  rw [hb]
  exact hX _ (y262 (o := 6) hp hgo (by decide) h)
theorem ye_s10 {post : Int32 → SY → Prop} {p z s a b : Nat} {w : Int32} (hp : p < 5) (hz : z ≤ 20) (eZ : Z p = nI z) (eP : Py p = nI s) (hs : s < z) (hw : gy (20 * p + s) = w) (hD : zw_D w 10 a b) (hX : ∀ post' : SY → Prop, post' (qn2, ec2, pn2, go2, K2, ly2, wd2, E2, U2, S2, py2, Py2, Z2, gy2, R2, A2, L2, F2, Ww2, Q2, fl2, pp2, qy2, O2) → wpY_simple post' (qn, ec + 1, pn, 1, K, ly, wd, E, U, S, py, Py, Z, gy, R, A, L, F, Ww, Q, fl, pp, qy, O) (nI p) (nI 10) (nI a) (nI b) (w >>> ((9 : Int32) &&& 31))) (hgo : go2 = 1) (h : post 1 (qn2, ec2, pn2, go2, K2, ly2, wd2, E2, U2, S2, py2, upd Py2 p (Py2 p + 1), Z2, gy2, R2, A2, L2, F2, Ww2, Q2, fl2, pp2, qy2, O2)) : wpY_execute post (qn, ec, pn, go, K, ly, wd, E, U, S, py, Py, Z, gy, R, A, L, F, Ww, Q, fl, pp, qy, O) (nI p) := by
  obtain ⟨ho, ha, hb, _, ha4, hb4⟩ := hD
  have eia : 4 * nI p + nI a = nI (4 * p + a) := by rw [zi_m4, nI_add]
  refine nm_e ⟨vp_in_nI hp (by decide), vp_in_nI hp (by decide), ?_⟩
  rw [zcl (f := Py) (i := p) (by omega), zcl (f := Z) (i := p) (by omega), eZ]
  refine yr_inz (by omega) (fun _ => br_f (by decide) ⟨vp_in_nI hp (by decide), ?_⟩) (fun q => absurd ⟨s, hs, eP⟩ q)
  rw [eP, zi_m20, nI_add (20 * p) s, nI_clamp (n := p) (by omega)]
  refine ⟨vp_in_nI (by omega) (by decide), nm_r (e' := w) ((zcl (by omega)).trans hw) (nm_r ho (nm_r ha (nm_e ?_)))⟩
  rw [eia, zcl (f := R) (i := 4 * p + a) (by omega)]
  refine ⟨vp_in_nI (by omega) (by decide), nm_e ?_⟩
  refine br_f (by decide) (br_f (by decide) (br_t (by decide) (br_f (by decide) (br_t (by decide) (br_f (by decide) (?_))))))
  rw [hb]
  exact hX _ (y262 (o := 10) hp hgo (by decide) h)
theorem ye_s11 {post : Int32 → SY → Prop} {p z s a b : Nat} {w : Int32} (hp : p < 5) (hz : z ≤ 20) (eZ : Z p = nI z) (eP : Py p = nI s) (hs : s < z) (hw : gy (20 * p + s) = w) (hD : zw_D w 11 a b) (hX : ∀ post' : SY → Prop, post' (qn2, ec2, pn2, go2, K2, ly2, wd2, E2, U2, S2, py2, Py2, Z2, gy2, R2, A2, L2, F2, Ww2, Q2, fl2, pp2, qy2, O2) → wpY_simple post' (qn, ec + 1, pn, 1, K, ly, wd, E, U, S, py, Py, Z, gy, R, A, L, F, Ww, Q, fl, pp, qy, O) (nI p) (nI 11) (nI a) (nI b) (w >>> ((9 : Int32) &&& 31))) (hgo : go2 = 1) (h : post 1 (qn2, ec2, pn2, go2, K2, ly2, wd2, E2, U2, S2, py2, upd Py2 p (Py2 p + 1), Z2, gy2, R2, A2, L2, F2, Ww2, Q2, fl2, pp2, qy2, O2)) : wpY_execute post (qn, ec, pn, go, K, ly, wd, E, U, S, py, Py, Z, gy, R, A, L, F, Ww, Q, fl, pp, qy, O) (nI p) := by
  obtain ⟨ho, ha, hb, _, ha4, hb4⟩ := hD
  have eia : 4 * nI p + nI a = nI (4 * p + a) := by rw [zi_m4, nI_add]
  refine nm_e ⟨vp_in_nI hp (by decide), vp_in_nI hp (by decide), ?_⟩
  rw [zcl (f := Py) (i := p) (by omega), zcl (f := Z) (i := p) (by omega), eZ]
  refine yr_inz (by omega) (fun _ => br_f (by decide) ⟨vp_in_nI hp (by decide), ?_⟩) (fun q => absurd ⟨s, hs, eP⟩ q)
  rw [eP, zi_m20, nI_add (20 * p) s, nI_clamp (n := p) (by omega)]
  refine ⟨vp_in_nI (by omega) (by decide), nm_r (e' := w) ((zcl (by omega)).trans hw) (nm_r ho (nm_r ha (nm_e ?_)))⟩
  rw [eia, zcl (f := R) (i := 4 * p + a) (by omega)]
  refine ⟨vp_in_nI (by omega) (by decide), nm_e ?_⟩
  refine br_f (by decide) (br_f (by decide) (br_t (by decide) (br_f (by decide) (br_t (by decide) (br_f (by decide) (?_))))))
  rw [hb]
  exact hX _ (y262 (o := 11) hp hgo (by decide) h)
theorem ye_s24 {post : Int32 → SY → Prop} {p z s a b : Nat} {w : Int32} (hp : p < 5) (hz : z ≤ 20) (eZ : Z p = nI z) (eP : Py p = nI s) (hs : s < z) (hw : gy (20 * p + s) = w) (hD : zw_D w 24 a b) (hX : ∀ post' : SY → Prop, post' (qn2, ec2, pn2, go2, K2, ly2, wd2, E2, U2, S2, py2, Py2, Z2, gy2, R2, A2, L2, F2, Ww2, Q2, fl2, pp2, qy2, O2) → wpY_simple post' (qn, ec + 1, pn, 1, K, ly, wd, E, U, S, py, Py, Z, gy, R, A, L, F, Ww, Q, fl, pp, qy, O) (nI p) (nI 24) (nI a) (nI b) (w >>> ((9 : Int32) &&& 31))) (hgo : go2 = 1) (h : post 1 (qn2, ec2, pn2, go2, K2, ly2, wd2, E2, U2, S2, py2, upd Py2 p (Py2 p + 1), Z2, gy2, R2, A2, L2, F2, Ww2, Q2, fl2, pp2, qy2, O2)) : wpY_execute post (qn, ec, pn, go, K, ly, wd, E, U, S, py, Py, Z, gy, R, A, L, F, Ww, Q, fl, pp, qy, O) (nI p) := by
  obtain ⟨ho, ha, hb, _, ha4, hb4⟩ := hD
  have eia : 4 * nI p + nI a = nI (4 * p + a) := by rw [zi_m4, nI_add]
  refine nm_e ⟨vp_in_nI hp (by decide), vp_in_nI hp (by decide), ?_⟩
  rw [zcl (f := Py) (i := p) (by omega), zcl (f := Z) (i := p) (by omega), eZ]
  refine yr_inz (by omega) (fun _ => br_f (by decide) ⟨vp_in_nI hp (by decide), ?_⟩) (fun q => absurd ⟨s, hs, eP⟩ q)
  rw [eP, zi_m20, nI_add (20 * p) s, nI_clamp (n := p) (by omega)]
  refine ⟨vp_in_nI (by omega) (by decide), nm_r (e' := w) ((zcl (by omega)).trans hw) (nm_r ho (nm_r ha (nm_e ?_)))⟩
  rw [eia, zcl (f := R) (i := 4 * p + a) (by omega)]
  refine ⟨vp_in_nI (by omega) (by decide), nm_e ?_⟩
  refine br_f (by decide) (br_f (by decide) (br_t (by decide) (br_f (by decide) (br_f (by decide) (br_f (by decide) (br_f (by decide) (?_)))))))
  rw [hb]
  exact hX _ (y262 (o := 24) hp hgo (by decide) h)
theorem ye_s25 {post : Int32 → SY → Prop} {p z s a b : Nat} {w : Int32} (hp : p < 5) (hz : z ≤ 20) (eZ : Z p = nI z) (eP : Py p = nI s) (hs : s < z) (hw : gy (20 * p + s) = w) (hD : zw_D w 25 a b) (hX : ∀ post' : SY → Prop, post' (qn2, ec2, pn2, go2, K2, ly2, wd2, E2, U2, S2, py2, Py2, Z2, gy2, R2, A2, L2, F2, Ww2, Q2, fl2, pp2, qy2, O2) → wpY_simple post' (qn, ec + 1, pn, 1, K, ly, wd, E, U, S, py, Py, Z, gy, R, A, L, F, Ww, Q, fl, pp, qy, O) (nI p) (nI 25) (nI a) (nI b) (w >>> ((9 : Int32) &&& 31))) (hgo : go2 = 1) (h : post 0 (qn2, ec2, pn2, go2, K2, ly2, wd2, E2, U2, S2, py2, upd Py2 p (Py2 p + 1), Z2, gy2, R2, A2, L2, F2, Ww2, Q2, fl2, pp2, qy2, O2)) : wpY_execute post (qn, ec, pn, go, K, ly, wd, E, U, S, py, Py, Z, gy, R, A, L, F, Ww, Q, fl, pp, qy, O) (nI p) := by
  obtain ⟨ho, ha, hb, _, ha4, hb4⟩ := hD
  have eia : 4 * nI p + nI a = nI (4 * p + a) := by rw [zi_m4, nI_add]
  refine nm_e ⟨vp_in_nI hp (by decide), vp_in_nI hp (by decide), ?_⟩
  rw [zcl (f := Py) (i := p) (by omega), zcl (f := Z) (i := p) (by omega), eZ]
  refine yr_inz (by omega) (fun _ => br_f (by decide) ⟨vp_in_nI hp (by decide), ?_⟩) (fun q => absurd ⟨s, hs, eP⟩ q)
  rw [eP, zi_m20, nI_add (20 * p) s, nI_clamp (n := p) (by omega)]
  refine ⟨vp_in_nI (by omega) (by decide), nm_r (e' := w) ((zcl (by omega)).trans hw) (nm_r ho (nm_r ha (nm_e ?_)))⟩
  rw [eia, zcl (f := R) (i := 4 * p + a) (by omega)]
  refine ⟨vp_in_nI (by omega) (by decide), nm_e ?_⟩
  refine br_f (by decide) (br_f (by decide) (br_t (by decide) (br_f (by decide) (br_f (by decide) (br_f (by decide) (br_f (by decide) (?_)))))))
  rw [hb]
  exact hX _ (y262y hp hgo h)
theorem ye_s26 {post : Int32 → SY → Prop} {p z s a b : Nat} {w : Int32} (hp : p < 5) (hz : z ≤ 20) (eZ : Z p = nI z) (eP : Py p = nI s) (hs : s < z) (hw : gy (20 * p + s) = w) (hD : zw_D w 26 a b) (hX : ∀ post' : SY → Prop, post' (qn2, ec2, pn2, go2, K2, ly2, wd2, E2, U2, S2, py2, Py2, Z2, gy2, R2, A2, L2, F2, Ww2, Q2, fl2, pp2, qy2, O2) → wpY_simple post' (qn, ec + 1, pn, 1, K, ly, wd, E, U, S, py, Py, Z, gy, R, A, L, F, Ww, Q, fl, pp, qy, O) (nI p) (nI 26) (nI a) (nI b) (w >>> ((9 : Int32) &&& 31))) (hgo : go2 = 1) (h : post 1 (qn2, ec2, pn2, go2, K2, ly2, wd2, E2, U2, S2, py2, upd Py2 p (Py2 p + 1), Z2, gy2, R2, A2, L2, F2, Ww2, Q2, fl2, pp2, qy2, O2)) : wpY_execute post (qn, ec, pn, go, K, ly, wd, E, U, S, py, Py, Z, gy, R, A, L, F, Ww, Q, fl, pp, qy, O) (nI p) := by
  obtain ⟨ho, ha, hb, _, ha4, hb4⟩ := hD
  have eia : 4 * nI p + nI a = nI (4 * p + a) := by rw [zi_m4, nI_add]
  refine nm_e ⟨vp_in_nI hp (by decide), vp_in_nI hp (by decide), ?_⟩
  rw [zcl (f := Py) (i := p) (by omega), zcl (f := Z) (i := p) (by omega), eZ]
  refine yr_inz (by omega) (fun _ => br_f (by decide) ⟨vp_in_nI hp (by decide), ?_⟩) (fun q => absurd ⟨s, hs, eP⟩ q)
  rw [eP, zi_m20, nI_add (20 * p) s, nI_clamp (n := p) (by omega)]
  refine ⟨vp_in_nI (by omega) (by decide), nm_r (e' := w) ((zcl (by omega)).trans hw) (nm_r ho (nm_r ha (nm_e ?_)))⟩
  rw [eia, zcl (f := R) (i := 4 * p + a) (by omega)]
  refine ⟨vp_in_nI (by omega) (by decide), nm_e ?_⟩
  refine br_f (by decide) (br_f (by decide) (br_t (by decide) (br_f (by decide) (br_f (by decide) (br_f (by decide) (br_f (by decide) (?_)))))))
  rw [hb]
  exact hX _ (y262 (o := 26) hp hgo (by decide) h)
theorem ye_s27 {post : Int32 → SY → Prop} {p z s a b : Nat} {w : Int32} (hp : p < 5) (hz : z ≤ 20) (eZ : Z p = nI z) (eP : Py p = nI s) (hs : s < z) (hw : gy (20 * p + s) = w) (hD : zw_D w 27 a b) (hX : ∀ post' : SY → Prop, post' (qn2, ec2, pn2, go2, K2, ly2, wd2, E2, U2, S2, py2, Py2, Z2, gy2, R2, A2, L2, F2, Ww2, Q2, fl2, pp2, qy2, O2) → wpY_simple post' (qn, ec + 1, pn, 1, K, ly, wd, E, U, S, py, Py, Z, gy, R, A, L, F, Ww, Q, fl, pp, qy, O) (nI p) (nI 27) (nI a) (nI b) (w >>> ((9 : Int32) &&& 31))) (hgo : go2 = 1) (h : post 1 (qn2, ec2, pn2, go2, K2, ly2, wd2, E2, U2, S2, py2, upd Py2 p (Py2 p + 1), Z2, gy2, R2, A2, L2, F2, Ww2, Q2, fl2, pp2, qy2, O2)) : wpY_execute post (qn, ec, pn, go, K, ly, wd, E, U, S, py, Py, Z, gy, R, A, L, F, Ww, Q, fl, pp, qy, O) (nI p) := by
  obtain ⟨ho, ha, hb, _, ha4, hb4⟩ := hD
  have eia : 4 * nI p + nI a = nI (4 * p + a) := by rw [zi_m4, nI_add]
  refine nm_e ⟨vp_in_nI hp (by decide), vp_in_nI hp (by decide), ?_⟩
  rw [zcl (f := Py) (i := p) (by omega), zcl (f := Z) (i := p) (by omega), eZ]
  refine yr_inz (by omega) (fun _ => br_f (by decide) ⟨vp_in_nI hp (by decide), ?_⟩) (fun q => absurd ⟨s, hs, eP⟩ q)
  rw [eP, zi_m20, nI_add (20 * p) s, nI_clamp (n := p) (by omega)]
  refine ⟨vp_in_nI (by omega) (by decide), nm_r (e' := w) ((zcl (by omega)).trans hw) (nm_r ho (nm_r ha (nm_e ?_)))⟩
  rw [eia, zcl (f := R) (i := 4 * p + a) (by omega)]
  refine ⟨vp_in_nI (by omega) (by decide), nm_e ?_⟩
  refine br_f (by decide) (br_f (by decide) (br_t (by decide) (br_f (by decide) (br_f (by decide) (br_f (by decide) (br_f (by decide) (?_)))))))
  rw [hb]
  exact hX _ (y262 (o := 27) hp hgo (by decide) h)
theorem ye_s29 {post : Int32 → SY → Prop} {p z s a b : Nat} {w : Int32} (hp : p < 5) (hz : z ≤ 20) (eZ : Z p = nI z) (eP : Py p = nI s) (hs : s < z) (hw : gy (20 * p + s) = w) (hD : zw_D w 29 a b) (hX : ∀ post' : SY → Prop, post' (qn2, ec2, pn2, go2, K2, ly2, wd2, E2, U2, S2, py2, Py2, Z2, gy2, R2, A2, L2, F2, Ww2, Q2, fl2, pp2, qy2, O2) → wpY_simple post' (qn, ec + 1, pn, 1, K, ly, wd, E, U, S, py, Py, Z, gy, R, A, L, F, Ww, Q, fl, pp, qy, O) (nI p) (nI 29) (nI a) (nI b) (w >>> ((9 : Int32) &&& 31))) (hgo : go2 = 1) (h : post 1 (qn2, ec2, pn2, go2, K2, ly2, wd2, E2, U2, S2, py2, upd Py2 p (Py2 p + 1), Z2, gy2, R2, A2, L2, F2, Ww2, Q2, fl2, pp2, qy2, O2)) : wpY_execute post (qn, ec, pn, go, K, ly, wd, E, U, S, py, Py, Z, gy, R, A, L, F, Ww, Q, fl, pp, qy, O) (nI p) := by
  obtain ⟨ho, ha, hb, _, ha4, hb4⟩ := hD
  have eia : 4 * nI p + nI a = nI (4 * p + a) := by rw [zi_m4, nI_add]
  refine nm_e ⟨vp_in_nI hp (by decide), vp_in_nI hp (by decide), ?_⟩
  rw [zcl (f := Py) (i := p) (by omega), zcl (f := Z) (i := p) (by omega), eZ]
  refine yr_inz (by omega) (fun _ => br_f (by decide) ⟨vp_in_nI hp (by decide), ?_⟩) (fun q => absurd ⟨s, hs, eP⟩ q)
  rw [eP, zi_m20, nI_add (20 * p) s, nI_clamp (n := p) (by omega)]
  refine ⟨vp_in_nI (by omega) (by decide), nm_r (e' := w) ((zcl (by omega)).trans hw) (nm_r ho (nm_r ha (nm_e ?_)))⟩
  rw [eia, zcl (f := R) (i := 4 * p + a) (by omega)]
  refine ⟨vp_in_nI (by omega) (by decide), nm_e ?_⟩
  refine br_f (by decide) (br_f (by decide) (br_t (by decide) (br_f (by decide) (br_f (by decide) (br_f (by decide) (br_f (by decide) (?_)))))))
  rw [hb]
  exact hX _ (y262 (o := 29) hp hgo (by decide) h)
theorem ye_s30 {post : Int32 → SY → Prop} {p z s a b : Nat} {w : Int32} (hp : p < 5) (hz : z ≤ 20) (eZ : Z p = nI z) (eP : Py p = nI s) (hs : s < z) (hw : gy (20 * p + s) = w) (hD : zw_D w 30 a b) (hX : ∀ post' : SY → Prop, post' (qn2, ec2, pn2, go2, K2, ly2, wd2, E2, U2, S2, py2, Py2, Z2, gy2, R2, A2, L2, F2, Ww2, Q2, fl2, pp2, qy2, O2) → wpY_simple post' (qn, ec + 1, pn, 1, K, ly, wd, E, U, S, py, Py, Z, gy, R, A, L, F, Ww, Q, fl, pp, qy, O) (nI p) (nI 30) (nI a) (nI b) (w >>> ((9 : Int32) &&& 31))) (hgo : go2 = 1) (h : post 1 (qn2, ec2, pn2, go2, K2, ly2, wd2, E2, U2, S2, py2, upd Py2 p (Py2 p + 1), Z2, gy2, R2, A2, L2, F2, Ww2, Q2, fl2, pp2, qy2, O2)) : wpY_execute post (qn, ec, pn, go, K, ly, wd, E, U, S, py, Py, Z, gy, R, A, L, F, Ww, Q, fl, pp, qy, O) (nI p) := by
  obtain ⟨ho, ha, hb, _, ha4, hb4⟩ := hD
  have eia : 4 * nI p + nI a = nI (4 * p + a) := by rw [zi_m4, nI_add]
  refine nm_e ⟨vp_in_nI hp (by decide), vp_in_nI hp (by decide), ?_⟩
  rw [zcl (f := Py) (i := p) (by omega), zcl (f := Z) (i := p) (by omega), eZ]
  refine yr_inz (by omega) (fun _ => br_f (by decide) ⟨vp_in_nI hp (by decide), ?_⟩) (fun q => absurd ⟨s, hs, eP⟩ q)
  rw [eP, zi_m20, nI_add (20 * p) s, nI_clamp (n := p) (by omega)]
  refine ⟨vp_in_nI (by omega) (by decide), nm_r (e' := w) ((zcl (by omega)).trans hw) (nm_r ho (nm_r ha (nm_e ?_)))⟩
  rw [eia, zcl (f := R) (i := 4 * p + a) (by omega)]
  refine ⟨vp_in_nI (by omega) (by decide), nm_e ?_⟩
  refine br_f (by decide) (br_f (by decide) (br_t (by decide) (br_f (by decide) (br_f (by decide) (br_f (by decide) (br_f (by decide) (?_)))))))
  rw [hb]
  exact hX _ (y262 (o := 30) hp hgo (by decide) h)
theorem ye_s31 {post : Int32 → SY → Prop} {p z s a b : Nat} {w : Int32} (hp : p < 5) (hz : z ≤ 20) (eZ : Z p = nI z) (eP : Py p = nI s) (hs : s < z) (hw : gy (20 * p + s) = w) (hD : zw_D w 31 a b) (hX : ∀ post' : SY → Prop, post' (qn2, ec2, pn2, go2, K2, ly2, wd2, E2, U2, S2, py2, Py2, Z2, gy2, R2, A2, L2, F2, Ww2, Q2, fl2, pp2, qy2, O2) → wpY_simple post' (qn, ec + 1, pn, 1, K, ly, wd, E, U, S, py, Py, Z, gy, R, A, L, F, Ww, Q, fl, pp, qy, O) (nI p) (nI 31) (nI a) (nI b) (w >>> ((9 : Int32) &&& 31))) (hgo : go2 = 1) (h : post 1 (qn2, ec2, pn2, go2, K2, ly2, wd2, E2, U2, S2, py2, upd Py2 p (Py2 p + 1), Z2, gy2, R2, A2, L2, F2, Ww2, Q2, fl2, pp2, qy2, O2)) : wpY_execute post (qn, ec, pn, go, K, ly, wd, E, U, S, py, Py, Z, gy, R, A, L, F, Ww, Q, fl, pp, qy, O) (nI p) := by
  obtain ⟨ho, ha, hb, _, ha4, hb4⟩ := hD
  have eia : 4 * nI p + nI a = nI (4 * p + a) := by rw [zi_m4, nI_add]
  refine nm_e ⟨vp_in_nI hp (by decide), vp_in_nI hp (by decide), ?_⟩
  rw [zcl (f := Py) (i := p) (by omega), zcl (f := Z) (i := p) (by omega), eZ]
  refine yr_inz (by omega) (fun _ => br_f (by decide) ⟨vp_in_nI hp (by decide), ?_⟩) (fun q => absurd ⟨s, hs, eP⟩ q)
  rw [eP, zi_m20, nI_add (20 * p) s, nI_clamp (n := p) (by omega)]
  refine ⟨vp_in_nI (by omega) (by decide), nm_r (e' := w) ((zcl (by omega)).trans hw) (nm_r ho (nm_r ha (nm_e ?_)))⟩
  rw [eia, zcl (f := R) (i := 4 * p + a) (by omega)]
  refine ⟨vp_in_nI (by omega) (by decide), nm_e ?_⟩
  refine br_f (by decide) (br_f (by decide) (br_t (by decide) (br_f (by decide) (br_f (by decide) (br_f (by decide) (br_f (by decide) (?_)))))))
  rw [hb]
  exact hX _ (y262 (o := 31) hp hgo (by decide) h)
theorem ye_s7 {post : Int32 → SY → Prop} {p z s a b : Nat} {w : Int32} (hp : p < 5) (hz : z ≤ 20) (eZ : Z p = nI z) (eP : Py p = nI s) (hs : s < z) (hw : gy (20 * p + s) = w) (hD : zw_D w 7 a b) (hx : ¬ R (4 * p + a) = 0) (hX : ∀ post' : SY → Prop, post' (qn2, ec2, pn2, go2, K2, ly2, wd2, E2, U2, S2, py2, Py2, Z2, gy2, R2, A2, L2, F2, Ww2, Q2, fl2, pp2, qy2, O2) → wpY_simple post' (qn, ec + 1, pn, 1, K, ly, wd, E, U, S, py, Py, Z, gy, R, A, L, F, Ww, Q, fl, pp, qy, O) (nI p) (nI 7) (nI a) (nI b) (w >>> ((9 : Int32) &&& 31))) (hgo : go2 = 1) (h : post 1 (qn2, ec2, pn2, go2, K2, ly2, wd2, E2, U2, S2, py2, upd Py2 p (Py2 p + 1), Z2, gy2, R2, A2, L2, F2, Ww2, Q2, fl2, pp2, qy2, O2)) : wpY_execute post (qn, ec, pn, go, K, ly, wd, E, U, S, py, Py, Z, gy, R, A, L, F, Ww, Q, fl, pp, qy, O) (nI p) := by
  obtain ⟨ho, ha, hb, _, ha4, hb4⟩ := hD
  have eia : 4 * nI p + nI a = nI (4 * p + a) := by rw [zi_m4, nI_add]
  refine nm_e ⟨vp_in_nI hp (by decide), vp_in_nI hp (by decide), ?_⟩
  rw [zcl (f := Py) (i := p) (by omega), zcl (f := Z) (i := p) (by omega), eZ]
  refine yr_inz (by omega) (fun _ => br_f (by decide) ⟨vp_in_nI hp (by decide), ?_⟩) (fun q => absurd ⟨s, hs, eP⟩ q)
  rw [eP, zi_m20, nI_add (20 * p) s, nI_clamp (n := p) (by omega)]
  refine ⟨vp_in_nI (by omega) (by decide), nm_r (e' := w) ((zcl (by omega)).trans hw) (nm_r ho (nm_r ha (nm_e ?_)))⟩
  rw [eia, zcl (f := R) (i := 4 * p + a) (by omega)]
  refine ⟨vp_in_nI (by omega) (by decide), nm_e ?_⟩
  refine br_f (by decide) (br_f (by decide) (br_f (by decide) (br_f (by decide) (?_))))
  refine br_f hx ?_
  unfold wY_execute_130
  refine br_t (by decide)  (?_)
  unfold wY_execute_141
  refine br_f (by decide) (br_f (by decide) (br_t (by decide) (br_f (by decide) (?_))))
  rw [hb]
  exact hX _ (y262 (o := 7) hp hgo (by decide) h)
theorem ye_s9 {post : Int32 → SY → Prop} {p z s a b : Nat} {w : Int32} (hp : p < 5) (hz : z ≤ 20) (eZ : Z p = nI z) (eP : Py p = nI s) (hs : s < z) (hw : gy (20 * p + s) = w) (hD : zw_D w 9 a b) (hx :  R (4 * p + a) = 0) (hX : ∀ post' : SY → Prop, post' (qn2, ec2, pn2, go2, K2, ly2, wd2, E2, U2, S2, py2, Py2, Z2, gy2, R2, A2, L2, F2, Ww2, Q2, fl2, pp2, qy2, O2) → wpY_simple post' (qn, ec + 1, pn, 1, K, ly, wd, E, U, S, py, Py, Z, gy, R, A, L, F, Ww, Q, fl, pp, qy, O) (nI p) (nI 9) (nI a) (nI b) (w >>> ((9 : Int32) &&& 31))) (hgo : go2 = 1) (h : post 1 (qn2, ec2, pn2, go2, K2, ly2, wd2, E2, U2, S2, py2, upd Py2 p (Py2 p + 1), Z2, gy2, R2, A2, L2, F2, Ww2, Q2, fl2, pp2, qy2, O2)) : wpY_execute post (qn, ec, pn, go, K, ly, wd, E, U, S, py, Py, Z, gy, R, A, L, F, Ww, Q, fl, pp, qy, O) (nI p) := by
  obtain ⟨ho, ha, hb, _, ha4, hb4⟩ := hD
  have eia : 4 * nI p + nI a = nI (4 * p + a) := by rw [zi_m4, nI_add]
  refine nm_e ⟨vp_in_nI hp (by decide), vp_in_nI hp (by decide), ?_⟩
  rw [zcl (f := Py) (i := p) (by omega), zcl (f := Z) (i := p) (by omega), eZ]
  refine yr_inz (by omega) (fun _ => br_f (by decide) ⟨vp_in_nI hp (by decide), ?_⟩) (fun q => absurd ⟨s, hs, eP⟩ q)
  rw [eP, zi_m20, nI_add (20 * p) s, nI_clamp (n := p) (by omega)]
  refine ⟨vp_in_nI (by omega) (by decide), nm_r (e' := w) ((zcl (by omega)).trans hw) (nm_r ho (nm_r ha (nm_e ?_)))⟩
  rw [eia, zcl (f := R) (i := 4 * p + a) (by omega)]
  refine ⟨vp_in_nI (by omega) (by decide), nm_e ?_⟩
  refine br_f (by decide) (br_f (by decide) (br_f (by decide) (br_f (by decide) (?_))))
  refine br_t hx ?_
  unfold wY_execute_130
  refine br_f (by decide)  (?_)
  unfold wY_execute_141
  refine br_f (by decide) (br_f (by decide) (br_t (by decide) (br_f (by decide) (?_))))
  rw [hb]
  exact hX _ (y262 (o := 9) hp hgo (by decide) h)
theorem ye_c13 {post : Int32 → SY → Prop} {p z s a b : Nat} {w : Int32} (hp : p < 5) (hz : z ≤ 20) (eZ : Z p = nI z) (eP : Py p = nI s) (hs : s < z) (hw : gy (20 * p + s) = w) (hD : zw_D w 13 a b) (hX : ∀ post' : SY → Prop, post' (qn2, ec2, pn2, go2, K2, ly2, wd2, E2, U2, S2, py2, Py2, Z2, gy2, R2, A2, L2, F2, Ww2, Q2, fl2, pp2, qy2, O2) → wpY_call post' (qn, ec + 1, pn, 1, K, ly, wd, E, U, S, py, Py, Z, gy, R, A, L, F, Ww, Q, fl, pp, qy, O) (nI p) (nI 13) (nI a) (nI b) (w >>> ((9 : Int32) &&& 31))) (hgo : go2 = 1) (h : post 1 (qn2, ec2, pn2, go2, K2, ly2, wd2, E2, U2, S2, py2, upd Py2 p (Py2 p + 1), Z2, gy2, R2, A2, L2, F2, Ww2, Q2, fl2, pp2, qy2, O2)) : wpY_execute post (qn, ec, pn, go, K, ly, wd, E, U, S, py, Py, Z, gy, R, A, L, F, Ww, Q, fl, pp, qy, O) (nI p) := by
  obtain ⟨ho, ha, hb, _, ha4, hb4⟩ := hD
  have eia : 4 * nI p + nI a = nI (4 * p + a) := by rw [zi_m4, nI_add]
  refine nm_e ⟨vp_in_nI hp (by decide), vp_in_nI hp (by decide), ?_⟩
  rw [zcl (f := Py) (i := p) (by omega), zcl (f := Z) (i := p) (by omega), eZ]
  refine yr_inz (by omega) (fun _ => br_f (by decide) ⟨vp_in_nI hp (by decide), ?_⟩) (fun q => absurd ⟨s, hs, eP⟩ q)
  rw [eP, zi_m20, nI_add (20 * p) s, nI_clamp (n := p) (by omega)]
  refine ⟨vp_in_nI (by omega) (by decide), nm_r (e' := w) ((zcl (by omega)).trans hw) (nm_r ho (nm_r ha (nm_e ?_)))⟩
  rw [eia, zcl (f := R) (i := 4 * p + a) (by omega)]
  refine ⟨vp_in_nI (by omega) (by decide), nm_e ?_⟩
  refine br_f (by decide) (br_f (by decide) (br_t (by decide) (br_f (by decide) (br_f (by decide) (br_t (by decide) (?_))))))
  unfold wY_execute_227
  rw [hb]
  exact hX _ (y262 (o := 13) hp hgo (by decide) h)
theorem ye_c14 {post : Int32 → SY → Prop} {p z s a b : Nat} {w : Int32} (hp : p < 5) (hz : z ≤ 20) (eZ : Z p = nI z) (eP : Py p = nI s) (hs : s < z) (hw : gy (20 * p + s) = w) (hD : zw_D w 14 a b) (hX : ∀ post' : SY → Prop, post' (qn2, ec2, pn2, go2, K2, ly2, wd2, E2, U2, S2, py2, Py2, Z2, gy2, R2, A2, L2, F2, Ww2, Q2, fl2, pp2, qy2, O2) → wpY_call post' (qn, ec + 1, pn, 1, K, ly, wd, E, U, S, py, Py, Z, gy, R, A, L, F, Ww, Q, fl, pp, qy, O) (nI p) (nI 14) (nI a) (nI b) (w >>> ((9 : Int32) &&& 31))) (hgo : go2 = 1) (h : post 1 (qn2, ec2, pn2, go2, K2, ly2, wd2, E2, U2, S2, py2, upd Py2 p (Py2 p + 1), Z2, gy2, R2, A2, L2, F2, Ww2, Q2, fl2, pp2, qy2, O2)) : wpY_execute post (qn, ec, pn, go, K, ly, wd, E, U, S, py, Py, Z, gy, R, A, L, F, Ww, Q, fl, pp, qy, O) (nI p) := by
  obtain ⟨ho, ha, hb, _, ha4, hb4⟩ := hD
  have eia : 4 * nI p + nI a = nI (4 * p + a) := by rw [zi_m4, nI_add]
  refine nm_e ⟨vp_in_nI hp (by decide), vp_in_nI hp (by decide), ?_⟩
  rw [zcl (f := Py) (i := p) (by omega), zcl (f := Z) (i := p) (by omega), eZ]
  refine yr_inz (by omega) (fun _ => br_f (by decide) ⟨vp_in_nI hp (by decide), ?_⟩) (fun q => absurd ⟨s, hs, eP⟩ q)
  rw [eP, zi_m20, nI_add (20 * p) s, nI_clamp (n := p) (by omega)]
  refine ⟨vp_in_nI (by omega) (by decide), nm_r (e' := w) ((zcl (by omega)).trans hw) (nm_r ho (nm_r ha (nm_e ?_)))⟩
  rw [eia, zcl (f := R) (i := 4 * p + a) (by omega)]
  refine ⟨vp_in_nI (by omega) (by decide), nm_e ?_⟩
  refine br_f (by decide) (br_f (by decide) (br_t (by decide) (br_f (by decide) (br_f (by decide) (br_t (by decide) (?_))))))
  unfold wY_execute_227
  rw [hb]
  exact hX _ (y262 (o := 14) hp hgo (by decide) h)
theorem ye_c15 {post : Int32 → SY → Prop} {p z s a b : Nat} {w : Int32} (hp : p < 5) (hz : z ≤ 20) (eZ : Z p = nI z) (eP : Py p = nI s) (hs : s < z) (hw : gy (20 * p + s) = w) (hD : zw_D w 15 a b) (hX : ∀ post' : SY → Prop, post' (qn2, ec2, pn2, go2, K2, ly2, wd2, E2, U2, S2, py2, Py2, Z2, gy2, R2, A2, L2, F2, Ww2, Q2, fl2, pp2, qy2, O2) → wpY_call post' (qn, ec + 1, pn, 1, K, ly, wd, E, U, S, py, Py, Z, gy, R, A, L, F, Ww, Q, fl, pp, qy, O) (nI p) (nI 15) (nI a) (nI b) (w >>> ((9 : Int32) &&& 31))) (hgo : go2 = 1) (h : post 1 (qn2, ec2, pn2, go2, K2, ly2, wd2, E2, U2, S2, py2, upd Py2 p (Py2 p + 1), Z2, gy2, R2, A2, L2, F2, Ww2, Q2, fl2, pp2, qy2, O2)) : wpY_execute post (qn, ec, pn, go, K, ly, wd, E, U, S, py, Py, Z, gy, R, A, L, F, Ww, Q, fl, pp, qy, O) (nI p) := by
  obtain ⟨ho, ha, hb, _, ha4, hb4⟩ := hD
  have eia : 4 * nI p + nI a = nI (4 * p + a) := by rw [zi_m4, nI_add]
  refine nm_e ⟨vp_in_nI hp (by decide), vp_in_nI hp (by decide), ?_⟩
  rw [zcl (f := Py) (i := p) (by omega), zcl (f := Z) (i := p) (by omega), eZ]
  refine yr_inz (by omega) (fun _ => br_f (by decide) ⟨vp_in_nI hp (by decide), ?_⟩) (fun q => absurd ⟨s, hs, eP⟩ q)
  rw [eP, zi_m20, nI_add (20 * p) s, nI_clamp (n := p) (by omega)]
  refine ⟨vp_in_nI (by omega) (by decide), nm_r (e' := w) ((zcl (by omega)).trans hw) (nm_r ho (nm_r ha (nm_e ?_)))⟩
  rw [eia, zcl (f := R) (i := 4 * p + a) (by omega)]
  refine ⟨vp_in_nI (by omega) (by decide), nm_e ?_⟩
  refine br_f (by decide) (br_f (by decide) (br_t (by decide) (br_f (by decide) (br_f (by decide) (br_t (by decide) (?_))))))
  unfold wY_execute_227
  rw [hb]
  exact hX _ (y262 (o := 15) hp hgo (by decide) h)
theorem ye_c16 {post : Int32 → SY → Prop} {p z s a b : Nat} {w : Int32} (hp : p < 5) (hz : z ≤ 20) (eZ : Z p = nI z) (eP : Py p = nI s) (hs : s < z) (hw : gy (20 * p + s) = w) (hD : zw_D w 16 a b) (hX : ∀ post' : SY → Prop, post' (qn2, ec2, pn2, go2, K2, ly2, wd2, E2, U2, S2, py2, Py2, Z2, gy2, R2, A2, L2, F2, Ww2, Q2, fl2, pp2, qy2, O2) → wpY_call post' (qn, ec + 1, pn, 1, K, ly, wd, E, U, S, py, Py, Z, gy, R, A, L, F, Ww, Q, fl, pp, qy, O) (nI p) (nI 16) (nI a) (nI b) (w >>> ((9 : Int32) &&& 31))) (hgo : go2 = 1) (h : post 1 (qn2, ec2, pn2, go2, K2, ly2, wd2, E2, U2, S2, py2, upd Py2 p (Py2 p + 1), Z2, gy2, R2, A2, L2, F2, Ww2, Q2, fl2, pp2, qy2, O2)) : wpY_execute post (qn, ec, pn, go, K, ly, wd, E, U, S, py, Py, Z, gy, R, A, L, F, Ww, Q, fl, pp, qy, O) (nI p) := by
  obtain ⟨ho, ha, hb, _, ha4, hb4⟩ := hD
  have eia : 4 * nI p + nI a = nI (4 * p + a) := by rw [zi_m4, nI_add]
  refine nm_e ⟨vp_in_nI hp (by decide), vp_in_nI hp (by decide), ?_⟩
  rw [zcl (f := Py) (i := p) (by omega), zcl (f := Z) (i := p) (by omega), eZ]
  refine yr_inz (by omega) (fun _ => br_f (by decide) ⟨vp_in_nI hp (by decide), ?_⟩) (fun q => absurd ⟨s, hs, eP⟩ q)
  rw [eP, zi_m20, nI_add (20 * p) s, nI_clamp (n := p) (by omega)]
  refine ⟨vp_in_nI (by omega) (by decide), nm_r (e' := w) ((zcl (by omega)).trans hw) (nm_r ho (nm_r ha (nm_e ?_)))⟩
  rw [eia, zcl (f := R) (i := 4 * p + a) (by omega)]
  refine ⟨vp_in_nI (by omega) (by decide), nm_e ?_⟩
  refine br_f (by decide) (br_f (by decide) (br_t (by decide) (br_f (by decide) (br_f (by decide) (br_t (by decide) (?_))))))
  unfold wY_execute_227
  rw [hb]
  exact hX _ (y262 (o := 16) hp hgo (by decide) h)
theorem ye_c17 {post : Int32 → SY → Prop} {p z s a b : Nat} {w : Int32} (hp : p < 5) (hz : z ≤ 20) (eZ : Z p = nI z) (eP : Py p = nI s) (hs : s < z) (hw : gy (20 * p + s) = w) (hD : zw_D w 17 a b) (hX : ∀ post' : SY → Prop, post' (qn2, ec2, pn2, go2, K2, ly2, wd2, E2, U2, S2, py2, Py2, Z2, gy2, R2, A2, L2, F2, Ww2, Q2, fl2, pp2, qy2, O2) → wpY_call post' (qn, ec + 1, pn, 1, K, ly, wd, E, U, S, py, Py, Z, gy, R, A, L, F, Ww, Q, fl, pp, qy, O) (nI p) (nI 17) (nI a) (nI b) (w >>> ((9 : Int32) &&& 31))) (hgo : go2 = 1) (h : post 1 (qn2, ec2, pn2, go2, K2, ly2, wd2, E2, U2, S2, py2, upd Py2 p (Py2 p + 1), Z2, gy2, R2, A2, L2, F2, Ww2, Q2, fl2, pp2, qy2, O2)) : wpY_execute post (qn, ec, pn, go, K, ly, wd, E, U, S, py, Py, Z, gy, R, A, L, F, Ww, Q, fl, pp, qy, O) (nI p) := by
  obtain ⟨ho, ha, hb, _, ha4, hb4⟩ := hD
  have eia : 4 * nI p + nI a = nI (4 * p + a) := by rw [zi_m4, nI_add]
  refine nm_e ⟨vp_in_nI hp (by decide), vp_in_nI hp (by decide), ?_⟩
  rw [zcl (f := Py) (i := p) (by omega), zcl (f := Z) (i := p) (by omega), eZ]
  refine yr_inz (by omega) (fun _ => br_f (by decide) ⟨vp_in_nI hp (by decide), ?_⟩) (fun q => absurd ⟨s, hs, eP⟩ q)
  rw [eP, zi_m20, nI_add (20 * p) s, nI_clamp (n := p) (by omega)]
  refine ⟨vp_in_nI (by omega) (by decide), nm_r (e' := w) ((zcl (by omega)).trans hw) (nm_r ho (nm_r ha (nm_e ?_)))⟩
  rw [eia, zcl (f := R) (i := 4 * p + a) (by omega)]
  refine ⟨vp_in_nI (by omega) (by decide), nm_e ?_⟩
  refine br_f (by decide) (br_f (by decide) (br_t (by decide) (br_f (by decide) (br_f (by decide) (br_t (by decide) (?_))))))
  unfold wY_execute_227
  rw [hb]
  exact hX _ (y262 (o := 17) hp hgo (by decide) h)
theorem ye_c18 {post : Int32 → SY → Prop} {p z s a b : Nat} {w : Int32} (hp : p < 5) (hz : z ≤ 20) (eZ : Z p = nI z) (eP : Py p = nI s) (hs : s < z) (hw : gy (20 * p + s) = w) (hD : zw_D w 18 a b) (hX : ∀ post' : SY → Prop, post' (qn2, ec2, pn2, go2, K2, ly2, wd2, E2, U2, S2, py2, Py2, Z2, gy2, R2, A2, L2, F2, Ww2, Q2, fl2, pp2, qy2, O2) → wpY_call post' (qn, ec + 1, pn, 1, K, ly, wd, E, U, S, py, Py, Z, gy, R, A, L, F, Ww, Q, fl, pp, qy, O) (nI p) (nI 18) (nI a) (nI b) (w >>> ((9 : Int32) &&& 31))) (hgo : go2 = 1) (h : post 1 (qn2, ec2, pn2, go2, K2, ly2, wd2, E2, U2, S2, py2, upd Py2 p (Py2 p + 1), Z2, gy2, R2, A2, L2, F2, Ww2, Q2, fl2, pp2, qy2, O2)) : wpY_execute post (qn, ec, pn, go, K, ly, wd, E, U, S, py, Py, Z, gy, R, A, L, F, Ww, Q, fl, pp, qy, O) (nI p) := by
  obtain ⟨ho, ha, hb, _, ha4, hb4⟩ := hD
  have eia : 4 * nI p + nI a = nI (4 * p + a) := by rw [zi_m4, nI_add]
  refine nm_e ⟨vp_in_nI hp (by decide), vp_in_nI hp (by decide), ?_⟩
  rw [zcl (f := Py) (i := p) (by omega), zcl (f := Z) (i := p) (by omega), eZ]
  refine yr_inz (by omega) (fun _ => br_f (by decide) ⟨vp_in_nI hp (by decide), ?_⟩) (fun q => absurd ⟨s, hs, eP⟩ q)
  rw [eP, zi_m20, nI_add (20 * p) s, nI_clamp (n := p) (by omega)]
  refine ⟨vp_in_nI (by omega) (by decide), nm_r (e' := w) ((zcl (by omega)).trans hw) (nm_r ho (nm_r ha (nm_e ?_)))⟩
  rw [eia, zcl (f := R) (i := 4 * p + a) (by omega)]
  refine ⟨vp_in_nI (by omega) (by decide), nm_e ?_⟩
  refine br_f (by decide) (br_f (by decide) (br_t (by decide) (br_f (by decide) (br_f (by decide) (br_t (by decide) (?_))))))
  unfold wY_execute_227
  rw [hb]
  exact hX _ (y262 (o := 18) hp hgo (by decide) h)
theorem ye_c19 {post : Int32 → SY → Prop} {p z s a b : Nat} {w : Int32} (hp : p < 5) (hz : z ≤ 20) (eZ : Z p = nI z) (eP : Py p = nI s) (hs : s < z) (hw : gy (20 * p + s) = w) (hD : zw_D w 19 a b) (hX : ∀ post' : SY → Prop, post' (qn2, ec2, pn2, go2, K2, ly2, wd2, E2, U2, S2, py2, Py2, Z2, gy2, R2, A2, L2, F2, Ww2, Q2, fl2, pp2, qy2, O2) → wpY_call post' (qn, ec + 1, pn, 1, K, ly, wd, E, U, S, py, Py, Z, gy, R, A, L, F, Ww, Q, fl, pp, qy, O) (nI p) (nI 19) (nI a) (nI b) (w >>> ((9 : Int32) &&& 31))) (hgo : go2 = 1) (h : post 1 (qn2, ec2, pn2, go2, K2, ly2, wd2, E2, U2, S2, py2, upd Py2 p (Py2 p + 1), Z2, gy2, R2, A2, L2, F2, Ww2, Q2, fl2, pp2, qy2, O2)) : wpY_execute post (qn, ec, pn, go, K, ly, wd, E, U, S, py, Py, Z, gy, R, A, L, F, Ww, Q, fl, pp, qy, O) (nI p) := by
  obtain ⟨ho, ha, hb, _, ha4, hb4⟩ := hD
  have eia : 4 * nI p + nI a = nI (4 * p + a) := by rw [zi_m4, nI_add]
  refine nm_e ⟨vp_in_nI hp (by decide), vp_in_nI hp (by decide), ?_⟩
  rw [zcl (f := Py) (i := p) (by omega), zcl (f := Z) (i := p) (by omega), eZ]
  refine yr_inz (by omega) (fun _ => br_f (by decide) ⟨vp_in_nI hp (by decide), ?_⟩) (fun q => absurd ⟨s, hs, eP⟩ q)
  rw [eP, zi_m20, nI_add (20 * p) s, nI_clamp (n := p) (by omega)]
  refine ⟨vp_in_nI (by omega) (by decide), nm_r (e' := w) ((zcl (by omega)).trans hw) (nm_r ho (nm_r ha (nm_e ?_)))⟩
  rw [eia, zcl (f := R) (i := 4 * p + a) (by omega)]
  refine ⟨vp_in_nI (by omega) (by decide), nm_e ?_⟩
  refine br_f (by decide) (br_f (by decide) (br_t (by decide) (br_f (by decide) (br_f (by decide) (br_t (by decide) (?_))))))
  unfold wY_execute_227
  rw [hb]
  exact hX _ (y262 (o := 19) hp hgo (by decide) h)
theorem ye_c20 {post : Int32 → SY → Prop} {p z s a b : Nat} {w : Int32} (hp : p < 5) (hz : z ≤ 20) (eZ : Z p = nI z) (eP : Py p = nI s) (hs : s < z) (hw : gy (20 * p + s) = w) (hD : zw_D w 20 a b) (hX : ∀ post' : SY → Prop, post' (qn2, ec2, pn2, go2, K2, ly2, wd2, E2, U2, S2, py2, Py2, Z2, gy2, R2, A2, L2, F2, Ww2, Q2, fl2, pp2, qy2, O2) → wpY_call post' (qn, ec + 1, pn, 1, K, ly, wd, E, U, S, py, Py, Z, gy, R, A, L, F, Ww, Q, fl, pp, qy, O) (nI p) (nI 20) (nI a) (nI b) (w >>> ((9 : Int32) &&& 31))) (hgo : go2 = 1) (h : post 1 (qn2, ec2, pn2, go2, K2, ly2, wd2, E2, U2, S2, py2, upd Py2 p (Py2 p + 1), Z2, gy2, R2, A2, L2, F2, Ww2, Q2, fl2, pp2, qy2, O2)) : wpY_execute post (qn, ec, pn, go, K, ly, wd, E, U, S, py, Py, Z, gy, R, A, L, F, Ww, Q, fl, pp, qy, O) (nI p) := by
  obtain ⟨ho, ha, hb, _, ha4, hb4⟩ := hD
  have eia : 4 * nI p + nI a = nI (4 * p + a) := by rw [zi_m4, nI_add]
  refine nm_e ⟨vp_in_nI hp (by decide), vp_in_nI hp (by decide), ?_⟩
  rw [zcl (f := Py) (i := p) (by omega), zcl (f := Z) (i := p) (by omega), eZ]
  refine yr_inz (by omega) (fun _ => br_f (by decide) ⟨vp_in_nI hp (by decide), ?_⟩) (fun q => absurd ⟨s, hs, eP⟩ q)
  rw [eP, zi_m20, nI_add (20 * p) s, nI_clamp (n := p) (by omega)]
  refine ⟨vp_in_nI (by omega) (by decide), nm_r (e' := w) ((zcl (by omega)).trans hw) (nm_r ho (nm_r ha (nm_e ?_)))⟩
  rw [eia, zcl (f := R) (i := 4 * p + a) (by omega)]
  refine ⟨vp_in_nI (by omega) (by decide), nm_e ?_⟩
  refine br_f (by decide) (br_f (by decide) (br_t (by decide) (br_f (by decide) (br_f (by decide) (br_t (by decide) (?_))))))
  unfold wY_execute_227
  rw [hb]
  exact hX _ (y262 (o := 20) hp hgo (by decide) h)
theorem ye_c21 {post : Int32 → SY → Prop} {p z s a b : Nat} {w : Int32} (hp : p < 5) (hz : z ≤ 20) (eZ : Z p = nI z) (eP : Py p = nI s) (hs : s < z) (hw : gy (20 * p + s) = w) (hD : zw_D w 21 a b) (hX : ∀ post' : SY → Prop, post' (qn2, ec2, pn2, go2, K2, ly2, wd2, E2, U2, S2, py2, Py2, Z2, gy2, R2, A2, L2, F2, Ww2, Q2, fl2, pp2, qy2, O2) → wpY_call post' (qn, ec + 1, pn, 1, K, ly, wd, E, U, S, py, Py, Z, gy, R, A, L, F, Ww, Q, fl, pp, qy, O) (nI p) (nI 21) (nI a) (nI b) (w >>> ((9 : Int32) &&& 31))) (hgo : go2 = 1) (h : post 1 (qn2, ec2, pn2, go2, K2, ly2, wd2, E2, U2, S2, py2, upd Py2 p (Py2 p + 1), Z2, gy2, R2, A2, L2, F2, Ww2, Q2, fl2, pp2, qy2, O2)) : wpY_execute post (qn, ec, pn, go, K, ly, wd, E, U, S, py, Py, Z, gy, R, A, L, F, Ww, Q, fl, pp, qy, O) (nI p) := by
  obtain ⟨ho, ha, hb, _, ha4, hb4⟩ := hD
  have eia : 4 * nI p + nI a = nI (4 * p + a) := by rw [zi_m4, nI_add]
  refine nm_e ⟨vp_in_nI hp (by decide), vp_in_nI hp (by decide), ?_⟩
  rw [zcl (f := Py) (i := p) (by omega), zcl (f := Z) (i := p) (by omega), eZ]
  refine yr_inz (by omega) (fun _ => br_f (by decide) ⟨vp_in_nI hp (by decide), ?_⟩) (fun q => absurd ⟨s, hs, eP⟩ q)
  rw [eP, zi_m20, nI_add (20 * p) s, nI_clamp (n := p) (by omega)]
  refine ⟨vp_in_nI (by omega) (by decide), nm_r (e' := w) ((zcl (by omega)).trans hw) (nm_r ho (nm_r ha (nm_e ?_)))⟩
  rw [eia, zcl (f := R) (i := 4 * p + a) (by omega)]
  refine ⟨vp_in_nI (by omega) (by decide), nm_e ?_⟩
  refine br_f (by decide) (br_f (by decide) (br_t (by decide) (br_f (by decide) (br_f (by decide) (br_t (by decide) (?_))))))
  unfold wY_execute_227
  rw [hb]
  exact hX _ (y262 (o := 21) hp hgo (by decide) h)
theorem ye_c22 {post : Int32 → SY → Prop} {p z s a b : Nat} {w : Int32} (hp : p < 5) (hz : z ≤ 20) (eZ : Z p = nI z) (eP : Py p = nI s) (hs : s < z) (hw : gy (20 * p + s) = w) (hD : zw_D w 22 a b) (hX : ∀ post' : SY → Prop, post' (qn2, ec2, pn2, go2, K2, ly2, wd2, E2, U2, S2, py2, Py2, Z2, gy2, R2, A2, L2, F2, Ww2, Q2, fl2, pp2, qy2, O2) → wpY_call post' (qn, ec + 1, pn, 1, K, ly, wd, E, U, S, py, Py, Z, gy, R, A, L, F, Ww, Q, fl, pp, qy, O) (nI p) (nI 22) (nI a) (nI b) (w >>> ((9 : Int32) &&& 31))) (hgo : go2 = 1) (h : post 1 (qn2, ec2, pn2, go2, K2, ly2, wd2, E2, U2, S2, py2, upd Py2 p (Py2 p + 1), Z2, gy2, R2, A2, L2, F2, Ww2, Q2, fl2, pp2, qy2, O2)) : wpY_execute post (qn, ec, pn, go, K, ly, wd, E, U, S, py, Py, Z, gy, R, A, L, F, Ww, Q, fl, pp, qy, O) (nI p) := by
  obtain ⟨ho, ha, hb, _, ha4, hb4⟩ := hD
  have eia : 4 * nI p + nI a = nI (4 * p + a) := by rw [zi_m4, nI_add]
  refine nm_e ⟨vp_in_nI hp (by decide), vp_in_nI hp (by decide), ?_⟩
  rw [zcl (f := Py) (i := p) (by omega), zcl (f := Z) (i := p) (by omega), eZ]
  refine yr_inz (by omega) (fun _ => br_f (by decide) ⟨vp_in_nI hp (by decide), ?_⟩) (fun q => absurd ⟨s, hs, eP⟩ q)
  rw [eP, zi_m20, nI_add (20 * p) s, nI_clamp (n := p) (by omega)]
  refine ⟨vp_in_nI (by omega) (by decide), nm_r (e' := w) ((zcl (by omega)).trans hw) (nm_r ho (nm_r ha (nm_e ?_)))⟩
  rw [eia, zcl (f := R) (i := 4 * p + a) (by omega)]
  refine ⟨vp_in_nI (by omega) (by decide), nm_e ?_⟩
  refine br_f (by decide) (br_f (by decide) (br_t (by decide) (br_f (by decide) (br_f (by decide) (br_t (by decide) (?_))))))
  unfold wY_execute_227
  rw [hb]
  exact hX _ (y262 (o := 22) hp hgo (by decide) h)
theorem ye_c23 {post : Int32 → SY → Prop} {p z s a b : Nat} {w : Int32} (hp : p < 5) (hz : z ≤ 20) (eZ : Z p = nI z) (eP : Py p = nI s) (hs : s < z) (hw : gy (20 * p + s) = w) (hD : zw_D w 23 a b) (hX : ∀ post' : SY → Prop, post' (qn2, ec2, pn2, go2, K2, ly2, wd2, E2, U2, S2, py2, Py2, Z2, gy2, R2, A2, L2, F2, Ww2, Q2, fl2, pp2, qy2, O2) → wpY_call post' (qn, ec + 1, pn, 1, K, ly, wd, E, U, S, py, Py, Z, gy, R, A, L, F, Ww, Q, fl, pp, qy, O) (nI p) (nI 23) (nI a) (nI b) (w >>> ((9 : Int32) &&& 31))) (hgo : go2 = 1) (h : post 1 (qn2, ec2, pn2, go2, K2, ly2, wd2, E2, U2, S2, py2, upd Py2 p (Py2 p + 1), Z2, gy2, R2, A2, L2, F2, Ww2, Q2, fl2, pp2, qy2, O2)) : wpY_execute post (qn, ec, pn, go, K, ly, wd, E, U, S, py, Py, Z, gy, R, A, L, F, Ww, Q, fl, pp, qy, O) (nI p) := by
  obtain ⟨ho, ha, hb, _, ha4, hb4⟩ := hD
  have eia : 4 * nI p + nI a = nI (4 * p + a) := by rw [zi_m4, nI_add]
  refine nm_e ⟨vp_in_nI hp (by decide), vp_in_nI hp (by decide), ?_⟩
  rw [zcl (f := Py) (i := p) (by omega), zcl (f := Z) (i := p) (by omega), eZ]
  refine yr_inz (by omega) (fun _ => br_f (by decide) ⟨vp_in_nI hp (by decide), ?_⟩) (fun q => absurd ⟨s, hs, eP⟩ q)
  rw [eP, zi_m20, nI_add (20 * p) s, nI_clamp (n := p) (by omega)]
  refine ⟨vp_in_nI (by omega) (by decide), nm_r (e' := w) ((zcl (by omega)).trans hw) (nm_r ho (nm_r ha (nm_e ?_)))⟩
  rw [eia, zcl (f := R) (i := 4 * p + a) (by omega)]
  refine ⟨vp_in_nI (by omega) (by decide), nm_e ?_⟩
  refine br_f (by decide) (br_f (by decide) (br_t (by decide) (br_f (by decide) (br_f (by decide) (br_t (by decide) (?_))))))
  unfold wY_execute_227
  rw [hb]
  exact hX _ (y262 (o := 23) hp hgo (by decide) h)
theorem ye_c28 {post : Int32 → SY → Prop} {p z s a b : Nat} {w : Int32} (hp : p < 5) (hz : z ≤ 20) (eZ : Z p = nI z) (eP : Py p = nI s) (hs : s < z) (hw : gy (20 * p + s) = w) (hD : zw_D w 28 a b) (hX : ∀ post' : SY → Prop, post' (qn2, ec2, pn2, go2, K2, ly2, wd2, E2, U2, S2, py2, Py2, Z2, gy2, R2, A2, L2, F2, Ww2, Q2, fl2, pp2, qy2, O2) → wpY_call post' (qn, ec + 1, pn, 1, K, ly, wd, E, U, S, py, Py, Z, gy, R, A, L, F, Ww, Q, fl, pp, qy, O) (nI p) (nI 28) (nI a) (nI b) (w >>> ((9 : Int32) &&& 31))) (hgo : go2 = 1) (h : post 1 (qn2, ec2, pn2, go2, K2, ly2, wd2, E2, U2, S2, py2, upd Py2 p (Py2 p + 1), Z2, gy2, R2, A2, L2, F2, Ww2, Q2, fl2, pp2, qy2, O2)) : wpY_execute post (qn, ec, pn, go, K, ly, wd, E, U, S, py, Py, Z, gy, R, A, L, F, Ww, Q, fl, pp, qy, O) (nI p) := by
  obtain ⟨ho, ha, hb, _, ha4, hb4⟩ := hD
  have eia : 4 * nI p + nI a = nI (4 * p + a) := by rw [zi_m4, nI_add]
  refine nm_e ⟨vp_in_nI hp (by decide), vp_in_nI hp (by decide), ?_⟩
  rw [zcl (f := Py) (i := p) (by omega), zcl (f := Z) (i := p) (by omega), eZ]
  refine yr_inz (by omega) (fun _ => br_f (by decide) ⟨vp_in_nI hp (by decide), ?_⟩) (fun q => absurd ⟨s, hs, eP⟩ q)
  rw [eP, zi_m20, nI_add (20 * p) s, nI_clamp (n := p) (by omega)]
  refine ⟨vp_in_nI (by omega) (by decide), nm_r (e' := w) ((zcl (by omega)).trans hw) (nm_r ho (nm_r ha (nm_e ?_)))⟩
  rw [eia, zcl (f := R) (i := 4 * p + a) (by omega)]
  refine ⟨vp_in_nI (by omega) (by decide), nm_e ?_⟩
  refine br_f (by decide) (br_f (by decide) (br_t (by decide) (br_f (by decide) (br_f (by decide) (br_f (by decide) (br_t (by decide) (?_)))))))
  unfold wY_execute_227
  rw [hb]
  exact hX _ (y262 (o := 28) hp hgo (by decide) h)
theorem ye_c16e {post : Int32 → SY → Prop} {p z s a b : Nat} {w : Int32} (hp : p < 5) (hz : z ≤ 20) (eZ : Z p = nI z) (eP : Py p = nI s) (hs : s < z) (hw : gy (20 * p + s) = w) (hD : zw_D w 16 a b) (hX : ∀ post' : SY → Prop, post' (qn2, ec2, pn2, go2, K2, ly2, wd2, E2, U2, S2, py2, Py2, Z2, gy2, R2, A2, L2, F2, Ww2, Q2, fl2, pp2, qy2, O2) → wpY_call post' (qn, ec + 1, pn, 1, K, ly, wd, E, U, S, py, Py, Z, gy, R, A, L, F, Ww, Q, fl, pp, qy, O) (nI p) (nI 16) (nI a) (nI b) (w >>> ((9 : Int32) &&& 31))) (hgo : go2 = 0) (h : post 0 (qn2, ec2, pn2, go2, K2, ly2, wd2, E2, U2, S2, py2, Py2, Z2, gy2, R2, A2, L2, F2, Ww2, Q2, fl2, pp2, qy2, O2)) : wpY_execute post (qn, ec, pn, go, K, ly, wd, E, U, S, py, Py, Z, gy, R, A, L, F, Ww, Q, fl, pp, qy, O) (nI p) := by
  obtain ⟨ho, ha, hb, _, ha4, hb4⟩ := hD
  have eia : 4 * nI p + nI a = nI (4 * p + a) := by rw [zi_m4, nI_add]
  refine nm_e ⟨vp_in_nI hp (by decide), vp_in_nI hp (by decide), ?_⟩
  rw [zcl (f := Py) (i := p) (by omega), zcl (f := Z) (i := p) (by omega), eZ]
  refine yr_inz (by omega) (fun _ => br_f (by decide) ⟨vp_in_nI hp (by decide), ?_⟩) (fun q => absurd ⟨s, hs, eP⟩ q)
  rw [eP, zi_m20, nI_add (20 * p) s, nI_clamp (n := p) (by omega)]
  refine ⟨vp_in_nI (by omega) (by decide), nm_r (e' := w) ((zcl (by omega)).trans hw) (nm_r ho (nm_r ha (nm_e ?_)))⟩
  rw [eia, zcl (f := R) (i := 4 * p + a) (by omega)]
  refine ⟨vp_in_nI (by omega) (by decide), nm_e ?_⟩
  refine br_f (by decide) (br_f (by decide) (br_t (by decide) (br_f (by decide) (br_f (by decide) (br_t (by decide) (?_))))))
  unfold wY_execute_227
  rw [hb]
  exact hX _ (y262e (o := 16) hgo h)
theorem ye_12t {post : Int32 → SY → Prop} {p z s a b : Nat} {w : Int32} (hp : p < 5) (hz : z ≤ 20) (eZ : Z p = nI z) (eP : Py p = nI s) (hs : s < z) (hw : gy (20 * p + s) = w) (hD : zw_D w 12 a b) {n : Nat} (hn : n < 10) (hN : ∀ post' : Int32 → Prop, post' (nI n) → wpY_named post' (qn, ec + 1, pn, go, K, ly, wd, E, U, S, py, Py, Z, gy, R, A, L, F, Ww, Q, fl, pp, qy, O) (L p) (R (4 * p + a))) (hK : K n = 1) (hX : ∀ post' : SY → Prop, post' (qn2, ec2, pn2, go2, K2, ly2, wd2, E2, U2, S2, py2, Py2, Z2, gy2, R2, A2, L2, F2, Ww2, Q2, fl2, pp2, qy2, O2) → wpY_load post' (qn, ec + 1, pn, go, K, ly, wd, E, U, S, py, Py, Z, gy, R, A, L, F, Ww, Q, fl, pp, qy, O) (nI p) (nI n)) (h : post 1 (qn2, ec2, pn2, go2, K2, ly2, wd2, E2, U2, S2, py2, Py2, Z2, gy2, R2, A2, L2, F2, Ww2, Q2, fl2, pp2, qy2, O2)) : wpY_execute post (qn, ec, pn, go, K, ly, wd, E, U, S, py, Py, Z, gy, R, A, L, F, Ww, Q, fl, pp, qy, O) (nI p) := by
  obtain ⟨ho, ha, hb, _, ha4, hb4⟩ := hD
  have eia : 4 * nI p + nI a = nI (4 * p + a) := by rw [zi_m4, nI_add]
  refine nm_e ⟨vp_in_nI hp (by decide), vp_in_nI hp (by decide), ?_⟩
  rw [zcl (f := Py) (i := p) (by omega), zcl (f := Z) (i := p) (by omega), eZ]
  refine yr_inz (by omega) (fun _ => br_f (by decide) ⟨vp_in_nI hp (by decide), ?_⟩) (fun q => absurd ⟨s, hs, eP⟩ q)
  rw [eP, zi_m20, nI_add (20 * p) s, nI_clamp (n := p) (by omega)]
  refine ⟨vp_in_nI (by omega) (by decide), nm_r (e' := w) ((zcl (by omega)).trans hw) (nm_r ho (nm_r ha (nm_e ?_)))⟩
  rw [eia, zcl (f := R) (i := 4 * p + a) (by omega)]
  refine ⟨vp_in_nI (by omega) (by decide), nm_e ?_⟩
  refine br_f (by decide) (br_f (by decide) (br_t (by decide) (?_)))
  unfold wY_execute_154
  rw [zcl (f := L) (i := p) (by omega)]
  exact br_t rfl ⟨vp_in_nI hp (by decide), hN _ (br_f (nI_pos (by omega)) ⟨vp_in_nI hn (by decide), br_t ((zcl (by omega)).trans hK) (hX _ h)⟩)⟩
theorem ye_12a {post : Int32 → SY → Prop} {p z s a b : Nat} {w : Int32} (hp : p < 5) (hz : z ≤ 20) (eZ : Z p = nI z) (eP : Py p = nI s) (hs : s < z) (hw : gy (20 * p + s) = w) (hD : zw_D w 12 a b) (hN : ∀ post' : Int32 → Prop, post' (-1) → wpY_named post' (qn, ec + 1, pn, go, K, ly, wd, E, U, S, py, Py, Z, gy, R, A, L, F, Ww, Q, fl, pp, qy, O) (L p) (R (4 * p + a))) (hX : ∀ post' : SY → Prop, post' (qn2, ec2, pn2, go2, K2, ly2, wd2, E2, U2, S2, py2, Py2, Z2, gy2, R2, A2, L2, F2, Ww2, Q2, fl2, pp2, qy2, O2) → wpY_simple post' (qn, ec + 1, pn, 1, K, ly, wd, E, U, S, py, Py, Z, gy, upd R (4 * p + 3) (-1), A, L, F, Ww, Q, fl, pp, qy, O) (nI p) (nI 12) (nI a) (nI b) (w >>> ((9 : Int32) &&& 31))) (hgo : go2 = 1) (h : post 1 (qn2, ec2, pn2, go2, K2, ly2, wd2, E2, U2, S2, py2, upd Py2 p (Py2 p + 1), Z2, gy2, R2, A2, L2, F2, Ww2, Q2, fl2, pp2, qy2, O2)) : wpY_execute post (qn, ec, pn, go, K, ly, wd, E, U, S, py, Py, Z, gy, R, A, L, F, Ww, Q, fl, pp, qy, O) (nI p) := by
  obtain ⟨ho, ha, hb, _, ha4, hb4⟩ := hD
  have eia : 4 * nI p + nI a = nI (4 * p + a) := by rw [zi_m4, nI_add]
  refine nm_e ⟨vp_in_nI hp (by decide), vp_in_nI hp (by decide), ?_⟩
  rw [zcl (f := Py) (i := p) (by omega), zcl (f := Z) (i := p) (by omega), eZ]
  refine yr_inz (by omega) (fun _ => br_f (by decide) ⟨vp_in_nI hp (by decide), ?_⟩) (fun q => absurd ⟨s, hs, eP⟩ q)
  rw [eP, zi_m20, nI_add (20 * p) s, nI_clamp (n := p) (by omega)]
  refine ⟨vp_in_nI (by omega) (by decide), nm_r (e' := w) ((zcl (by omega)).trans hw) (nm_r ho (nm_r ha (nm_e ?_)))⟩
  rw [eia, zcl (f := R) (i := 4 * p + a) (by omega)]
  refine ⟨vp_in_nI (by omega) (by decide), nm_e ?_⟩
  refine br_f (by decide) (br_f (by decide) (br_t (by decide) (?_)))
  unfold wY_execute_154
  rw [zcl (f := L) (i := p) (by omega)]
  refine br_t rfl ⟨vp_in_nI hp (by decide), hN _ (br_t (by decide) ?_)⟩
  refine yo_fail hp (br_t (by decide) (br_f (by decide) ?_))
  rw [hb]
  exact hX _ (y262 (o := 12) hp hgo (by decide) h)
theorem ye_12b {post : Int32 → SY → Prop} {p z s a b : Nat} {w : Int32} (hp : p < 5) (hz : z ≤ 20) (eZ : Z p = nI z) (eP : Py p = nI s) (hs : s < z) (hw : gy (20 * p + s) = w) (hD : zw_D w 12 a b) {n : Nat} (hn : n < 10) (hN : ∀ post' : Int32 → Prop, post' (nI n) → wpY_named post' (qn, ec + 1, pn, go, K, ly, wd, E, U, S, py, Py, Z, gy, R, A, L, F, Ww, Q, fl, pp, qy, O) (L p) (R (4 * p + a))) (hK : ¬ K n = 1) (hX : ∀ post' : SY → Prop, post' (qn2, ec2, pn2, go2, K2, ly2, wd2, E2, U2, S2, py2, Py2, Z2, gy2, R2, A2, L2, F2, Ww2, Q2, fl2, pp2, qy2, O2) → wpY_simple post' (qn, ec + 1, pn, 1, K, ly, wd, E, U, S, py, Py, Z, gy, upd R (4 * p + 3) (-1), A, L, F, Ww, Q, fl, pp, qy, O) (nI p) (nI 12) (nI a) (nI b) (w >>> ((9 : Int32) &&& 31))) (hgo : go2 = 1) (h : post 1 (qn2, ec2, pn2, go2, K2, ly2, wd2, E2, U2, S2, py2, upd Py2 p (Py2 p + 1), Z2, gy2, R2, A2, L2, F2, Ww2, Q2, fl2, pp2, qy2, O2)) : wpY_execute post (qn, ec, pn, go, K, ly, wd, E, U, S, py, Py, Z, gy, R, A, L, F, Ww, Q, fl, pp, qy, O) (nI p) := by
  obtain ⟨ho, ha, hb, _, ha4, hb4⟩ := hD
  have eia : 4 * nI p + nI a = nI (4 * p + a) := by rw [zi_m4, nI_add]
  refine nm_e ⟨vp_in_nI hp (by decide), vp_in_nI hp (by decide), ?_⟩
  rw [zcl (f := Py) (i := p) (by omega), zcl (f := Z) (i := p) (by omega), eZ]
  refine yr_inz (by omega) (fun _ => br_f (by decide) ⟨vp_in_nI hp (by decide), ?_⟩) (fun q => absurd ⟨s, hs, eP⟩ q)
  rw [eP, zi_m20, nI_add (20 * p) s, nI_clamp (n := p) (by omega)]
  refine ⟨vp_in_nI (by omega) (by decide), nm_r (e' := w) ((zcl (by omega)).trans hw) (nm_r ho (nm_r ha (nm_e ?_)))⟩
  rw [eia, zcl (f := R) (i := 4 * p + a) (by omega)]
  refine ⟨vp_in_nI (by omega) (by decide), nm_e ?_⟩
  refine br_f (by decide) (br_f (by decide) (br_t (by decide) (?_)))
  unfold wY_execute_154
  rw [zcl (f := L) (i := p) (by omega)]
  refine br_t rfl ⟨vp_in_nI hp (by decide), hN _ (br_f (nI_pos (by omega)) ⟨vp_in_nI hn (by decide), br_f (fun z => hK ((zcl (by omega)).symm.trans z)) ?_⟩)⟩
  refine yo_fail hp (br_t (by decide) (br_f (by decide) ?_))
  rw [hb]
  exact hX _ (y262 (o := 12) hp hgo (by decide) h)
theorem ys_1 {post : SY → Prop} {p a b : Nat} {n : Int32} (hp : p < 5) (ha4 : a < 4) (hb4 : b < 4) (h : post (qn, ec, pn, go, K, ly, wd, E, U, S, py, Py, Z, gy, upd R (4 * p + a) (n), A, L, F, Ww, Q, fl, pp, qy, O)) : wpY_simple post (qn, ec, pn, go, K, ly, wd, E, U, S, py, Py, Z, gy, R, A, L, F, Ww, Q, fl, pp, qy, O) (nI p) (nI 1) (nI a) (nI b) n := by
  have eia : 4 * nI p + nI a = nI (4 * p + a) := by rw [zi_m4, nI_add]
  have eib : 4 * nI p + nI b = nI (4 * p + b) := by rw [zi_m4, nI_add]
  refine nm_r eia ⟨vp_in_nI (by omega) (by decide), nm_r (zcl (by omega)) ⟨by rw [eib]; exact vp_in_nI (by omega) (by decide), ?_⟩⟩
  rw [eib, zcl (f := R) (i := 4 * p + b) (by omega)]
  refine nm_e ?_
  refine ?_
  rw [nI_clamp (n := 4 * p + a) (by omega)]
  exact br_t (by decide) ⟨vp_in_nI (by omega) (by decide), nm_e (br_f (by decide) (br_f (by decide) (br_f (by decide) (br_f (by decide) (br_f (by decide) (br_f (by decide) (br_f (by decide) (br_f (by decide) (br_f (by decide) (br_f (by decide) (h)))))))))))⟩
theorem ys_2 {post : SY → Prop} {p a b : Nat} {n : Int32} (hp : p < 5) (ha4 : a < 4) (hb4 : b < 4) (h : post (qn, ec, pn, go, K, ly, wd, E, U, S, py, Py, Z, gy, upd R (4 * p + a) (R (4 * p + b)), A, L, F, Ww, Q, fl, pp, qy, O)) : wpY_simple post (qn, ec, pn, go, K, ly, wd, E, U, S, py, Py, Z, gy, R, A, L, F, Ww, Q, fl, pp, qy, O) (nI p) (nI 2) (nI a) (nI b) n := by
  have eia : 4 * nI p + nI a = nI (4 * p + a) := by rw [zi_m4, nI_add]
  have eib : 4 * nI p + nI b = nI (4 * p + b) := by rw [zi_m4, nI_add]
  refine nm_r eia ⟨vp_in_nI (by omega) (by decide), nm_r (zcl (by omega)) ⟨by rw [eib]; exact vp_in_nI (by omega) (by decide), ?_⟩⟩
  rw [eib, zcl (f := R) (i := 4 * p + b) (by omega)]
  refine nm_e ?_
  refine br_f (by decide) (?_)
  unfold wY_simple_43
  rw [nI_clamp (n := 4 * p + a) (by omega)]
  exact br_t (by decide) ⟨vp_in_nI (by omega) (by decide), nm_e (br_f (by decide) (br_f (by decide) (br_f (by decide) (br_f (by decide) (br_f (by decide) (br_f (by decide) (br_f (by decide) (br_f (by decide) (br_f (by decide) (h))))))))))⟩
theorem ys_3 {post : SY → Prop} {p a b : Nat} {n : Int32} (hp : p < 5) (ha4 : a < 4) (hb4 : b < 4) (h : post (qn, ec, pn, go, K, ly, wd, E, U, S, py, Py, Z, gy, upd R (4 * p + a) (R (4 * p + a) + R (4 * p + b)), A, L, F, Ww, Q, fl, pp, qy, O)) : wpY_simple post (qn, ec, pn, go, K, ly, wd, E, U, S, py, Py, Z, gy, R, A, L, F, Ww, Q, fl, pp, qy, O) (nI p) (nI 3) (nI a) (nI b) n := by
  have eia : 4 * nI p + nI a = nI (4 * p + a) := by rw [zi_m4, nI_add]
  have eib : 4 * nI p + nI b = nI (4 * p + b) := by rw [zi_m4, nI_add]
  refine nm_r eia ⟨vp_in_nI (by omega) (by decide), nm_r (zcl (by omega)) ⟨by rw [eib]; exact vp_in_nI (by omega) (by decide), ?_⟩⟩
  rw [eib, zcl (f := R) (i := 4 * p + b) (by omega)]
  refine nm_e ?_
  refine br_f (by decide) (br_f (by decide) (?_))
  unfold wY_simple_57
  rw [nI_clamp (n := 4 * p + a) (by omega)]
  exact br_t (by decide) ⟨vp_in_nI (by omega) (by decide), nm_e (br_f (by decide) (br_f (by decide) (br_f (by decide) (br_f (by decide) (br_f (by decide) (br_f (by decide) (br_f (by decide) (br_f (by decide) (h)))))))))⟩
theorem ys_4 {post : SY → Prop} {p a b : Nat} {n : Int32} (hp : p < 5) (ha4 : a < 4) (hb4 : b < 4) (h : post (qn, ec, pn, go, K, ly, wd, E, U, S, py, Py, Z, gy, upd R (4 * p + a) (R (4 * p + a) - R (4 * p + b)), A, L, F, Ww, Q, fl, pp, qy, O)) : wpY_simple post (qn, ec, pn, go, K, ly, wd, E, U, S, py, Py, Z, gy, R, A, L, F, Ww, Q, fl, pp, qy, O) (nI p) (nI 4) (nI a) (nI b) n := by
  have eia : 4 * nI p + nI a = nI (4 * p + a) := by rw [zi_m4, nI_add]
  have eib : 4 * nI p + nI b = nI (4 * p + b) := by rw [zi_m4, nI_add]
  refine nm_r eia ⟨vp_in_nI (by omega) (by decide), nm_r (zcl (by omega)) ⟨by rw [eib]; exact vp_in_nI (by omega) (by decide), ?_⟩⟩
  rw [eib, zcl (f := R) (i := 4 * p + b) (by omega)]
  refine nm_e ?_
  refine br_f (by decide) (br_f (by decide) (br_f (by decide) (?_)))
  unfold wY_simple_74
  rw [nI_clamp (n := 4 * p + a) (by omega)]
  exact br_t (by decide) ⟨vp_in_nI (by omega) (by decide), nm_e (br_f (by decide) (br_f (by decide) (br_f (by decide) (br_f (by decide) (br_f (by decide) (br_f (by decide) (br_f (by decide) (h))))))))⟩
theorem ys_5 {post : SY → Prop} {p a b : Nat} {n : Int32} (hp : p < 5) (ha4 : a < 4) (hb4 : b < 4) (h : post (qn, ec, pn, go, K, ly, wd, E, U, S, py, Py, Z, gy, upd R (4 * p + a) (R (4 * p + a) + n), A, L, F, Ww, Q, fl, pp, qy, O)) : wpY_simple post (qn, ec, pn, go, K, ly, wd, E, U, S, py, Py, Z, gy, R, A, L, F, Ww, Q, fl, pp, qy, O) (nI p) (nI 5) (nI a) (nI b) n := by
  have eia : 4 * nI p + nI a = nI (4 * p + a) := by rw [zi_m4, nI_add]
  have eib : 4 * nI p + nI b = nI (4 * p + b) := by rw [zi_m4, nI_add]
  refine nm_r eia ⟨vp_in_nI (by omega) (by decide), nm_r (zcl (by omega)) ⟨by rw [eib]; exact vp_in_nI (by omega) (by decide), ?_⟩⟩
  rw [eib, zcl (f := R) (i := 4 * p + b) (by omega)]
  refine nm_e ?_
  refine br_f (by decide) (br_f (by decide) (br_f (by decide) (br_f (by decide) (?_))))
  unfold wY_simple_91
  rw [nI_clamp (n := 4 * p + a) (by omega)]
  exact br_t (by decide) ⟨vp_in_nI (by omega) (by decide), nm_e (br_f (by decide) (br_f (by decide) (br_f (by decide) (br_f (by decide) (br_f (by decide) (br_f (by decide) (h)))))))⟩
theorem ys_26 {post : SY → Prop} {p a b : Nat} {n : Int32} (hp : p < 5) (ha4 : a < 4) (hb4 : b < 4) (h : post (qn, ec, pn, go, K, ly, wd, E, U, S, py, Py, Z, gy, upd R (4 * p + a) (nI p), A, L, F, Ww, Q, fl, pp, qy, O)) : wpY_simple post (qn, ec, pn, go, K, ly, wd, E, U, S, py, Py, Z, gy, R, A, L, F, Ww, Q, fl, pp, qy, O) (nI p) (nI 26) (nI a) (nI b) n := by
  have eia : 4 * nI p + nI a = nI (4 * p + a) := by rw [zi_m4, nI_add]
  have eib : 4 * nI p + nI b = nI (4 * p + b) := by rw [zi_m4, nI_add]
  refine nm_r eia ⟨vp_in_nI (by omega) (by decide), nm_r (zcl (by omega)) ⟨by rw [eib]; exact vp_in_nI (by omega) (by decide), ?_⟩⟩
  rw [eib, zcl (f := R) (i := 4 * p + b) (by omega)]
  refine nm_e ?_
  refine br_f (by decide) (br_f (by decide) (br_f (by decide) (br_f (by decide) (br_f (by decide) (br_f (by decide) (br_f (by decide) (br_f (by decide) (br_f (by decide) (?_)))))))))
  unfold wY_simple_198
  rw [nI_clamp (n := 4 * p + a) (by omega)]
  exact br_t (by decide) ⟨vp_in_nI (by omega) (by decide), nm_e (br_f (by decide) (h))⟩
theorem ys_6 {post : SY → Prop} {p a b : Nat} {n : Int32} (hp : p < 5) (ha4 : a < 4) (hb4 : b < 4) (h : post (qn, ec, pn, go, K, ly, wd, E, U, S, py, Py, Z, gy, upd R (4 * p + a) (if R (4 * p + b) ≤ R (4 * p + a) then 0 else 1), A, L, F, Ww, Q, fl, pp, qy, O)) : wpY_simple post (qn, ec, pn, go, K, ly, wd, E, U, S, py, Py, Z, gy, R, A, L, F, Ww, Q, fl, pp, qy, O) (nI p) (nI 6) (nI a) (nI b) n := by
  have eia : 4 * nI p + nI a = nI (4 * p + a) := by rw [zi_m4, nI_add]
  have eib : 4 * nI p + nI b = nI (4 * p + b) := by rw [zi_m4, nI_add]
  refine nm_r eia ⟨vp_in_nI (by omega) (by decide), nm_r (zcl (by omega)) ⟨by rw [eib]; exact vp_in_nI (by omega) (by decide), ?_⟩⟩
  rw [eib, zcl (f := R) (i := 4 * p + b) (by omega)]
  refine nm_e ?_
  refine br_f (by decide) (br_f (by decide) (br_f (by decide) (br_f (by decide) (br_f (by decide) (?_)))))
  unfold wY_simple_108
  refine br_t (by decide) ?_
  by_cases c : R (4 * p + b) ≤ R (4 * p + a)
  · refine br_t c ?_
    rw [if_pos c] at h
    unfold wY_simple_132
    rw [nI_clamp (n := 4 * p + a) (by omega)]
    exact ⟨vp_in_nI (by omega) (by decide), nm_e (br_f (by decide) (br_f (by decide) (br_f (by decide) (br_f (by decide) (br_f (by decide) (h))))))⟩
  · refine br_f c ?_
    rw [if_neg c] at h
    unfold wY_simple_132
    rw [nI_clamp (n := 4 * p + a) (by omega)]
    exact ⟨vp_in_nI (by omega) (by decide), nm_e (br_f (by decide) (br_f (by decide) (br_f (by decide) (br_f (by decide) (br_f (by decide) (h))))))⟩
theorem ys_7 {post : SY → Prop} {p a b : Nat} {n : Int32} (hp : p < 5) (ha4 : a < 4) (hb4 : b < 4) (h : post (qn, ec, pn, go, K, ly, wd, E, U, S, py, Py, Z, gy, R, A, L, F, Ww, Q, fl, pp, qy, O)) : wpY_simple post (qn, ec, pn, go, K, ly, wd, E, U, S, py, Py, Z, gy, R, A, L, F, Ww, Q, fl, pp, qy, O) (nI p) (nI 7) (nI a) (nI b) n := by
  have eia : 4 * nI p + nI a = nI (4 * p + a) := by rw [zi_m4, nI_add]
  have eib : 4 * nI p + nI b = nI (4 * p + b) := by rw [zi_m4, nI_add]
  refine nm_r eia ⟨vp_in_nI (by omega) (by decide), nm_r (zcl (by omega)) ⟨by rw [eib]; exact vp_in_nI (by omega) (by decide), ?_⟩⟩
  rw [eib, zcl (f := R) (i := 4 * p + b) (by omega)]
  refine nm_e ?_
  exact br_f (by decide) (br_f (by decide) (br_f (by decide) (br_f (by decide) (br_f (by decide) (br_f (by decide) (br_f (by decide) (br_f (by decide) (br_f (by decide) (br_f (by decide) (br_f (by decide) (h)))))))))))
theorem ys_9 {post : SY → Prop} {p a b : Nat} {n : Int32} (hp : p < 5) (ha4 : a < 4) (hb4 : b < 4) (h : post (qn, ec, pn, go, K, ly, wd, E, U, S, py, Py, Z, gy, R, A, L, F, Ww, Q, fl, pp, qy, O)) : wpY_simple post (qn, ec, pn, go, K, ly, wd, E, U, S, py, Py, Z, gy, R, A, L, F, Ww, Q, fl, pp, qy, O) (nI p) (nI 9) (nI a) (nI b) n := by
  have eia : 4 * nI p + nI a = nI (4 * p + a) := by rw [zi_m4, nI_add]
  have eib : 4 * nI p + nI b = nI (4 * p + b) := by rw [zi_m4, nI_add]
  refine nm_r eia ⟨vp_in_nI (by omega) (by decide), nm_r (zcl (by omega)) ⟨by rw [eib]; exact vp_in_nI (by omega) (by decide), ?_⟩⟩
  rw [eib, zcl (f := R) (i := 4 * p + b) (by omega)]
  refine nm_e ?_
  exact br_f (by decide) (br_f (by decide) (br_f (by decide) (br_f (by decide) (br_f (by decide) (br_f (by decide) (br_f (by decide) (br_f (by decide) (br_f (by decide) (br_f (by decide) (br_f (by decide) (h)))))))))))
theorem ys_12 {post : SY → Prop} {p a b : Nat} {n : Int32} (hp : p < 5) (ha4 : a < 4) (hb4 : b < 4) (h : post (qn, ec, pn, go, K, ly, wd, E, U, S, py, Py, Z, gy, R, A, L, F, Ww, Q, fl, pp, qy, O)) : wpY_simple post (qn, ec, pn, go, K, ly, wd, E, U, S, py, Py, Z, gy, R, A, L, F, Ww, Q, fl, pp, qy, O) (nI p) (nI 12) (nI a) (nI b) n := by
  have eia : 4 * nI p + nI a = nI (4 * p + a) := by rw [zi_m4, nI_add]
  have eib : 4 * nI p + nI b = nI (4 * p + b) := by rw [zi_m4, nI_add]
  refine nm_r eia ⟨vp_in_nI (by omega) (by decide), nm_r (zcl (by omega)) ⟨by rw [eib]; exact vp_in_nI (by omega) (by decide), ?_⟩⟩
  rw [eib, zcl (f := R) (i := 4 * p + b) (by omega)]
  refine nm_e ?_
  exact br_f (by decide) (br_f (by decide) (br_f (by decide) (br_f (by decide) (br_f (by decide) (br_f (by decide) (br_f (by decide) (br_f (by decide) (br_f (by decide) (br_f (by decide) (br_f (by decide) (h)))))))))))
theorem ys_25 {post : SY → Prop} {p a b : Nat} {n : Int32} (hp : p < 5) (ha4 : a < 4) (hb4 : b < 4) (h : post (qn, ec, pn, go, K, ly, wd, E, U, S, py, Py, Z, gy, R, A, L, F, Ww, Q, fl, pp, qy, O)) : wpY_simple post (qn, ec, pn, go, K, ly, wd, E, U, S, py, Py, Z, gy, R, A, L, F, Ww, Q, fl, pp, qy, O) (nI p) (nI 25) (nI a) (nI b) n := by
  have eia : 4 * nI p + nI a = nI (4 * p + a) := by rw [zi_m4, nI_add]
  have eib : 4 * nI p + nI b = nI (4 * p + b) := by rw [zi_m4, nI_add]
  refine nm_r eia ⟨vp_in_nI (by omega) (by decide), nm_r (zcl (by omega)) ⟨by rw [eib]; exact vp_in_nI (by omega) (by decide), ?_⟩⟩
  rw [eib, zcl (f := R) (i := 4 * p + b) (by omega)]
  refine nm_e ?_
  exact br_f (by decide) (br_f (by decide) (br_f (by decide) (br_f (by decide) (br_f (by decide) (br_f (by decide) (br_f (by decide) (br_f (by decide) (br_f (by decide) (br_f (by decide) (br_f (by decide) (h)))))))))))
theorem ys_29 {post : SY → Prop} {p a b : Nat} {n : Int32} (hp : p < 5) (ha4 : a < 4) (hb4 : b < 4) (h : post (qn, ec, pn, go, K, ly, wd, E, U, S, py, Py, Z, gy, R, A, L, F, Ww, Q, fl, pp, qy, O)) : wpY_simple post (qn, ec, pn, go, K, ly, wd, E, U, S, py, Py, Z, gy, R, A, L, F, Ww, Q, fl, pp, qy, O) (nI p) (nI 29) (nI a) (nI b) n := by
  have eia : 4 * nI p + nI a = nI (4 * p + a) := by rw [zi_m4, nI_add]
  have eib : 4 * nI p + nI b = nI (4 * p + b) := by rw [zi_m4, nI_add]
  refine nm_r eia ⟨vp_in_nI (by omega) (by decide), nm_r (zcl (by omega)) ⟨by rw [eib]; exact vp_in_nI (by omega) (by decide), ?_⟩⟩
  rw [eib, zcl (f := R) (i := 4 * p + b) (by omega)]
  refine nm_e ?_
  exact br_f (by decide) (br_f (by decide) (br_f (by decide) (br_f (by decide) (br_f (by decide) (br_f (by decide) (br_f (by decide) (br_f (by decide) (br_f (by decide) (br_f (by decide) (br_f (by decide) (h)))))))))))
theorem ys_30 {post : SY → Prop} {p a b : Nat} {n : Int32} (hp : p < 5) (ha4 : a < 4) (hb4 : b < 4) (h : post (qn, ec, pn, go, K, ly, wd, E, U, S, py, Py, Z, gy, R, A, L, F, Ww, Q, fl, pp, qy, O)) : wpY_simple post (qn, ec, pn, go, K, ly, wd, E, U, S, py, Py, Z, gy, R, A, L, F, Ww, Q, fl, pp, qy, O) (nI p) (nI 30) (nI a) (nI b) n := by
  have eia : 4 * nI p + nI a = nI (4 * p + a) := by rw [zi_m4, nI_add]
  have eib : 4 * nI p + nI b = nI (4 * p + b) := by rw [zi_m4, nI_add]
  refine nm_r eia ⟨vp_in_nI (by omega) (by decide), nm_r (zcl (by omega)) ⟨by rw [eib]; exact vp_in_nI (by omega) (by decide), ?_⟩⟩
  rw [eib, zcl (f := R) (i := 4 * p + b) (by omega)]
  refine nm_e ?_
  exact br_f (by decide) (br_f (by decide) (br_f (by decide) (br_f (by decide) (br_f (by decide) (br_f (by decide) (br_f (by decide) (br_f (by decide) (br_f (by decide) (br_f (by decide) (br_f (by decide) (h)))))))))))
theorem ys_31 {post : SY → Prop} {p a b : Nat} {n : Int32} (hp : p < 5) (ha4 : a < 4) (hb4 : b < 4) (h : post (qn, ec, pn, go, K, ly, wd, E, U, S, py, Py, Z, gy, R, A, L, F, Ww, Q, fl, pp, qy, O)) : wpY_simple post (qn, ec, pn, go, K, ly, wd, E, U, S, py, Py, Z, gy, R, A, L, F, Ww, Q, fl, pp, qy, O) (nI p) (nI 31) (nI a) (nI b) n := by
  have eia : 4 * nI p + nI a = nI (4 * p + a) := by rw [zi_m4, nI_add]
  have eib : 4 * nI p + nI b = nI (4 * p + b) := by rw [zi_m4, nI_add]
  refine nm_r eia ⟨vp_in_nI (by omega) (by decide), nm_r (zcl (by omega)) ⟨by rw [eib]; exact vp_in_nI (by omega) (by decide), ?_⟩⟩
  rw [eib, zcl (f := R) (i := 4 * p + b) (by omega)]
  refine nm_e ?_
  exact br_f (by decide) (br_f (by decide) (br_f (by decide) (br_f (by decide) (br_f (by decide) (br_f (by decide) (br_f (by decide) (br_f (by decide) (br_f (by decide) (br_f (by decide) (br_f (by decide) (h)))))))))))
theorem ys_11 {post : SY → Prop} {p a b : Nat} {n : Int32} (hp : p < 5) (ha4 : a < 4) (hb4 : b < 4) (hX : ∀ post' : SY → Prop, post' (qn2, ec2, pn2, go2, K2, ly2, wd2, E2, U2, S2, py2, Py2, Z2, gy2, R2, A2, L2, F2, Ww2, Q2, fl2, pp2, qy2, O2) → wpY_await post' (qn, ec, pn, go, K, ly, wd, E, U, S, py, Py, Z, gy, R, A, L, F, Ww, Q, fl, pp, qy, O) (nI p) (nI a) (nI b)) (h : post (qn2, ec2, pn2, go2, K2, ly2, wd2, E2, U2, S2, py2, Py2, Z2, gy2, R2, A2, L2, F2, Ww2, Q2, fl2, pp2, qy2, O2)) : wpY_simple post (qn, ec, pn, go, K, ly, wd, E, U, S, py, Py, Z, gy, R, A, L, F, Ww, Q, fl, pp, qy, O) (nI p) (nI 11) (nI a) (nI b) n := by
  have eia : 4 * nI p + nI a = nI (4 * p + a) := by rw [zi_m4, nI_add]
  have eib : 4 * nI p + nI b = nI (4 * p + b) := by rw [zi_m4, nI_add]
  refine nm_r eia ⟨vp_in_nI (by omega) (by decide), nm_r (zcl (by omega)) ⟨by rw [eib]; exact vp_in_nI (by omega) (by decide), ?_⟩⟩
  rw [eib, zcl (f := R) (i := 4 * p + b) (by omega)]
  refine nm_e ?_
  exact br_f (by decide) (br_f (by decide) (br_f (by decide) (br_f (by decide) (br_f (by decide) (br_f (by decide) (br_f (by decide) (br_t (by decide) (hX _ (br_f (by decide) (br_f (by decide) (br_f (by decide) (h))))))))))))
theorem ys_24 {post : SY → Prop} {p a b : Nat} {n : Int32} (hp : p < 5) (ha4 : a < 4) (hb4 : b < 4) (hX : ∀ post' : SY → Prop, post' (qn2, ec2, pn2, go2, K2, ly2, wd2, E2, U2, S2, py2, Py2, Z2, gy2, R2, A2, L2, F2, Ww2, Q2, fl2, pp2, qy2, O2) → wpY_show post' (qn, ec, pn, go, K, ly, wd, E, U, S, py, Py, Z, gy, R, A, L, F, Ww, Q, fl, pp, qy, O) (R (4 * p + a))) (h : post (qn2, ec2, pn2, go2, K2, ly2, wd2, E2, U2, S2, py2, Py2, Z2, gy2, R2, A2, L2, F2, Ww2, Q2, fl2, pp2, qy2, O2)) : wpY_simple post (qn, ec, pn, go, K, ly, wd, E, U, S, py, Py, Z, gy, R, A, L, F, Ww, Q, fl, pp, qy, O) (nI p) (nI 24) (nI a) (nI b) n := by
  have eia : 4 * nI p + nI a = nI (4 * p + a) := by rw [zi_m4, nI_add]
  have eib : 4 * nI p + nI b = nI (4 * p + b) := by rw [zi_m4, nI_add]
  refine nm_r eia ⟨vp_in_nI (by omega) (by decide), nm_r (zcl (by omega)) ⟨by rw [eib]; exact vp_in_nI (by omega) (by decide), ?_⟩⟩
  rw [eib, zcl (f := R) (i := 4 * p + b) (by omega)]
  refine nm_e ?_
  exact br_f (by decide) (br_f (by decide) (br_f (by decide) (br_f (by decide) (br_f (by decide) (br_f (by decide) (br_f (by decide) (br_f (by decide) (br_t (by decide) (hX _ (br_f (by decide) (br_f (by decide) (h))))))))))))
theorem ys_27 {post : SY → Prop} {p a b : Nat} {n : Int32} (hp : p < 5) (ha4 : a < 4) (hb4 : b < 4) {r r' : Int32} (hN : ∀ post' : Int32 → Prop, post' r → wpY_named post' (qn, ec, pn, go, K, ly, wd, E, U, S, py, Py, Z, gy, R, A, L, F, Ww, Q, fl, pp, qy, O) (L p) (R (4 * p + a))) (hX : ∀ post' : Int32 → Prop, post' r' → wpY_sizeOf post' (qn, ec, pn, go, K, ly, wd, E, U, S, py, Py, Z, gy, R, A, L, F, Ww, Q, fl, pp, qy, O) r) (h : post (qn, ec, pn, go, K, ly, wd, E, U, S, py, Py, Z, gy, upd R (4 * p + a) r', A, L, F, Ww, Q, fl, pp, qy, O)) : wpY_simple post (qn, ec, pn, go, K, ly, wd, E, U, S, py, Py, Z, gy, R, A, L, F, Ww, Q, fl, pp, qy, O) (nI p) (nI 27) (nI a) (nI b) n := by
  have eia : 4 * nI p + nI a = nI (4 * p + a) := by rw [zi_m4, nI_add]
  have eib : 4 * nI p + nI b = nI (4 * p + b) := by rw [zi_m4, nI_add]
  refine nm_r eia ⟨vp_in_nI (by omega) (by decide), nm_r (zcl (by omega)) ⟨by rw [eib]; exact vp_in_nI (by omega) (by decide), ?_⟩⟩
  rw [eib, zcl (f := R) (i := 4 * p + b) (by omega)]
  refine nm_e ?_
  refine br_f (by decide) (br_f (by decide) (br_f (by decide) (br_f (by decide) (br_f (by decide) (br_f (by decide) (br_f (by decide) (br_f (by decide) (br_f (by decide) (br_f (by decide) (?_))))))))))
  unfold wY_simple_212
  rw [zcl (f := L) (i := p) (by omega), nI_clamp (n := 4 * p + a) (by omega)]
  exact br_t (by decide) ⟨vp_in_nI hp (by decide), hN _ (hX _ ⟨vp_in_nI (by omega) (by decide), nm_e h⟩)⟩
theorem ys_10a {post : SY → Prop} {p a b : Nat} {n : Int32} (hp : p < 5) (ha4 : a < 4) (hb4 : b < 4) (hX : ∀ post' : Int32 → SY → Prop, post' (-2) (qn2, ec2, pn2, go2, K2, ly2, wd2, E2, U2, S2, py2, Py2, Z2, gy2, R2, A2, L2, F2, Ww2, Q2, fl2, pp2, qy2, O2) → wpY_fork post' (qn, ec, pn, go, K, ly, wd, E, U, S, py, Py, Z, gy, R, A, L, F, Ww, Q, fl, pp, qy, O) (nI p)) (h : post (qn2, ec2, pn2, go2, K2, ly2, wd2, E2, U2, S2, py2, Py2, Z2, gy2, upd R2 (4 * p + a) (-2), A2, L2, F2, Ww2, Q2, fl2, pp2, qy2, O2)) : wpY_simple post (qn, ec, pn, go, K, ly, wd, E, U, S, py, Py, Z, gy, R, A, L, F, Ww, Q, fl, pp, qy, O) (nI p) (nI 10) (nI a) (nI b) n := by
  have eia : 4 * nI p + nI a = nI (4 * p + a) := by rw [zi_m4, nI_add]
  have eib : 4 * nI p + nI b = nI (4 * p + b) := by rw [zi_m4, nI_add]
  refine nm_r eia ⟨vp_in_nI (by omega) (by decide), nm_r (zcl (by omega)) ⟨by rw [eib]; exact vp_in_nI (by omega) (by decide), ?_⟩⟩
  rw [eib, zcl (f := R) (i := 4 * p + b) (by omega)]
  refine nm_e ?_
  refine br_f (by decide) (br_f (by decide) (br_f (by decide) (br_f (by decide) (br_f (by decide) (br_f (by decide) (?_))))))
  unfold wY_simple_133
  rw [nI_clamp (n := 4 * p + a) (by omega)]
  exact br_t (by decide) (hX _ ⟨vp_in_nI (by omega) (by decide), nm_e (br_t (by decide) (br_f (by decide) (br_f (by decide) (br_f (by decide) (br_f (by decide) (h))))))⟩)
theorem ys_10b {post : SY → Prop} {p a b : Nat} {n : Int32} (hp : p < 5) (ha4 : a < 4) (hb4 : b < 4) {c : Nat} (hc : c < 5) (hX : ∀ post' : Int32 → SY → Prop, post' (nI c) (qn2, ec2, pn2, go2, K2, ly2, wd2, E2, U2, S2, py2, Py2, Z2, gy2, R2, A2, L2, F2, Ww2, Q2, fl2, pp2, qy2, O2) → wpY_fork post' (qn, ec, pn, go, K, ly, wd, E, U, S, py, Py, Z, gy, R, A, L, F, Ww, Q, fl, pp, qy, O) (nI p)) (h : post (qn2, ec2, pn2, go2, K2, ly2, wd2, E2, U2, S2, py2, Py2, Z2, gy2, upd (upd R2 (4 * p + a) (nI c)) (4 * c + a) (-1), A2, L2, F2, Ww2, Q2, fl2, pp2, qy2, O2)) : wpY_simple post (qn, ec, pn, go, K, ly, wd, E, U, S, py, Py, Z, gy, R, A, L, F, Ww, Q, fl, pp, qy, O) (nI p) (nI 10) (nI a) (nI b) n := by
  have eia : 4 * nI p + nI a = nI (4 * p + a) := by rw [zi_m4, nI_add]
  have eib : 4 * nI p + nI b = nI (4 * p + b) := by rw [zi_m4, nI_add]
  refine nm_r eia ⟨vp_in_nI (by omega) (by decide), nm_r (zcl (by omega)) ⟨by rw [eib]; exact vp_in_nI (by omega) (by decide), ?_⟩⟩
  rw [eib, zcl (f := R) (i := 4 * p + b) (by omega)]
  refine nm_e ?_
  refine br_f (by decide) (br_f (by decide) (br_f (by decide) (br_f (by decide) (br_f (by decide) (br_f (by decide) (?_))))))
  unfold wY_simple_133
  rw [nI_clamp (n := 4 * p + a) (by omega)]
  refine br_t (by decide) (hX _ ⟨vp_in_nI (by omega) (by decide), nm_e (br_f (nI_pos (by omega)) ?_)⟩)
  rw [show 4 * nI c + nI a = nI (4 * c + a) by rw [zi_m4, nI_add], nI_clamp (n := 4 * c + a) (by omega)]
  exact ⟨vp_in_nI (by omega) (by decide), nm_e (br_f (by decide) (br_f (by decide) (br_f (by decide) (br_f (by decide) (h)))))⟩
theorem yc_13 {post : SY → Prop} {p a b : Nat} {n : Int32} (hX : ∀ post' : SY → Prop, post' (qn2, ec2, pn2, go2, K2, ly2, wd2, E2, U2, S2, py2, Py2, Z2, gy2, R2, A2, L2, F2, Ww2, Q2, fl2, pp2, qy2, O2) → wpY_open post' (qn, ec, pn, go, K, ly, wd, E, U, S, py, Py, Z, gy, R, A, L, F, Ww, Q, fl, pp, qy, O) (nI p) (nI a) (n &&& 3)) (h : post (qn2, ec2, pn2, go2, K2, ly2, wd2, E2, U2, S2, py2, Py2, Z2, gy2, R2, A2, L2, F2, Ww2, Q2, fl2, pp2, qy2, O2)) : wpY_call post (qn, ec, pn, go, K, ly, wd, E, U, S, py, Py, Z, gy, R, A, L, F, Ww, Q, fl, pp, qy, O) (nI p) (nI 13) (nI a) (nI b) n :=
  br_t (by decide) (hX _ (br_f (by decide) (br_f (by decide) (br_f (by decide) (br_f (by decide) (br_f (by decide) (br_f (by decide) (br_f (by decide) (br_f (by decide) (br_f (by decide) (br_f (by decide) (br_f (by decide) (h)))))))))))))
theorem yc_14 {post : SY → Prop} {p a b : Nat} {n : Int32} (hX : ∀ post' : SY → Prop, post' (qn2, ec2, pn2, go2, K2, ly2, wd2, E2, U2, S2, py2, Py2, Z2, gy2, R2, A2, L2, F2, Ww2, Q2, fl2, pp2, qy2, O2) → wpY_close post' (qn, ec, pn, go, K, ly, wd, E, U, S, py, Py, Z, gy, R, A, L, F, Ww, Q, fl, pp, qy, O) (nI p) (nI b)) (h : post (qn2, ec2, pn2, go2, K2, ly2, wd2, E2, U2, S2, py2, Py2, Z2, gy2, R2, A2, L2, F2, Ww2, Q2, fl2, pp2, qy2, O2)) : wpY_call post (qn, ec, pn, go, K, ly, wd, E, U, S, py, Py, Z, gy, R, A, L, F, Ww, Q, fl, pp, qy, O) (nI p) (nI 14) (nI a) (nI b) n :=
  br_f (by decide) (br_t (by decide) (hX _ (br_f (by decide) (br_f (by decide) (br_f (by decide) (br_f (by decide) (br_f (by decide) (br_f (by decide) (br_f (by decide) (br_f (by decide) (br_f (by decide) (br_f (by decide) (h)))))))))))))
theorem yc_15 {post : SY → Prop} {p a b : Nat} {n : Int32} (hX : ∀ post' : SY → Prop, post' (qn2, ec2, pn2, go2, K2, ly2, wd2, E2, U2, S2, py2, Py2, Z2, gy2, R2, A2, L2, F2, Ww2, Q2, fl2, pp2, qy2, O2) → wpY_read post' (qn, ec, pn, go, K, ly, wd, E, U, S, py, Py, Z, gy, R, A, L, F, Ww, Q, fl, pp, qy, O) (nI p) (nI a) (nI b)) (h : post (qn2, ec2, pn2, go2, K2, ly2, wd2, E2, U2, S2, py2, Py2, Z2, gy2, R2, A2, L2, F2, Ww2, Q2, fl2, pp2, qy2, O2)) : wpY_call post (qn, ec, pn, go, K, ly, wd, E, U, S, py, Py, Z, gy, R, A, L, F, Ww, Q, fl, pp, qy, O) (nI p) (nI 15) (nI a) (nI b) n :=
  br_f (by decide) (br_f (by decide) (br_t (by decide) (hX _ (br_f (by decide) (br_f (by decide) (br_f (by decide) (br_f (by decide) (br_f (by decide) (br_f (by decide) (br_f (by decide) (br_f (by decide) (br_f (by decide) (h)))))))))))))
theorem yc_16 {post : SY → Prop} {p a b : Nat} {n : Int32} (hX : ∀ post' : SY → Prop, post' (qn2, ec2, pn2, go2, K2, ly2, wd2, E2, U2, S2, py2, Py2, Z2, gy2, R2, A2, L2, F2, Ww2, Q2, fl2, pp2, qy2, O2) → wpY_write post' (qn, ec, pn, go, K, ly, wd, E, U, S, py, Py, Z, gy, R, A, L, F, Ww, Q, fl, pp, qy, O) (nI p) (nI a) (nI b)) (h : post (qn2, ec2, pn2, go2, K2, ly2, wd2, E2, U2, S2, py2, Py2, Z2, gy2, R2, A2, L2, F2, Ww2, Q2, fl2, pp2, qy2, O2)) : wpY_call post (qn, ec, pn, go, K, ly, wd, E, U, S, py, Py, Z, gy, R, A, L, F, Ww, Q, fl, pp, qy, O) (nI p) (nI 16) (nI a) (nI b) n :=
  br_f (by decide) (br_f (by decide) (br_f (by decide) (br_t (by decide) (hX _ (br_f (by decide) (br_f (by decide) (br_f (by decide) (br_f (by decide) (br_f (by decide) (br_f (by decide) (br_f (by decide) (br_f (by decide) (h)))))))))))))
theorem yc_17 {post : SY → Prop} {p a b : Nat} {n : Int32} (hX : ∀ post' : SY → Prop, post' (qn2, ec2, pn2, go2, K2, ly2, wd2, E2, U2, S2, py2, Py2, Z2, gy2, R2, A2, L2, F2, Ww2, Q2, fl2, pp2, qy2, O2) → wpY_pipeNew post' (qn, ec, pn, go, K, ly, wd, E, U, S, py, Py, Z, gy, R, A, L, F, Ww, Q, fl, pp, qy, O) (nI p) (nI a) (nI b)) (h : post (qn2, ec2, pn2, go2, K2, ly2, wd2, E2, U2, S2, py2, Py2, Z2, gy2, R2, A2, L2, F2, Ww2, Q2, fl2, pp2, qy2, O2)) : wpY_call post (qn, ec, pn, go, K, ly, wd, E, U, S, py, Py, Z, gy, R, A, L, F, Ww, Q, fl, pp, qy, O) (nI p) (nI 17) (nI a) (nI b) n :=
  br_f (by decide) (br_f (by decide) (br_f (by decide) (br_f (by decide) (br_t (by decide) (hX _ (br_f (by decide) (br_f (by decide) (br_f (by decide) (br_f (by decide) (br_f (by decide) (br_f (by decide) (br_f (by decide) (h)))))))))))))
theorem yc_18 {post : SY → Prop} {p a b : Nat} {n : Int32} (hX : ∀ post' : SY → Prop, post' (qn2, ec2, pn2, go2, K2, ly2, wd2, E2, U2, S2, py2, Py2, Z2, gy2, R2, A2, L2, F2, Ww2, Q2, fl2, pp2, qy2, O2) → wpY_copy post' (qn, ec, pn, go, K, ly, wd, E, U, S, py, Py, Z, gy, R, A, L, F, Ww, Q, fl, pp, qy, O) (nI p) (nI a) (nI b)) (h : post (qn2, ec2, pn2, go2, K2, ly2, wd2, E2, U2, S2, py2, Py2, Z2, gy2, R2, A2, L2, F2, Ww2, Q2, fl2, pp2, qy2, O2)) : wpY_call post (qn, ec, pn, go, K, ly, wd, E, U, S, py, Py, Z, gy, R, A, L, F, Ww, Q, fl, pp, qy, O) (nI p) (nI 18) (nI a) (nI b) n :=
  br_f (by decide) (br_f (by decide) (br_f (by decide) (br_f (by decide) (br_f (by decide) (br_t (by decide) (hX _ (br_f (by decide) (br_f (by decide) (br_f (by decide) (br_f (by decide) (br_f (by decide) (br_f (by decide) (h)))))))))))))
theorem yc_19 {post : SY → Prop} {p a b : Nat} {n : Int32} (hX : ∀ post' : SY → Prop, post' (qn2, ec2, pn2, go2, K2, ly2, wd2, E2, U2, S2, py2, Py2, Z2, gy2, R2, A2, L2, F2, Ww2, Q2, fl2, pp2, qy2, O2) → wpY_seek post' (qn, ec, pn, go, K, ly, wd, E, U, S, py, Py, Z, gy, R, A, L, F, Ww, Q, fl, pp, qy, O) (nI p) (nI a) (nI b)) (h : post (qn2, ec2, pn2, go2, K2, ly2, wd2, E2, U2, S2, py2, Py2, Z2, gy2, R2, A2, L2, F2, Ww2, Q2, fl2, pp2, qy2, O2)) : wpY_call post (qn, ec, pn, go, K, ly, wd, E, U, S, py, Py, Z, gy, R, A, L, F, Ww, Q, fl, pp, qy, O) (nI p) (nI 19) (nI a) (nI b) n :=
  br_f (by decide) (br_f (by decide) (br_f (by decide) (br_f (by decide) (br_f (by decide) (br_f (by decide) (br_t (by decide) (hX _ (br_f (by decide) (br_f (by decide) (br_f (by decide) (br_f (by decide) (br_f (by decide) (h)))))))))))))
theorem yc_20 {post : SY → Prop} {p a b : Nat} {n : Int32} (hX : ∀ post' : SY → Prop, post' (qn2, ec2, pn2, go2, K2, ly2, wd2, E2, U2, S2, py2, Py2, Z2, gy2, R2, A2, L2, F2, Ww2, Q2, fl2, pp2, qy2, O2) → wpY_makeDirectory post' (qn, ec, pn, go, K, ly, wd, E, U, S, py, Py, Z, gy, R, A, L, F, Ww, Q, fl, pp, qy, O) (nI p) (nI a)) (h : post (qn2, ec2, pn2, go2, K2, ly2, wd2, E2, U2, S2, py2, Py2, Z2, gy2, R2, A2, L2, F2, Ww2, Q2, fl2, pp2, qy2, O2)) : wpY_call post (qn, ec, pn, go, K, ly, wd, E, U, S, py, Py, Z, gy, R, A, L, F, Ww, Q, fl, pp, qy, O) (nI p) (nI 20) (nI a) (nI b) n :=
  br_f (by decide) (br_f (by decide) (br_f (by decide) (br_f (by decide) (br_f (by decide) (br_f (by decide) (br_f (by decide) (br_t (by decide) (hX _ (br_f (by decide) (br_f (by decide) (br_f (by decide) (br_f (by decide) (h)))))))))))))
theorem yc_21 {post : SY → Prop} {p a b : Nat} {n : Int32} (hX : ∀ post' : SY → Prop, post' (qn2, ec2, pn2, go2, K2, ly2, wd2, E2, U2, S2, py2, Py2, Z2, gy2, R2, A2, L2, F2, Ww2, Q2, fl2, pp2, qy2, O2) → wpY_go post' (qn, ec, pn, go, K, ly, wd, E, U, S, py, Py, Z, gy, R, A, L, F, Ww, Q, fl, pp, qy, O) (nI p) (nI a)) (h : post (qn2, ec2, pn2, go2, K2, ly2, wd2, E2, U2, S2, py2, Py2, Z2, gy2, R2, A2, L2, F2, Ww2, Q2, fl2, pp2, qy2, O2)) : wpY_call post (qn, ec, pn, go, K, ly, wd, E, U, S, py, Py, Z, gy, R, A, L, F, Ww, Q, fl, pp, qy, O) (nI p) (nI 21) (nI a) (nI b) n :=
  br_f (by decide) (br_f (by decide) (br_f (by decide) (br_f (by decide) (br_f (by decide) (br_f (by decide) (br_f (by decide) (br_f (by decide) (br_t (by decide) (hX _ (br_f (by decide) (br_f (by decide) (br_f (by decide) (h)))))))))))))
theorem yc_22 {post : SY → Prop} {p a b : Nat} {n : Int32} (hX : ∀ post' : SY → Prop, post' (qn2, ec2, pn2, go2, K2, ly2, wd2, E2, U2, S2, py2, Py2, Z2, gy2, R2, A2, L2, F2, Ww2, Q2, fl2, pp2, qy2, O2) → wpY_link post' (qn, ec, pn, go, K, ly, wd, E, U, S, py, Py, Z, gy, R, A, L, F, Ww, Q, fl, pp, qy, O) (nI p) (nI a) (nI b)) (h : post (qn2, ec2, pn2, go2, K2, ly2, wd2, E2, U2, S2, py2, Py2, Z2, gy2, R2, A2, L2, F2, Ww2, Q2, fl2, pp2, qy2, O2)) : wpY_call post (qn, ec, pn, go, K, ly, wd, E, U, S, py, Py, Z, gy, R, A, L, F, Ww, Q, fl, pp, qy, O) (nI p) (nI 22) (nI a) (nI b) n :=
  br_f (by decide) (br_f (by decide) (br_f (by decide) (br_f (by decide) (br_f (by decide) (br_f (by decide) (br_f (by decide) (br_f (by decide) (br_f (by decide) (br_t (by decide) (hX _ (br_f (by decide) (br_f (by decide) (h)))))))))))))
theorem yc_23 {post : SY → Prop} {p a b : Nat} {n : Int32} (hX : ∀ post' : SY → Prop, post' (qn2, ec2, pn2, go2, K2, ly2, wd2, E2, U2, S2, py2, Py2, Z2, gy2, R2, A2, L2, F2, Ww2, Q2, fl2, pp2, qy2, O2) → wpY_remove post' (qn, ec, pn, go, K, ly, wd, E, U, S, py, Py, Z, gy, R, A, L, F, Ww, Q, fl, pp, qy, O) (nI p) (nI a)) (h : post (qn2, ec2, pn2, go2, K2, ly2, wd2, E2, U2, S2, py2, Py2, Z2, gy2, R2, A2, L2, F2, Ww2, Q2, fl2, pp2, qy2, O2)) : wpY_call post (qn, ec, pn, go, K, ly, wd, E, U, S, py, Py, Z, gy, R, A, L, F, Ww, Q, fl, pp, qy, O) (nI p) (nI 23) (nI a) (nI b) n :=
  br_f (by decide) (br_f (by decide) (br_f (by decide) (br_f (by decide) (br_f (by decide) (br_f (by decide) (br_f (by decide) (br_f (by decide) (br_f (by decide) (br_f (by decide) (br_t (by decide) (hX _ (br_f (by decide) (h)))))))))))))
theorem yc_28 {post : SY → Prop} {p a b : Nat} {n : Int32} (hX : ∀ post' : SY → Prop, post' (qn2, ec2, pn2, go2, K2, ly2, wd2, E2, U2, S2, py2, Py2, Z2, gy2, R2, A2, L2, F2, Ww2, Q2, fl2, pp2, qy2, O2) → wpY_killOther post' (qn, ec, pn, go, K, ly, wd, E, U, S, py, Py, Z, gy, R, A, L, F, Ww, Q, fl, pp, qy, O) (nI p) (nI a)) (h : post (qn2, ec2, pn2, go2, K2, ly2, wd2, E2, U2, S2, py2, Py2, Z2, gy2, R2, A2, L2, F2, Ww2, Q2, fl2, pp2, qy2, O2)) : wpY_call post (qn, ec, pn, go, K, ly, wd, E, U, S, py, Py, Z, gy, R, A, L, F, Ww, Q, fl, pp, qy, O) (nI p) (nI 28) (nI a) (nI b) n :=
  br_f (by decide) (br_f (by decide) (br_f (by decide) (br_f (by decide) (br_f (by decide) (br_f (by decide) (br_f (by decide) (br_f (by decide) (br_f (by decide) (br_f (by decide) (br_f (by decide) (br_t (by decide) (hX _ (h)))))))))))))
end
end
section
/-! operations on registers, jumps, nothing -/
theorem zj_1 {B p z s a b : Nat} {w : Int32} {C : Nat → Int32} {ln bl dc : Nat → Nat} {ql : List Nat} {fu : Int64} {nk lv qa qz : Int32} {ec : Int64} {pn : Int32} {st kb ch kw K lx bo lk oc eN eV U F Ww Q os ps pc pw rd wr S pr P Z gx R L D bh O : Nat → Int32} {qn go : Int32} {ly wd E py gy A fl pp qy : Nat → Int32} (I : zz_I B p C ln bl dc ql fu nk lv qa qz pn st kb ch kw K lx bo lk oc eN eV U F Q os ps pc pw rd wr S pr P Z gx L D bh qn ly wd E py gy A fl pp qy) (hB : B + 1 < 1000000) (hp : p < 5) (hS : S p = 1) (hz : z ≤ 20) (eZ : Z p = nI z) (eP : P p = nI s) (hs : s < z) (hw : gy (20 * p + s) = w) (hD : zw_D w 1 a b) : ∃ (r : Int32) (u' : SX) (v' : SY), zz_Q (B + 1) p w r u' v' ∧ (∀ post : SX → Prop, post u' → wpX_execute post (fu, nk, lv, qa, qz, ec + 1, pn, st, kb, ch, kw, K, lx, bo, lk, oc, eN, eV, U, F, Ww, Q, os, ps, pc, pw, rd, wr, S, pr, P, Z, gx, R, L, D, bh, O) (nI p) w) ∧ ∀ post : Int32 → SY → Prop, post r v' → wpY_execute post (qn, ec, pn, go, K, ly, wd, E, U, S, py, P, Z, gy, R, A, L, F, Ww, Q, fl, pp, qy, O) (nI p) :=
  ⟨1, (fu, nk, lv, qa, qz, ec + 1, pn, st, kb, ch, kw, K, lx, bo, lk, oc, eN, eV, U, F, Ww, Q, os, ps, pc, pw, rd, wr, S, pr, upd P p (P p + 1), Z, gx, upd R (4 * p + a) ((w >>> ((9 : Int32) &&& 31))), L, D, bh, O), (qn, ec + 1, pn, 1, K, ly, wd, E, U, S, py, upd P p (P p + 1), Z, gy, upd R (4 * p + a) ((w >>> ((9 : Int32) &&& 31))), A, L, F, Ww, Q, fl, pp, qy, O), zz_Qmk (zi_B (zi_P I (by rw [hS]; decide)) hB) (Or.inl ⟨rfl, hS, by rw [hD.1]; decide⟩), fun post h => xe_1 hp hD h, fun post h => ye_s1 hp hz eZ eP hs hw hD (fun post' h' => ys_1 hp hD.2.2.2.2.1 hD.2.2.2.2.2 h') rfl h⟩
theorem zj_2 {B p z s a b : Nat} {w : Int32} {C : Nat → Int32} {ln bl dc : Nat → Nat} {ql : List Nat} {fu : Int64} {nk lv qa qz : Int32} {ec : Int64} {pn : Int32} {st kb ch kw K lx bo lk oc eN eV U F Ww Q os ps pc pw rd wr S pr P Z gx R L D bh O : Nat → Int32} {qn go : Int32} {ly wd E py gy A fl pp qy : Nat → Int32} (I : zz_I B p C ln bl dc ql fu nk lv qa qz pn st kb ch kw K lx bo lk oc eN eV U F Q os ps pc pw rd wr S pr P Z gx L D bh qn ly wd E py gy A fl pp qy) (hB : B + 1 < 1000000) (hp : p < 5) (hS : S p = 1) (hz : z ≤ 20) (eZ : Z p = nI z) (eP : P p = nI s) (hs : s < z) (hw : gy (20 * p + s) = w) (hD : zw_D w 2 a b) : ∃ (r : Int32) (u' : SX) (v' : SY), zz_Q (B + 1) p w r u' v' ∧ (∀ post : SX → Prop, post u' → wpX_execute post (fu, nk, lv, qa, qz, ec + 1, pn, st, kb, ch, kw, K, lx, bo, lk, oc, eN, eV, U, F, Ww, Q, os, ps, pc, pw, rd, wr, S, pr, P, Z, gx, R, L, D, bh, O) (nI p) w) ∧ ∀ post : Int32 → SY → Prop, post r v' → wpY_execute post (qn, ec, pn, go, K, ly, wd, E, U, S, py, P, Z, gy, R, A, L, F, Ww, Q, fl, pp, qy, O) (nI p) :=
  ⟨1, (fu, nk, lv, qa, qz, ec + 1, pn, st, kb, ch, kw, K, lx, bo, lk, oc, eN, eV, U, F, Ww, Q, os, ps, pc, pw, rd, wr, S, pr, upd P p (P p + 1), Z, gx, upd R (4 * p + a) (R (4 * p + b)), L, D, bh, O), (qn, ec + 1, pn, 1, K, ly, wd, E, U, S, py, upd P p (P p + 1), Z, gy, upd R (4 * p + a) (R (4 * p + b)), A, L, F, Ww, Q, fl, pp, qy, O), zz_Qmk (zi_B (zi_P I (by rw [hS]; decide)) hB) (Or.inl ⟨rfl, hS, by rw [hD.1]; decide⟩), fun post h => xe_2 hp hD h, fun post h => ye_s2 hp hz eZ eP hs hw hD (fun post' h' => ys_2 hp hD.2.2.2.2.1 hD.2.2.2.2.2 h') rfl h⟩
theorem zj_3 {B p z s a b : Nat} {w : Int32} {C : Nat → Int32} {ln bl dc : Nat → Nat} {ql : List Nat} {fu : Int64} {nk lv qa qz : Int32} {ec : Int64} {pn : Int32} {st kb ch kw K lx bo lk oc eN eV U F Ww Q os ps pc pw rd wr S pr P Z gx R L D bh O : Nat → Int32} {qn go : Int32} {ly wd E py gy A fl pp qy : Nat → Int32} (I : zz_I B p C ln bl dc ql fu nk lv qa qz pn st kb ch kw K lx bo lk oc eN eV U F Q os ps pc pw rd wr S pr P Z gx L D bh qn ly wd E py gy A fl pp qy) (hB : B + 1 < 1000000) (hp : p < 5) (hS : S p = 1) (hz : z ≤ 20) (eZ : Z p = nI z) (eP : P p = nI s) (hs : s < z) (hw : gy (20 * p + s) = w) (hD : zw_D w 3 a b) : ∃ (r : Int32) (u' : SX) (v' : SY), zz_Q (B + 1) p w r u' v' ∧ (∀ post : SX → Prop, post u' → wpX_execute post (fu, nk, lv, qa, qz, ec + 1, pn, st, kb, ch, kw, K, lx, bo, lk, oc, eN, eV, U, F, Ww, Q, os, ps, pc, pw, rd, wr, S, pr, P, Z, gx, R, L, D, bh, O) (nI p) w) ∧ ∀ post : Int32 → SY → Prop, post r v' → wpY_execute post (qn, ec, pn, go, K, ly, wd, E, U, S, py, P, Z, gy, R, A, L, F, Ww, Q, fl, pp, qy, O) (nI p) :=
  ⟨1, (fu, nk, lv, qa, qz, ec + 1, pn, st, kb, ch, kw, K, lx, bo, lk, oc, eN, eV, U, F, Ww, Q, os, ps, pc, pw, rd, wr, S, pr, upd P p (P p + 1), Z, gx, upd R (4 * p + a) (R (4 * p + a) + R (4 * p + b)), L, D, bh, O), (qn, ec + 1, pn, 1, K, ly, wd, E, U, S, py, upd P p (P p + 1), Z, gy, upd R (4 * p + a) (R (4 * p + a) + R (4 * p + b)), A, L, F, Ww, Q, fl, pp, qy, O), zz_Qmk (zi_B (zi_P I (by rw [hS]; decide)) hB) (Or.inl ⟨rfl, hS, by rw [hD.1]; decide⟩), fun post h => xe_3 hp hD h, fun post h => ye_s3 hp hz eZ eP hs hw hD (fun post' h' => ys_3 hp hD.2.2.2.2.1 hD.2.2.2.2.2 h') rfl h⟩
theorem zj_4 {B p z s a b : Nat} {w : Int32} {C : Nat → Int32} {ln bl dc : Nat → Nat} {ql : List Nat} {fu : Int64} {nk lv qa qz : Int32} {ec : Int64} {pn : Int32} {st kb ch kw K lx bo lk oc eN eV U F Ww Q os ps pc pw rd wr S pr P Z gx R L D bh O : Nat → Int32} {qn go : Int32} {ly wd E py gy A fl pp qy : Nat → Int32} (I : zz_I B p C ln bl dc ql fu nk lv qa qz pn st kb ch kw K lx bo lk oc eN eV U F Q os ps pc pw rd wr S pr P Z gx L D bh qn ly wd E py gy A fl pp qy) (hB : B + 1 < 1000000) (hp : p < 5) (hS : S p = 1) (hz : z ≤ 20) (eZ : Z p = nI z) (eP : P p = nI s) (hs : s < z) (hw : gy (20 * p + s) = w) (hD : zw_D w 4 a b) : ∃ (r : Int32) (u' : SX) (v' : SY), zz_Q (B + 1) p w r u' v' ∧ (∀ post : SX → Prop, post u' → wpX_execute post (fu, nk, lv, qa, qz, ec + 1, pn, st, kb, ch, kw, K, lx, bo, lk, oc, eN, eV, U, F, Ww, Q, os, ps, pc, pw, rd, wr, S, pr, P, Z, gx, R, L, D, bh, O) (nI p) w) ∧ ∀ post : Int32 → SY → Prop, post r v' → wpY_execute post (qn, ec, pn, go, K, ly, wd, E, U, S, py, P, Z, gy, R, A, L, F, Ww, Q, fl, pp, qy, O) (nI p) :=
  ⟨1, (fu, nk, lv, qa, qz, ec + 1, pn, st, kb, ch, kw, K, lx, bo, lk, oc, eN, eV, U, F, Ww, Q, os, ps, pc, pw, rd, wr, S, pr, upd P p (P p + 1), Z, gx, upd R (4 * p + a) (R (4 * p + a) - R (4 * p + b)), L, D, bh, O), (qn, ec + 1, pn, 1, K, ly, wd, E, U, S, py, upd P p (P p + 1), Z, gy, upd R (4 * p + a) (R (4 * p + a) - R (4 * p + b)), A, L, F, Ww, Q, fl, pp, qy, O), zz_Qmk (zi_B (zi_P I (by rw [hS]; decide)) hB) (Or.inl ⟨rfl, hS, by rw [hD.1]; decide⟩), fun post h => xe_4 hp hD h, fun post h => ye_s4 hp hz eZ eP hs hw hD (fun post' h' => ys_4 hp hD.2.2.2.2.1 hD.2.2.2.2.2 h') rfl h⟩
theorem zj_5 {B p z s a b : Nat} {w : Int32} {C : Nat → Int32} {ln bl dc : Nat → Nat} {ql : List Nat} {fu : Int64} {nk lv qa qz : Int32} {ec : Int64} {pn : Int32} {st kb ch kw K lx bo lk oc eN eV U F Ww Q os ps pc pw rd wr S pr P Z gx R L D bh O : Nat → Int32} {qn go : Int32} {ly wd E py gy A fl pp qy : Nat → Int32} (I : zz_I B p C ln bl dc ql fu nk lv qa qz pn st kb ch kw K lx bo lk oc eN eV U F Q os ps pc pw rd wr S pr P Z gx L D bh qn ly wd E py gy A fl pp qy) (hB : B + 1 < 1000000) (hp : p < 5) (hS : S p = 1) (hz : z ≤ 20) (eZ : Z p = nI z) (eP : P p = nI s) (hs : s < z) (hw : gy (20 * p + s) = w) (hD : zw_D w 5 a b) : ∃ (r : Int32) (u' : SX) (v' : SY), zz_Q (B + 1) p w r u' v' ∧ (∀ post : SX → Prop, post u' → wpX_execute post (fu, nk, lv, qa, qz, ec + 1, pn, st, kb, ch, kw, K, lx, bo, lk, oc, eN, eV, U, F, Ww, Q, os, ps, pc, pw, rd, wr, S, pr, P, Z, gx, R, L, D, bh, O) (nI p) w) ∧ ∀ post : Int32 → SY → Prop, post r v' → wpY_execute post (qn, ec, pn, go, K, ly, wd, E, U, S, py, P, Z, gy, R, A, L, F, Ww, Q, fl, pp, qy, O) (nI p) :=
  ⟨1, (fu, nk, lv, qa, qz, ec + 1, pn, st, kb, ch, kw, K, lx, bo, lk, oc, eN, eV, U, F, Ww, Q, os, ps, pc, pw, rd, wr, S, pr, upd P p (P p + 1), Z, gx, upd R (4 * p + a) (R (4 * p + a) + (w >>> ((9 : Int32) &&& 31))), L, D, bh, O), (qn, ec + 1, pn, 1, K, ly, wd, E, U, S, py, upd P p (P p + 1), Z, gy, upd R (4 * p + a) (R (4 * p + a) + (w >>> ((9 : Int32) &&& 31))), A, L, F, Ww, Q, fl, pp, qy, O), zz_Qmk (zi_B (zi_P I (by rw [hS]; decide)) hB) (Or.inl ⟨rfl, hS, by rw [hD.1]; decide⟩), fun post h => xe_5 hp hD h, fun post h => ye_s5 hp hz eZ eP hs hw hD (fun post' h' => ys_5 hp hD.2.2.2.2.1 hD.2.2.2.2.2 h') rfl h⟩
theorem zj_6 {B p z s a b : Nat} {w : Int32} {C : Nat → Int32} {ln bl dc : Nat → Nat} {ql : List Nat} {fu : Int64} {nk lv qa qz : Int32} {ec : Int64} {pn : Int32} {st kb ch kw K lx bo lk oc eN eV U F Ww Q os ps pc pw rd wr S pr P Z gx R L D bh O : Nat → Int32} {qn go : Int32} {ly wd E py gy A fl pp qy : Nat → Int32} (I : zz_I B p C ln bl dc ql fu nk lv qa qz pn st kb ch kw K lx bo lk oc eN eV U F Q os ps pc pw rd wr S pr P Z gx L D bh qn ly wd E py gy A fl pp qy) (hB : B + 1 < 1000000) (hp : p < 5) (hS : S p = 1) (hz : z ≤ 20) (eZ : Z p = nI z) (eP : P p = nI s) (hs : s < z) (hw : gy (20 * p + s) = w) (hD : zw_D w 6 a b) : ∃ (r : Int32) (u' : SX) (v' : SY), zz_Q (B + 1) p w r u' v' ∧ (∀ post : SX → Prop, post u' → wpX_execute post (fu, nk, lv, qa, qz, ec + 1, pn, st, kb, ch, kw, K, lx, bo, lk, oc, eN, eV, U, F, Ww, Q, os, ps, pc, pw, rd, wr, S, pr, P, Z, gx, R, L, D, bh, O) (nI p) w) ∧ ∀ post : Int32 → SY → Prop, post r v' → wpY_execute post (qn, ec, pn, go, K, ly, wd, E, U, S, py, P, Z, gy, R, A, L, F, Ww, Q, fl, pp, qy, O) (nI p) :=
  ⟨1, (fu, nk, lv, qa, qz, ec + 1, pn, st, kb, ch, kw, K, lx, bo, lk, oc, eN, eV, U, F, Ww, Q, os, ps, pc, pw, rd, wr, S, pr, upd P p (P p + 1), Z, gx, upd R (4 * p + a) (if R (4 * p + b) ≤ R (4 * p + a) then 0 else 1), L, D, bh, O), (qn, ec + 1, pn, 1, K, ly, wd, E, U, S, py, upd P p (P p + 1), Z, gy, upd R (4 * p + a) (if R (4 * p + b) ≤ R (4 * p + a) then 0 else 1), A, L, F, Ww, Q, fl, pp, qy, O), zz_Qmk (zi_B (zi_P I (by rw [hS]; decide)) hB) (Or.inl ⟨rfl, hS, by rw [hD.1]; decide⟩), fun post h => xe_6 hp hD h, fun post h => ye_s6 hp hz eZ eP hs hw hD (fun post' h' => ys_6 hp hD.2.2.2.2.1 hD.2.2.2.2.2 h') rfl h⟩
theorem zj_26 {B p z s a b : Nat} {w : Int32} {C : Nat → Int32} {ln bl dc : Nat → Nat} {ql : List Nat} {fu : Int64} {nk lv qa qz : Int32} {ec : Int64} {pn : Int32} {st kb ch kw K lx bo lk oc eN eV U F Ww Q os ps pc pw rd wr S pr P Z gx R L D bh O : Nat → Int32} {qn go : Int32} {ly wd E py gy A fl pp qy : Nat → Int32} (I : zz_I B p C ln bl dc ql fu nk lv qa qz pn st kb ch kw K lx bo lk oc eN eV U F Q os ps pc pw rd wr S pr P Z gx L D bh qn ly wd E py gy A fl pp qy) (hB : B + 1 < 1000000) (hp : p < 5) (hS : S p = 1) (hz : z ≤ 20) (eZ : Z p = nI z) (eP : P p = nI s) (hs : s < z) (hw : gy (20 * p + s) = w) (hD : zw_D w 26 a b) : ∃ (r : Int32) (u' : SX) (v' : SY), zz_Q (B + 1) p w r u' v' ∧ (∀ post : SX → Prop, post u' → wpX_execute post (fu, nk, lv, qa, qz, ec + 1, pn, st, kb, ch, kw, K, lx, bo, lk, oc, eN, eV, U, F, Ww, Q, os, ps, pc, pw, rd, wr, S, pr, P, Z, gx, R, L, D, bh, O) (nI p) w) ∧ ∀ post : Int32 → SY → Prop, post r v' → wpY_execute post (qn, ec, pn, go, K, ly, wd, E, U, S, py, P, Z, gy, R, A, L, F, Ww, Q, fl, pp, qy, O) (nI p) :=
  ⟨1, (fu, nk, lv, qa, qz, ec + 1, pn, st, kb, ch, kw, K, lx, bo, lk, oc, eN, eV, U, F, Ww, Q, os, ps, pc, pw, rd, wr, S, pr, upd P p (P p + 1), Z, gx, upd R (4 * p + a) (nI p), L, D, bh, O), (qn, ec + 1, pn, 1, K, ly, wd, E, U, S, py, upd P p (P p + 1), Z, gy, upd R (4 * p + a) (nI p), A, L, F, Ww, Q, fl, pp, qy, O), zz_Qmk (zi_B (zi_P I (by rw [hS]; decide)) hB) (Or.inl ⟨rfl, hS, by rw [hD.1]; decide⟩), fun post h => xe_26 hp hD h, fun post h => ye_s26 hp hz eZ eP hs hw hD (fun post' h' => ys_26 hp hD.2.2.2.2.1 hD.2.2.2.2.2 h') rfl h⟩
theorem zj_25 {B p z s a b : Nat} {w : Int32} {C : Nat → Int32} {ln bl dc : Nat → Nat} {ql : List Nat} {fu : Int64} {nk lv qa qz : Int32} {ec : Int64} {pn : Int32} {st kb ch kw K lx bo lk oc eN eV U F Ww Q os ps pc pw rd wr S pr P Z gx R L D bh O : Nat → Int32} {qn go : Int32} {ly wd E py gy A fl pp qy : Nat → Int32} (I : zz_I B p C ln bl dc ql fu nk lv qa qz pn st kb ch kw K lx bo lk oc eN eV U F Q os ps pc pw rd wr S pr P Z gx L D bh qn ly wd E py gy A fl pp qy) (hB : B + 1 < 1000000) (hp : p < 5) (hS : S p = 1) (hz : z ≤ 20) (eZ : Z p = nI z) (eP : P p = nI s) (hs : s < z) (hw : gy (20 * p + s) = w) (hD : zw_D w 25 a b) : ∃ (r : Int32) (u' : SX) (v' : SY), zz_Q (B + 1) p w r u' v' ∧ (∀ post : SX → Prop, post u' → wpX_execute post (fu, nk, lv, qa, qz, ec + 1, pn, st, kb, ch, kw, K, lx, bo, lk, oc, eN, eV, U, F, Ww, Q, os, ps, pc, pw, rd, wr, S, pr, P, Z, gx, R, L, D, bh, O) (nI p) w) ∧ ∀ post : Int32 → SY → Prop, post r v' → wpY_execute post (qn, ec, pn, go, K, ly, wd, E, U, S, py, P, Z, gy, R, A, L, F, Ww, Q, fl, pp, qy, O) (nI p) :=
  ⟨0, (fu, nk, lv, qa, qz, ec + 1, pn, st, kb, ch, kw, K, lx, bo, lk, oc, eN, eV, U, F, Ww, Q, os, ps, pc, pw, rd, wr, S, pr, upd P p (P p + 1), Z, gx, R, L, D, bh, O), (qn, ec + 1, pn, 1, K, ly, wd, E, U, S, py, upd P p (P p + 1), Z, gy, R, A, L, F, Ww, Q, fl, pp, qy, O), zz_Qmk (zi_B (zi_P I (by rw [hS]; decide)) hB) (Or.inr ⟨rfl, Or.inr hD.1⟩), fun post h => xe_25 hp hD h, fun post h => ye_s25 hp hz eZ eP hs hw hD (fun post' h' => ys_25 hp hD.2.2.2.2.1 hD.2.2.2.2.2 h') rfl h⟩
theorem zj_29 {B p z s a b : Nat} {w : Int32} {C : Nat → Int32} {ln bl dc : Nat → Nat} {ql : List Nat} {fu : Int64} {nk lv qa qz : Int32} {ec : Int64} {pn : Int32} {st kb ch kw K lx bo lk oc eN eV U F Ww Q os ps pc pw rd wr S pr P Z gx R L D bh O : Nat → Int32} {qn go : Int32} {ly wd E py gy A fl pp qy : Nat → Int32} (I : zz_I B p C ln bl dc ql fu nk lv qa qz pn st kb ch kw K lx bo lk oc eN eV U F Q os ps pc pw rd wr S pr P Z gx L D bh qn ly wd E py gy A fl pp qy) (hB : B + 1 < 1000000) (hp : p < 5) (hS : S p = 1) (hz : z ≤ 20) (eZ : Z p = nI z) (eP : P p = nI s) (hs : s < z) (hw : gy (20 * p + s) = w) (hD : zw_D w 29 a b) : ∃ (r : Int32) (u' : SX) (v' : SY), zz_Q (B + 1) p w r u' v' ∧ (∀ post : SX → Prop, post u' → wpX_execute post (fu, nk, lv, qa, qz, ec + 1, pn, st, kb, ch, kw, K, lx, bo, lk, oc, eN, eV, U, F, Ww, Q, os, ps, pc, pw, rd, wr, S, pr, P, Z, gx, R, L, D, bh, O) (nI p) w) ∧ ∀ post : Int32 → SY → Prop, post r v' → wpY_execute post (qn, ec, pn, go, K, ly, wd, E, U, S, py, P, Z, gy, R, A, L, F, Ww, Q, fl, pp, qy, O) (nI p) :=
  ⟨1, (fu, nk, lv, qa, qz, ec + 1, pn, st, kb, ch, kw, K, lx, bo, lk, oc, eN, eV, U, F, Ww, Q, os, ps, pc, pw, rd, wr, S, pr, upd P p (P p + 1), Z, gx, R, L, D, bh, O), (qn, ec + 1, pn, 1, K, ly, wd, E, U, S, py, upd P p (P p + 1), Z, gy, R, A, L, F, Ww, Q, fl, pp, qy, O), zz_Qmk (zi_B (zi_P I (by rw [hS]; decide)) hB) (Or.inl ⟨rfl, hS, by rw [hD.1]; decide⟩), fun post h => xe_29 hp hD h, fun post h => ye_s29 hp hz eZ eP hs hw hD (fun post' h' => ys_29 hp hD.2.2.2.2.1 hD.2.2.2.2.2 h') rfl h⟩
theorem zj_30 {B p z s a b : Nat} {w : Int32} {C : Nat → Int32} {ln bl dc : Nat → Nat} {ql : List Nat} {fu : Int64} {nk lv qa qz : Int32} {ec : Int64} {pn : Int32} {st kb ch kw K lx bo lk oc eN eV U F Ww Q os ps pc pw rd wr S pr P Z gx R L D bh O : Nat → Int32} {qn go : Int32} {ly wd E py gy A fl pp qy : Nat → Int32} (I : zz_I B p C ln bl dc ql fu nk lv qa qz pn st kb ch kw K lx bo lk oc eN eV U F Q os ps pc pw rd wr S pr P Z gx L D bh qn ly wd E py gy A fl pp qy) (hB : B + 1 < 1000000) (hp : p < 5) (hS : S p = 1) (hz : z ≤ 20) (eZ : Z p = nI z) (eP : P p = nI s) (hs : s < z) (hw : gy (20 * p + s) = w) (hD : zw_D w 30 a b) : ∃ (r : Int32) (u' : SX) (v' : SY), zz_Q (B + 1) p w r u' v' ∧ (∀ post : SX → Prop, post u' → wpX_execute post (fu, nk, lv, qa, qz, ec + 1, pn, st, kb, ch, kw, K, lx, bo, lk, oc, eN, eV, U, F, Ww, Q, os, ps, pc, pw, rd, wr, S, pr, P, Z, gx, R, L, D, bh, O) (nI p) w) ∧ ∀ post : Int32 → SY → Prop, post r v' → wpY_execute post (qn, ec, pn, go, K, ly, wd, E, U, S, py, P, Z, gy, R, A, L, F, Ww, Q, fl, pp, qy, O) (nI p) :=
  ⟨1, (fu, nk, lv, qa, qz, ec + 1, pn, st, kb, ch, kw, K, lx, bo, lk, oc, eN, eV, U, F, Ww, Q, os, ps, pc, pw, rd, wr, S, pr, upd P p (P p + 1), Z, gx, R, L, D, bh, O), (qn, ec + 1, pn, 1, K, ly, wd, E, U, S, py, upd P p (P p + 1), Z, gy, R, A, L, F, Ww, Q, fl, pp, qy, O), zz_Qmk (zi_B (zi_P I (by rw [hS]; decide)) hB) (Or.inl ⟨rfl, hS, by rw [hD.1]; decide⟩), fun post h => xe_30 hp hD h, fun post h => ye_s30 hp hz eZ eP hs hw hD (fun post' h' => ys_30 hp hD.2.2.2.2.1 hD.2.2.2.2.2 h') rfl h⟩
theorem zj_31 {B p z s a b : Nat} {w : Int32} {C : Nat → Int32} {ln bl dc : Nat → Nat} {ql : List Nat} {fu : Int64} {nk lv qa qz : Int32} {ec : Int64} {pn : Int32} {st kb ch kw K lx bo lk oc eN eV U F Ww Q os ps pc pw rd wr S pr P Z gx R L D bh O : Nat → Int32} {qn go : Int32} {ly wd E py gy A fl pp qy : Nat → Int32} (I : zz_I B p C ln bl dc ql fu nk lv qa qz pn st kb ch kw K lx bo lk oc eN eV U F Q os ps pc pw rd wr S pr P Z gx L D bh qn ly wd E py gy A fl pp qy) (hB : B + 1 < 1000000) (hp : p < 5) (hS : S p = 1) (hz : z ≤ 20) (eZ : Z p = nI z) (eP : P p = nI s) (hs : s < z) (hw : gy (20 * p + s) = w) (hD : zw_D w 31 a b) : ∃ (r : Int32) (u' : SX) (v' : SY), zz_Q (B + 1) p w r u' v' ∧ (∀ post : SX → Prop, post u' → wpX_execute post (fu, nk, lv, qa, qz, ec + 1, pn, st, kb, ch, kw, K, lx, bo, lk, oc, eN, eV, U, F, Ww, Q, os, ps, pc, pw, rd, wr, S, pr, P, Z, gx, R, L, D, bh, O) (nI p) w) ∧ ∀ post : Int32 → SY → Prop, post r v' → wpY_execute post (qn, ec, pn, go, K, ly, wd, E, U, S, py, P, Z, gy, R, A, L, F, Ww, Q, fl, pp, qy, O) (nI p) :=
  ⟨1, (fu, nk, lv, qa, qz, ec + 1, pn, st, kb, ch, kw, K, lx, bo, lk, oc, eN, eV, U, F, Ww, Q, os, ps, pc, pw, rd, wr, S, pr, upd P p (P p + 1), Z, gx, R, L, D, bh, O), (qn, ec + 1, pn, 1, K, ly, wd, E, U, S, py, upd P p (P p + 1), Z, gy, R, A, L, F, Ww, Q, fl, pp, qy, O), zz_Qmk (zi_B (zi_P I (by rw [hS]; decide)) hB) (Or.inl ⟨rfl, hS, by rw [hD.1]; decide⟩), fun post h => xe_31 hp hD h, fun post h => ye_s31 hp hz eZ eP hs hw hD (fun post' h' => ys_31 hp hD.2.2.2.2.1 hD.2.2.2.2.2 h') rfl h⟩
theorem zj_8 {B p z s a b : Nat} {w : Int32} {C : Nat → Int32} {ln bl dc : Nat → Nat} {ql : List Nat} {fu : Int64} {nk lv qa qz : Int32} {ec : Int64} {pn : Int32} {st kb ch kw K lx bo lk oc eN eV U F Ww Q os ps pc pw rd wr S pr P Z gx R L D bh O : Nat → Int32} {qn go : Int32} {ly wd E py gy A fl pp qy : Nat → Int32} (I : zz_I B p C ln bl dc ql fu nk lv qa qz pn st kb ch kw K lx bo lk oc eN eV U F Q os ps pc pw rd wr S pr P Z gx L D bh qn ly wd E py gy A fl pp qy) (hB : B + 1 < 1000000) (hp : p < 5) (hS : S p = 1) (hz : z ≤ 20) (eZ : Z p = nI z) (eP : P p = nI s) (hs : s < z) (hw : gy (20 * p + s) = w) (hD : zw_D w 8 a b) : ∃ (r : Int32) (u' : SX) (v' : SY), zz_Q (B + 1) p w r u' v' ∧ (∀ post : SX → Prop, post u' → wpX_execute post (fu, nk, lv, qa, qz, ec + 1, pn, st, kb, ch, kw, K, lx, bo, lk, oc, eN, eV, U, F, Ww, Q, os, ps, pc, pw, rd, wr, S, pr, P, Z, gx, R, L, D, bh, O) (nI p) w) ∧ ∀ post : Int32 → SY → Prop, post r v' → wpY_execute post (qn, ec, pn, go, K, ly, wd, E, U, S, py, P, Z, gy, R, A, L, F, Ww, Q, fl, pp, qy, O) (nI p) :=
  ⟨1, (fu, nk, lv, qa, qz, ec + 1, pn, st, kb, ch, kw, K, lx, bo, lk, oc, eN, eV, U, F, Ww, Q, os, ps, pc, pw, rd, wr, S, pr, upd P p (w >>> ((9 : Int32) &&& 31)), Z, gx, R, L, D, bh, O), (qn, ec + 1, pn, go, K, ly, wd, E, U, S, py, upd P p (w >>> ((9 : Int32) &&& 31)), Z, gy, R, A, L, F, Ww, Q, fl, pp, qy, O), zz_Qmk (zi_B (zi_P I (by rw [hS]; decide)) hB) (Or.inl ⟨rfl, hS, by rw [hD.1]; decide⟩), fun post h => xe_8 hp hD h, fun post h => ye_8 hp hz eZ eP hs hw hD h⟩
theorem zj_7 {B p z s a b : Nat} {w : Int32} {C : Nat → Int32} {ln bl dc : Nat → Nat} {ql : List Nat} {fu : Int64} {nk lv qa qz : Int32} {ec : Int64} {pn : Int32} {st kb ch kw K lx bo lk oc eN eV U F Ww Q os ps pc pw rd wr S pr P Z gx R L D bh O : Nat → Int32} {qn go : Int32} {ly wd E py gy A fl pp qy : Nat → Int32} (I : zz_I B p C ln bl dc ql fu nk lv qa qz pn st kb ch kw K lx bo lk oc eN eV U F Q os ps pc pw rd wr S pr P Z gx L D bh qn ly wd E py gy A fl pp qy) (hB : B + 1 < 1000000) (hp : p < 5) (hS : S p = 1) (hz : z ≤ 20) (eZ : Z p = nI z) (eP : P p = nI s) (hs : s < z) (hw : gy (20 * p + s) = w) (hD : zw_D w 7 a b) : ∃ (r : Int32) (u' : SX) (v' : SY), zz_Q (B + 1) p w r u' v' ∧ (∀ post : SX → Prop, post u' → wpX_execute post (fu, nk, lv, qa, qz, ec + 1, pn, st, kb, ch, kw, K, lx, bo, lk, oc, eN, eV, U, F, Ww, Q, os, ps, pc, pw, rd, wr, S, pr, P, Z, gx, R, L, D, bh, O) (nI p) w) ∧ ∀ post : Int32 → SY → Prop, post r v' → wpY_execute post (qn, ec, pn, go, K, ly, wd, E, U, S, py, P, Z, gy, R, A, L, F, Ww, Q, fl, pp, qy, O) (nI p) := by
  rcases Classical.em (R (4 * p + a) = 0) with hx | hx
  · exact ⟨1, (fu, nk, lv, qa, qz, ec + 1, pn, st, kb, ch, kw, K, lx, bo, lk, oc, eN, eV, U, F, Ww, Q, os, ps, pc, pw, rd, wr, S, pr, upd P p (w >>> ((9 : Int32) &&& 31)), Z, gx, R, L, D, bh, O), (qn, ec + 1, pn, go, K, ly, wd, E, U, S, py, upd P p (w >>> ((9 : Int32) &&& 31)), Z, gy, R, A, L, F, Ww, Q, fl, pp, qy, O), zz_Qmk (zi_B (zi_P I (by rw [hS]; decide)) hB) (Or.inl ⟨rfl, hS, by rw [hD.1]; decide⟩), fun post h => xe_7t hp hD hx h, fun post h => ye_7t hp hz eZ eP hs hw hD hx h⟩
  · exact ⟨1, (fu, nk, lv, qa, qz, ec + 1, pn, st, kb, ch, kw, K, lx, bo, lk, oc, eN, eV, U, F, Ww, Q, os, ps, pc, pw, rd, wr, S, pr, upd P p (P p + 1), Z, gx, R, L, D, bh, O), (qn, ec + 1, pn, 1, K, ly, wd, E, U, S, py, upd P p (P p + 1), Z, gy, R, A, L, F, Ww, Q, fl, pp, qy, O), zz_Qmk (zi_B (zi_P I (by rw [hS]; decide)) hB) (Or.inl ⟨rfl, hS, by rw [hD.1]; decide⟩), fun post h => xe_7f hp hD hx h, fun post h => ye_s7 hp hz eZ eP hs hw hD hx (fun post' h' => ys_7 hp hD.2.2.2.2.1 hD.2.2.2.2.2 h') rfl h⟩
theorem zj_9 {B p z s a b : Nat} {w : Int32} {C : Nat → Int32} {ln bl dc : Nat → Nat} {ql : List Nat} {fu : Int64} {nk lv qa qz : Int32} {ec : Int64} {pn : Int32} {st kb ch kw K lx bo lk oc eN eV U F Ww Q os ps pc pw rd wr S pr P Z gx R L D bh O : Nat → Int32} {qn go : Int32} {ly wd E py gy A fl pp qy : Nat → Int32} (I : zz_I B p C ln bl dc ql fu nk lv qa qz pn st kb ch kw K lx bo lk oc eN eV U F Q os ps pc pw rd wr S pr P Z gx L D bh qn ly wd E py gy A fl pp qy) (hB : B + 1 < 1000000) (hp : p < 5) (hS : S p = 1) (hz : z ≤ 20) (eZ : Z p = nI z) (eP : P p = nI s) (hs : s < z) (hw : gy (20 * p + s) = w) (hD : zw_D w 9 a b) : ∃ (r : Int32) (u' : SX) (v' : SY), zz_Q (B + 1) p w r u' v' ∧ (∀ post : SX → Prop, post u' → wpX_execute post (fu, nk, lv, qa, qz, ec + 1, pn, st, kb, ch, kw, K, lx, bo, lk, oc, eN, eV, U, F, Ww, Q, os, ps, pc, pw, rd, wr, S, pr, P, Z, gx, R, L, D, bh, O) (nI p) w) ∧ ∀ post : Int32 → SY → Prop, post r v' → wpY_execute post (qn, ec, pn, go, K, ly, wd, E, U, S, py, P, Z, gy, R, A, L, F, Ww, Q, fl, pp, qy, O) (nI p) := by
  rcases Classical.em (R (4 * p + a) = 0) with hx | hx
  · exact ⟨1, (fu, nk, lv, qa, qz, ec + 1, pn, st, kb, ch, kw, K, lx, bo, lk, oc, eN, eV, U, F, Ww, Q, os, ps, pc, pw, rd, wr, S, pr, upd P p (P p + 1), Z, gx, R, L, D, bh, O), (qn, ec + 1, pn, 1, K, ly, wd, E, U, S, py, upd P p (P p + 1), Z, gy, R, A, L, F, Ww, Q, fl, pp, qy, O), zz_Qmk (zi_B (zi_P I (by rw [hS]; decide)) hB) (Or.inl ⟨rfl, hS, by rw [hD.1]; decide⟩), fun post h => xe_9f hp hD hx h, fun post h => ye_s9 hp hz eZ eP hs hw hD hx (fun post' h' => ys_9 hp hD.2.2.2.2.1 hD.2.2.2.2.2 h') rfl h⟩
  · exact ⟨1, (fu, nk, lv, qa, qz, ec + 1, pn, st, kb, ch, kw, K, lx, bo, lk, oc, eN, eV, U, F, Ww, Q, os, ps, pc, pw, rd, wr, S, pr, upd P p (w >>> ((9 : Int32) &&& 31)), Z, gx, R, L, D, bh, O), (qn, ec + 1, pn, go, K, ly, wd, E, U, S, py, upd P p (w >>> ((9 : Int32) &&& 31)), Z, gy, R, A, L, F, Ww, Q, fl, pp, qy, O), zz_Qmk (zi_B (zi_P I (by rw [hS]; decide)) hB) (Or.inl ⟨rfl, hS, by rw [hD.1]; decide⟩), fun post h => xe_9t hp hD hx h, fun post h => ye_9t hp hz eZ eP hs hw hD hx h⟩
end
section
/-! names of files, sizes, printing, waiting -/
theorem zn_cs {K U E : Nat → Int32} {d : Nat} {nm r : Int32} (H3 : zr_K3 K U E) (hd : d < 10) (hv : zn_v E d nm r) : r = -1 ∨ ∃ n m, 1 ≤ n ∧ n < 10 ∧ m < 15 ∧ nm = nI m ∧ E (15 * d + m) = nI n ∧ r = nI n ∧ K n ≠ 0 := by
  rcases hv with ⟨m, hm, em, er⟩ | ⟨_, er⟩
  · rcases H3 (15 * d + m) (by omega) with q | ⟨n, n1, hn, q, hK, _⟩
    · exact Or.inl (er.trans q)
    · exact Or.inr ⟨n, m, n1, hn, hm, em, q, er.trans q, hK⟩
  · exact Or.inl er
theorem zn_no {E : Nat → Int32} {d : Nat} {nm r : Int32} (hv : zn_v E d nm r) (h : ¬ za_r 15 nm) : r = -1 := by
  rcases hv with ⟨m, hm, em, _⟩ | ⟨_, er⟩
  · exact absurd ⟨m, hm, em⟩ h
  · exact er
section
variable {fu : Int64} {nk lv qa qz : Int32} {ec : Int64} {pn : Int32} {st kb ch kw K lx bo lk oc eN eV U F Ww Q os ps pc pw rd wr S pr P Z gx R L D bh O : Nat → Int32} {E : Nat → Int32}
theorem xr_sizeOf {post : Int32 → Prop} {p d : Nat} {nm r v : Int32} (hp5 : p < 5) (eL : L p = nI d) (hd : d < 10) (hK : K d = 2) (H : zr_DR K lx eN eV E) (hv : zn_v E d nm r) (h : (r = -1 ∧ v = -1) ∨ ∃ n, n < 10 ∧ r = nI n ∧ v = lx n) (hp : post v) : wpX_sizeOf post (fu, nk, lv, qa, qz, ec, pn, st, kb, ch, kw, K, lx, bo, lk, oc, eN, eV, U, F, Ww, Q, os, ps, pc, pw, rd, wr, S, pr, P, Z, gx, R, L, D, bh, O) (nI p) nm := by
  unfold wpX_sizeOf
  refine xr_isName (fun hz => br_f (by decide) ⟨vp_in_nI hp5 (by decide), ?_⟩) (fun hz => br_t rfl ?_)
  · rw [zcl (f := L) (by omega), eL]
    refine xr_find hd hK H hv ?_
    unfold wX_sizeOf_23
    rcases h with ⟨e1, e2⟩ | ⟨n, hn, e1, e2⟩
    · rw [e1]; exact br_f (by decide) (e2 ▸ hp)
    · rw [e1, zcl (f := lx) (by omega)]; exact br_t (nI_pos' (by omega)) ⟨vp_in_nI hn (by decide), e2 ▸ hp⟩
  · have e := zn_no hv hz
    rcases h with ⟨_, e2⟩ | ⟨n, hn, e1, _⟩
    · exact br_f (by decide) (e2 ▸ hp)
    · exact absurd (e1.symm.trans e) (zi_m1ne (by omega))
theorem xr_namedFile {post : Int32 → Prop} {p d : Nat} {nm r v : Int32} (hp5 : p < 5) (eL : L p = nI d) (hd : d < 10) (hK : K d = 2) (H : zr_DR K lx eN eV E) (hv : zn_v E d nm r)
    (h : (v = -1 ∧ (r = -1 ∨ ∃ n, n < 10 ∧ r = nI n ∧ K n ≠ 1)) ∨ ∃ n, n < 10 ∧ r = nI n ∧ K n = 1 ∧ v = nI n) (hp : post v) : wpX_namedFile post (fu, nk, lv, qa, qz, ec, pn, st, kb, ch, kw, K, lx, bo, lk, oc, eN, eV, U, F, Ww, Q, os, ps, pc, pw, rd, wr, S, pr, P, Z, gx, R, L, D, bh, O) (nI p) nm := by
  unfold wpX_namedFile
  refine xr_isName (fun hz => br_f (by decide) ⟨vp_in_nI hp5 (by decide), ?_⟩) (fun hz => br_t rfl ?_)
  · rw [zcl (f := L) (by omega), eL]
    refine xr_find hd hK H hv ?_
    unfold wX_namedFile_23
    rcases h with ⟨e1, e2 | ⟨n, hn, e2, e3⟩⟩ | ⟨n, hn, e1, e2, e3⟩
    · rw [e2]; exact br_t (by decide) (e1 ▸ hp)
    · rw [e2, zcl (f := K) (by omega)]; exact br_f (nI_pos (by omega)) ⟨vp_in_nI hn (by decide), br_f e3 (e1 ▸ hp)⟩
    · rw [e1, zcl (f := K) (by omega)]; exact br_f (nI_pos (by omega)) ⟨vp_in_nI hn (by decide), br_t e2 (e3 ▸ hp)⟩
  · have e := zn_no hv hz
    rcases h with ⟨e1, _⟩ | ⟨n, hn, e1, _⟩
    · exact br_t (by decide) (e1 ▸ hp)
    · exact absurd (e1.symm.trans e) (zi_m1ne (by omega))
end
theorem zi_S {B : Nat} {cur : Nat} {C : Nat → Int32} {ln bl dc : Nat → Nat} {ql : List Nat} {fu : Int64} {nk lv qa qz pn : Int32} {st kb ch kw K lx bo lk oc eN eV U F Q os ps pc pw rd wr S pr P Z gx L D bh : Nat → Int32} {qn : Int32} {ly wd E py gy A fl pp qy : Nat → Int32} {S' : Nat → Int32} (I : zz_I B cur C ln bl dc ql fu nk lv qa qz pn st kb ch kw K lx bo lk oc eN eV U F Q os ps pc pw rd wr S pr P Z gx L D bh qn ly wd E py gy A fl pp qy) (h1 : ∀ q, q < 5 → (S' q = 1 ↔ S q = 1)) (h2 : ∀ q, q < 5 → (S' q = 2 ↔ S q = 2)) (h0 : ∀ q, q < 5 → S' q ≠ 0 → S q ≠ 0) (hr : zr_SR S') : zz_I B cur C ln bl dc ql fu nk lv qa qz pn st kb ch kw K lx bo lk oc eN eV U F Q os ps pc pw rd wr S' pr P Z gx L D bh qn ly wd E py gy A fl pp qy := by
  obtain ⟨⟨t1, t2, t3, t4, t5, t6, t7⟩, i2, ⟨o1, o2, o3, o4, o5, o6⟩, i4, ⟨q1, q2⟩, j1, j2, j3, j4, j5⟩ := I
  have h12 : ∀ q, q < 5 → (S' q = 1 ∨ S' q = 2) → (S q = 1 ∨ S q = 2) := fun q hq h => h.imp (h1 q hq).mp (h2 q hq).mp
  refine ⟨⟨t1, t2, t3, t4, fun q hq h => t5 q hq (h12 q hq h), t6, t7⟩, i2, ⟨o1, o2, o3, o4, o5, fun q hq a b => o6 q hq (fun z => a ((h1 q hq).mpr z)) (fun z => b ((h2 q hq).mpr z))⟩, i4, ⟨q1, fun q hq => ?_⟩, hr, fun q hq h => j2 q hq (h0 q hq h), fun q hq h => j3 q hq (h12 q hq h), fun q hq h => j4 q hq ((h2 q hq).mp h), j5⟩
  rw [q2 q hq, h1 q hq]
theorem zj_24 {B p z s a b : Nat} {w : Int32} {C : Nat → Int32} {ln bl dc : Nat → Nat} {ql : List Nat} {fu : Int64} {nk lv qa qz : Int32} {ec : Int64} {pn : Int32} {st kb ch kw K lx bo lk oc eN eV U F Ww Q os ps pc pw rd wr S pr P Z gx R L D bh O : Nat → Int32} {qn go : Int32} {ly wd E py gy A fl pp qy : Nat → Int32} (I : zz_I B p C ln bl dc ql fu nk lv qa qz pn st kb ch kw K lx bo lk oc eN eV U F Q os ps pc pw rd wr S pr P Z gx L D bh qn ly wd E py gy A fl pp qy) (hB : B + 1 < 1000000) (hp : p < 5) (hS : S p = 1) (hz : z ≤ 20) (eZ : Z p = nI z) (eP : P p = nI s) (hs : s < z) (hw : gy (20 * p + s) = w) (hD : zw_D w 24 a b) : ∃ (r : Int32) (u' : SX) (v' : SY), zz_Q (B + 1) p w r u' v' ∧ (∀ post : SX → Prop, post u' → wpX_execute post (fu, nk, lv, qa, qz, ec + 1, pn, st, kb, ch, kw, K, lx, bo, lk, oc, eN, eV, U, F, Ww, Q, os, ps, pc, pw, rd, wr, S, pr, P, Z, gx, R, L, D, bh, O) (nI p) w) ∧ ∀ post : Int32 → SY → Prop, post r v' → wpY_execute post (qn, ec, pn, go, K, ly, wd, E, U, S, py, P, Z, gy, R, A, L, F, Ww, Q, fl, pp, qy, O) (nI p) := by
  obtain ⟨i1, i2, i3, i4, i5, j1, j2, j3, j4, hb, k, hk, ek⟩ := zi_P (x := P p + 1) I (by rw [hS]; decide)
  subst ek
  have I' : zz_I (B + 1) p C ln bl dc ql fu nk lv qa qz (nI (k + 1)) st kb ch kw K lx bo lk oc eN eV U F Q os ps pc pw rd wr S pr (upd P p (P p + 1)) Z gx L D bh qn ly wd E py gy A fl pp qy := ⟨i1, i2, i3, i4, i5, j1, j2, j3, j4, hB, k + 1, by omega, rfl⟩
  by_cases c : 32 ≤ k
  · exact ⟨1, (fu, nk, lv, qa, qz, ec + 1, nI (k + 1), st, kb, ch, kw, K, lx, bo, lk, oc, eN, eV, U, F, Ww, Q, os, ps, pc, pw, rd, wr, S, pr, upd P p (P p + 1), Z, gx, R, L, D, bh, O), (qn, ec + 1, nI (k + 1), 1, K, ly, wd, E, U, S, py, upd P p (P p + 1), Z, gy, R, A, L, F, Ww, Q, fl, pp, qy, O), zz_Qmk I' (Or.inl ⟨rfl, hS, by rw [hD.1]; decide⟩),
      fun post h => xe_24 hp hD (fun post' h' => br_t (nI_le (a := 32) c (by omega)) (nm_r (nI_1 k) h')) h,
      fun post h => ye_s24 hp hz eZ eP hs hw hD (fun post' h' => ys_24 hp hD.2.2.2.2.1 hD.2.2.2.2.2 (fun post' h' => br_t (nI_le (a := 32) c (by omega)) (nm_r (nI_1 k) h')) h') rfl h⟩
  · refine ⟨1, (fu, nk, lv, qa, qz, ec + 1, nI (k + 1), st, kb, ch, kw, K, lx, bo, lk, oc, eN, eV, U, F, Ww, Q, os, ps, pc, pw, rd, wr, S, pr, upd P p (P p + 1), Z, gx, R, L, D, bh, upd O k (R (4 * p + a))), (qn, ec + 1, nI (k + 1), 1, K, ly, wd, E, U, S, py, upd P p (P p + 1), Z, gy, R, A, L, F, Ww, Q, fl, pp, qy, upd O k (R (4 * p + a))), zz_Qmk I' (Or.inl ⟨rfl, hS, by rw [hD.1]; decide⟩),
      fun post h => xe_24 hp hD (fun post' h' => br_f (nI_ge (b := 32) (by omega) (by decide)) ⟨vp_in_nI (by omega) (by decide), ?_⟩) h,
      fun post h => ye_s24 hp hz eZ eP hs hw hD (fun post' h' => ys_24 hp hD.2.2.2.2.1 hD.2.2.2.2.2 (fun post' h' => br_f (nI_ge (b := 32) (by omega) (by decide)) ⟨vp_in_nI (by omega) (by decide), ?_⟩) h') rfl h⟩
    · rw [nI_clamp (n := k) (by omega)]
      exact nm_e (nm_r (nI_1 k) h')
    · rw [nI_clamp (n := k) (by omega)]
      exact nm_e (nm_r (nI_1 k) h')
theorem zj_27 {B p z s a b : Nat} {w : Int32} {C : Nat → Int32} {ln bl dc : Nat → Nat} {ql : List Nat} {fu : Int64} {nk lv qa qz : Int32} {ec : Int64} {pn : Int32} {st kb ch kw K lx bo lk oc eN eV U F Ww Q os ps pc pw rd wr S pr P Z gx R L D bh O : Nat → Int32} {qn go : Int32} {ly wd E py gy A fl pp qy : Nat → Int32} (I : zz_I B p C ln bl dc ql fu nk lv qa qz pn st kb ch kw K lx bo lk oc eN eV U F Q os ps pc pw rd wr S pr P Z gx L D bh qn ly wd E py gy A fl pp qy) (hB : B + 1 < 1000000) (hp : p < 5) (hS : S p = 1) (hz : z ≤ 20) (eZ : Z p = nI z) (eP : P p = nI s) (hs : s < z) (hw : gy (20 * p + s) = w) (hD : zw_D w 27 a b) : ∃ (r : Int32) (u' : SX) (v' : SY), zz_Q (B + 1) p w r u' v' ∧ (∀ post : SX → Prop, post u' → wpX_execute post (fu, nk, lv, qa, qz, ec + 1, pn, st, kb, ch, kw, K, lx, bo, lk, oc, eN, eV, U, F, Ww, Q, os, ps, pc, pw, rd, wr, S, pr, P, Z, gx, R, L, D, bh, O) (nI p) w) ∧ ∀ post : Int32 → SY → Prop, post r v' → wpY_execute post (qn, ec, pn, go, K, ly, wd, E, U, S, py, P, Z, gy, R, A, L, F, Ww, Q, fl, pp, qy, O) (nI p) := by
  have I' := zi_B (zi_P (x := P p + 1) I (by rw [hS]; decide)) hB
  obtain ⟨⟨t1, t2, t3, t4, t5, t6, t7⟩, ⟨_, fx, fy⟩, _⟩ := I
  obtain ⟨d, hd, eL, hKd⟩ := t5 p hp (Or.inl hS)
  obtain ⟨r, hr⟩ := zn_ex E d (R (4 * p + a))
  have hY : ∀ post' : Int32 → Prop, post' r → wpY_named post' (qn, ec + 1, pn, 1, K, ly, wd, E, U, S, py, P, Z, gy, R, A, L, F, Ww, Q, fl, pp, qy, O) (L p) (R (4 * p + a)) := fun post' h' => by rw [eL]; exact yr_named hd hr h'
  rcases zn_cs t3 hd hr with er | ⟨n, m, n1, hn, hm, em, eE, er, hK⟩
  · subst er
    exact ⟨1, (fu, nk, lv, qa, qz, ec + 1, pn, st, kb, ch, kw, K, lx, bo, lk, oc, eN, eV, U, F, Ww, Q, os, ps, pc, pw, rd, wr, S, pr, upd P p (P p + 1), Z, gx, upd R (4 * p + a) (-1), L, D, bh, O), (qn, ec + 1, pn, 1, K, ly, wd, E, U, S, py, upd P p (P p + 1), Z, gy, upd R (4 * p + a) (-1), A, L, F, Ww, Q, fl, pp, qy, O), zz_Qmk I' (Or.inl ⟨rfl, hS, by rw [hD.1]; decide⟩),
      fun post h => xe_27 hp hD (fun post' h' => xr_sizeOf hp eL hd hKd t6 hr (Or.inl ⟨rfl, rfl⟩) h') h,
      fun post h => ye_s27 hp hz eZ eP hs hw hD (fun post' h' => ys_27 hp hD.2.2.2.2.1 hD.2.2.2.2.2 hY (fun post' h' => br_f (by decide) h') h') rfl h⟩
  · subst er
    have hval : (K n = 1 → lx n = ly n) ∧ (K n ≠ 1 → lx n = nI (zc (fun m => E (15 * n + m) ≠ -1) 15)) := by
      refine ⟨fun h => ?_, fun h => ?_⟩
      · rw [(fx.1 n hn h).2, (fy n hn h).1]
      · have h2 : K n = 2 := by
          rcases t1.1 n hn with q | q | q
          · exact absurd q hK
          · exact absurd q h
          · exact q
        obtain ⟨l, _, el, hDD⟩ := t6 n hn h2
        rw [el, hDD.2.2.2]
    exact ⟨1, (fu, nk, lv, qa, qz, ec + 1, pn, st, kb, ch, kw, K, lx, bo, lk, oc, eN, eV, U, F, Ww, Q, os, ps, pc, pw, rd, wr, S, pr, upd P p (P p + 1), Z, gx, upd R (4 * p + a) (lx n), L, D, bh, O), (qn, ec + 1, pn, 1, K, ly, wd, E, U, S, py, upd P p (P p + 1), Z, gy, upd R (4 * p + a) (lx n), A, L, F, Ww, Q, fl, pp, qy, O), zz_Qmk I' (Or.inl ⟨rfl, hS, by rw [hD.1]; decide⟩),
      fun post h => xe_27 hp hD (fun post' h' => xr_sizeOf hp eL hd hKd t6 hr (Or.inr ⟨n, hn, rfl, rfl⟩) h') h,
      fun post h => ye_s27 hp hz eZ eP hs hw hD (fun post' h' => ys_27 hp hD.2.2.2.2.1 hD.2.2.2.2.2 hY (fun post' h' => yo_sizeOf hn t3 (fun q => hval.1 q ▸ h') (fun q => hval.2 q ▸ h')) h') rfl h⟩
theorem zj_11 {B p z s a b : Nat} {w : Int32} {C : Nat → Int32} {ln bl dc : Nat → Nat} {ql : List Nat} {fu : Int64} {nk lv qa qz : Int32} {ec : Int64} {pn : Int32} {st kb ch kw K lx bo lk oc eN eV U F Ww Q os ps pc pw rd wr S pr P Z gx R L D bh O : Nat → Int32} {qn go : Int32} {ly wd E py gy A fl pp qy : Nat → Int32} (I : zz_I B p C ln bl dc ql fu nk lv qa qz pn st kb ch kw K lx bo lk oc eN eV U F Q os ps pc pw rd wr S pr P Z gx L D bh qn ly wd E py gy A fl pp qy) (hB : B + 1 < 1000000) (hp : p < 5) (hS : S p = 1) (hz : z ≤ 20) (eZ : Z p = nI z) (eP : P p = nI s) (hs : s < z) (hw : gy (20 * p + s) = w) (hD : zw_D w 11 a b) : ∃ (r : Int32) (u' : SX) (v' : SY), zz_Q (B + 1) p w r u' v' ∧ (∀ post : SX → Prop, post u' → wpX_execute post (fu, nk, lv, qa, qz, ec + 1, pn, st, kb, ch, kw, K, lx, bo, lk, oc, eN, eV, U, F, Ww, Q, os, ps, pc, pw, rd, wr, S, pr, P, Z, gx, R, L, D, bh, O) (nI p) w) ∧ ∀ post : Int32 → SY → Prop, post r v' → wpY_execute post (qn, ec, pn, go, K, ly, wd, E, U, S, py, P, Z, gy, R, A, L, F, Ww, Q, fl, pp, qy, O) (nI p) := by
  have I1 := zi_B (zi_P (x := P p + 1) I (by rw [hS]; decide)) hB
  obtain ⟨_, _, _, _, _, j1, j2, _⟩ := id I1
  have ha4 := hD.2.2.2.2.1
  have hb4 := hD.2.2.2.2.2
  have eia : 4 * nI p + nI a = nI (4 * p + a) := by rw [zi_m4, nI_add]
  have eib : 4 * nI p + nI b = nI (4 * p + b) := by rw [zi_m4, nI_add]
  obtain ⟨r, hr⟩ := zf_ex (fun c => S c = 3 ∧ pr c = nI p) 5
  have hpe : ∀ c, c < 5 → ((S c = 3 ∧ pr c = nI p) ↔ (S c = 3 ∧ py c = nI p)) := by
    intro c hc
    refine ⟨fun z => ⟨z.1, ?_⟩, fun z => ⟨z.1, ?_⟩⟩
    · rw [← (j2 c hc (by rw [z.1]; decide)).1]; exact z.2
    · rw [(j2 c hc (by rw [z.1]; decide)).1]; exact z.2
  have hr' := hr
  rcases hr' with ⟨er, hn⟩ | ⟨c, hc, er, hh, hm⟩
  · refine ⟨1, (fu, nk, lv, qa, qz, ec + 1, pn, st, kb, ch, kw, K, lx, bo, lk, oc, eN, eV, U, F, Ww, Q, os, ps, pc, pw, rd, wr, S, pr, upd P p (P p + 1), Z, gx, upd R (4 * p + a) (-1), L, D, bh, O), (qn, ec + 1, pn, 1, K, ly, wd, E, U, S, py, upd P p (P p + 1), Z, gy, upd R (4 * p + a) (-1), A, L, F, Ww, Q, fl, pp, qy, O), zz_Qmk I1 (Or.inl ⟨rfl, hS, by rw [hD.1]; decide⟩),
      fun post h => xe_11 hp hD (fun post' h' => ?_) h,
      fun post h => ye_s11 hp hz eZ eP hs hw hD (fun post' h' => ys_11 hp ha4 hb4 (fun post' h' => ?_) h') rfl h⟩
    · unfold wpX_takeChild
      refine xr_endedChild hr ?_
      rw [er, eia, nI_clamp (n := 4 * p + a) (by omega)]
      exact br_f (by decide) ⟨vp_in_nI (by omega) (by decide), nm_e h'⟩
    · unfold wpY_await
      refine yr_endedChild ?_
      intro f hf
      have hneg : ¬ 0 ≤ f := by
        rcases hf with ⟨c, _, hc, h3, _⟩ | ⟨_, ⟨_, e⟩ | ⟨_, e⟩⟩
        · exact absurd ((hpe c hc).mpr h3) (hn c hc)
        · rw [e]; decide
        · rw [e]; decide
      rw [eia, nI_clamp (n := 4 * p + a) (by omega)]
      exact br_f hneg ⟨vp_in_nI (by omega) (by decide), nm_e h'⟩
  · have hcp : c ≠ p := fun e => by rw [e, hS] at hh; exact absurd hh.1 (by decide)
    have I' : zz_I (B + 1) p C ln bl dc ql fu nk lv qa qz pn st kb ch kw K lx bo lk oc eN eV U F Q os ps pc pw rd wr (upd S c 0) pr (upd P p (P p + 1)) Z gx L D bh qn ly wd E py gy A fl pp qy := by
      refine zi_S I1 (fun q hq => ?_) (fun q hq => ?_) (fun q hq z => ?_) (fun q hq => ?_)
      · by_cases e : q = c
        · rw [e, pk_us, hh.1]; decide
        · rw [pk_un e]
      · by_cases e : q = c
        · rw [e, pk_us, hh.1]; decide
        · rw [pk_un e]
      · by_cases e : q = c
        · rw [e, hh.1]; decide
        · rw [pk_un e] at z; exact z
      · by_cases e : q = c
        · rw [e, pk_us]; exact Or.inl rfl
        · rw [pk_un e]; exact j1 q hq
    refine ⟨1, (fu, nk, lv, qa, qz, ec + 1, pn, st, kb, ch, kw, K, lx, bo, lk, oc, eN, eV, U, F, Ww, Q, os, ps, pc, pw, rd, wr, upd S c 0, pr, upd P p (P p + 1), Z, gx, upd (upd R (4 * p + a) (P c)) (4 * p + b) (nI c), L, D, bh, O), (qn, ec + 1, pn, 1, K, ly, wd, E, U, upd S c 0, py, upd P p (P p + 1), Z, gy, upd (upd R (4 * p + a) (P c)) (4 * p + b) (nI c), A, L, F, Ww, Q, fl, pp, qy, O), zz_Qmk I' (Or.inl ⟨rfl, by rw [pk_un (Ne.symm hcp)]; exact hS, by rw [hD.1]; decide⟩),
      fun post h => xe_11 hp hD (fun post' h' => ?_) h,
      fun post h => ye_s11 hp hz eZ eP hs hw hD (fun post' h' => ys_11 hp ha4 hb4 (fun post' h' => ?_) h') rfl h⟩
    · unfold wpX_takeChild
      refine xr_endedChild hr ?_
      rw [er, eia, eib, nI_clamp (n := 4 * p + a) (by omega), nI_clamp (n := 4 * p + b) (by omega), nI_clamp (n := c) (by omega), pk_un hcp, zb_0]
      exact br_t (nI_pos' (by omega)) ⟨vp_in_nI hc (by decide), vp_in_nI (by omega) (by decide), nm_e ⟨vp_in_nI (by omega) (by decide), nm_e ⟨vp_in_nI hc (by decide), nm_e h'⟩⟩⟩
    · unfold wpY_await
      refine yr_endedChild ?_
      intro f hf
      have ef : f = nI c := by
        rcases hf with ⟨c', _, hc', h3, e, hmin⟩ | ⟨z, _⟩
        · have : c' = c := by
            rcases Nat.lt_trichotomy c' c with q | q | q
            · exact absurd ((hpe c' hc').mpr h3) (hm c' q)
            · exact q
            · exact absurd ((hpe c hc).mp hh) (hmin c (by omega) q)
          rw [e, this]
        · exact absurd ((hpe c hc).mp hh) (z c (by omega) hc)
      rw [ef, eia, eib, nI_clamp (n := 4 * p + a) (by omega), nI_clamp (n := 4 * p + b) (by omega), nI_clamp (n := c) (by omega)]
      exact br_t (nI_pos' (by omega)) ⟨vp_in_nI hc (by decide), vp_in_nI (by omega) (by decide), nm_e ⟨vp_in_nI (by omega) (by decide), nm_e ⟨vp_in_nI hc (by decide), nm_e h'⟩⟩⟩
end
section
/-! ending a process -/
noncomputable def ze_S (p i : Nat) (S pr : Nat → Int32) : Nat → Int32 := fun c => if c < i ∧ S c = 3 ∧ pr c = nI p then 0 else S c
noncomputable def ze_R (p i : Nat) (S pr : Nat → Int32) : Nat → Int32 := fun c => if c < i ∧ S c ≠ 0 ∧ pr c = nI p then -1 else pr c
theorem ze_Si {p i : Nat} {S pr : Nat → Int32} : ze_S p i S pr i = S i := if_neg fun z => by omega
theorem ze_Ri {p i : Nat} {S pr : Nat → Int32} : ze_R p i S pr i = pr i := if_neg fun z => by omega
theorem ze_Sn {p i : Nat} {S pr : Nat → Int32} (h : ¬ (S i = 3 ∧ pr i = nI p)) : ze_S p (i + 1) S pr = ze_S p i S pr := by
  funext c
  unfold ze_S
  by_cases e : c = i
  · subst e; rw [if_neg (fun z => h z.2), if_neg (fun z => h z.2)]
  · by_cases q : c < i ∧ S c = 3 ∧ pr c = nI p
    · rw [if_pos q, if_pos ⟨by omega, q.2⟩]
    · rw [if_neg q, if_neg (fun z => q ⟨by omega, z.2⟩)]
theorem ze_Rn {p i : Nat} {S pr : Nat → Int32} (h : ¬ (S i ≠ 0 ∧ pr i = nI p)) : ze_R p (i + 1) S pr = ze_R p i S pr := by
  funext c
  unfold ze_R
  by_cases e : c = i
  · subst e; rw [if_neg (fun z => h z.2), if_neg (fun z => h z.2)]
  · by_cases q : c < i ∧ S c ≠ 0 ∧ pr c = nI p
    · rw [if_pos q, if_pos ⟨by omega, q.2⟩]
    · rw [if_neg q, if_neg (fun z => q ⟨by omega, z.2⟩)]
theorem ze_Su {p i : Nat} {S pr : Nat → Int32} (h : S i = 3 ∧ pr i = nI p) : ze_S p (i + 1) S pr = upd (ze_S p i S pr) i 0 := by
  funext c
  by_cases e : c = i
  · subst e; rw [pk_us]; exact if_pos ⟨by omega, h⟩
  · rw [pk_un e]
    unfold ze_S
    by_cases q : c < i ∧ S c = 3 ∧ pr c = nI p
    · rw [if_pos q, if_pos ⟨by omega, q.2⟩]
    · rw [if_neg q, if_neg (fun z => q ⟨by omega, z.2⟩)]
theorem ze_Ru {p i : Nat} {S pr : Nat → Int32} (h : S i ≠ 0 ∧ pr i = nI p) : ze_R p (i + 1) S pr = upd (ze_R p i S pr) i (-1) := by
  funext c
  by_cases e : c = i
  · subst e; rw [pk_us]; exact if_pos ⟨by omega, h⟩
  · rw [pk_un e]
    unfold ze_R
    by_cases q : c < i ∧ S c ≠ 0 ∧ pr c = nI p
    · rw [if_pos q, if_pos ⟨by omega, q.2⟩]
    · rw [if_neg q, if_neg (fun z => q ⟨by omega, z.2⟩)]
theorem ze_S0 {p : Nat} {S pr : Nat → Int32} : ze_S p 0 S pr = S := funext fun c => if_neg fun z => by omega
theorem ze_R0 {p : Nat} {S pr : Nat → Int32} : ze_R p 0 S pr = pr := funext fun c => if_neg fun z => by omega
theorem zk_zk {dc dc' : Nat → Nat} {E F K : Nat → Int32} (h : ∀ n, zh_f dc' F n → zh_f dc F n) : zk_c dc' E F (zk_c dc E F K) = zk_c dc' E F K := by
  funext n
  rcases Classical.em (n < 10 ∧ K n = 1 ∧ ¬ zh_l E n ∧ ¬ zh_f dc F n) with c | c
  · rw [zk_t c.1 c.2.1 c.2.2.1 (fun z => c.2.2.2 (h n z)), zk_f (fun z => by rw [zk_t c.1 c.2.1 c.2.2.1 c.2.2.2] at z; exact absurd z.2.1 (by decide)), zk_t c.1 c.2.1 c.2.2.1 c.2.2.2]
  · rcases Classical.em (n < 10 ∧ K n = 1 ∧ ¬ zh_l E n ∧ ¬ zh_f dc' F n) with c' | c'
    · rw [zk_t c'.1 c'.2.1 c'.2.2.1 c'.2.2.2]
      exact zk_t c'.1 (by rw [zk_f c]; exact c'.2.1) c'.2.2.1 c'.2.2.2
    · rw [zk_f c', zk_f (fun z => c' (by rw [zk_f c] at z; exact z)), zk_f c]
theorem zk_mo {dc : Nat → Nat} {F : Nat → Int32} {k n : Nat} : zh_f (zu dc k 0) F n → zh_f dc F n := fun ⟨o, ho, e, z⟩ => ⟨o, ho, e, zo_h0 (by omega) z⟩
section
variable {fu : Int64} {nk lv qa qz : Int32} {ec : Int64} {pn : Int32} {st kb ch kw K lx bo lk oc eN eV U F Ww Q os ps pc pw rd wr S pr P Z gx R L D bh O : Nat → Int32} {C : Nat → Int32} {ln bl dc : Nat → Nat} {ly wd E A fl pp : Nat → Int32}
theorem xo_close4 {p : Nat} (HT : zg_T K U E S L lx eN eV lk) (HB : zg_B fu nk lv st kb ch kw C K ln bl bo lx ly wd) (HO : zg_O dc D A os rd wr K F Q oc E S) (HP : zg_P dc ps pc pw fl pp) (hp : p < 5) :
    ∃ (fu' : Int64) (kb' C' : Nat → Int32) (ln' dc' : Nat → Nat) (lx' oc' os' rd' wr' pc' D' : Nat → Int32),
      zg_T (zk_c dc' E F K) U E S L lx' eN eV lk ∧ zg_B fu' nk lv st kb' ch kw C' (zk_c dc' E F K) ln' bl bo lx' ly wd ∧
      zg_O dc' D' (upd (upd (upd (upd A (4 * p + 0) 0) (4 * p + 1) 0) (4 * p + 2) 0) (4 * p + 3) 0) os' rd' wr' (zk_c dc' E F K) F Q oc' E S ∧ zg_P dc' ps pc' pw fl pp ∧ (∀ i, i < 4 → dc' (4 * p + i) = 0) ∧
      ∀ (post : SX → Prop) (x2 : Int32), (∃ n, wX_end_26 post (nI p) x2 fu' nk lv qa qz ec pn n 0 st kb' ch kw (zk_c dc' E F K) lx' bo lk oc' eN eV U F Ww Q os' ps pc' pw rd' wr' S pr P Z gx R L D' bh O) → ∃ n, wX_end_7 post (nI p) x2 n 0 fu nk lv qa qz ec pn st kb ch kw K lx bo lk oc eN eV U F Ww Q os ps pc pw rd wr S pr P Z gx R L D bh O := by
  obtain ⟨fu1, kb1, C1, ln1, lx1, oc1, os1, rd1, wr1, pc1, T1, B1, O1, P1, X1⟩ := xo_closeEnd (fu := fu) (nk := nk) (lv := lv) (qa := qa) (qz := qz) (ec := ec) (pn := pn) (st := st) (kb := kb) (ch := ch) (kw := kw) (K := K) (lx := lx) (bo := bo) (lk := lk) (oc := oc) (eN := eN) (eV := eV) (U := U) (F := F) (Ww := Ww) (Q := Q) (os := os) (ps := ps) (pc := pc) (pw := pw) (rd := rd) (wr := wr) (S := S) (pr := pr) (P := P) (Z := Z) (gx := gx) (R := R) (L := L) (D := D) (bh := bh) (O := O) (d := 0) HT HB HO HP hp (by decide)
  obtain ⟨fu2, kb2, C2, ln2, lx2, oc2, os2, rd2, wr2, pc2, T2, B2, O2, P2, X2⟩ := xo_closeEnd (fu := fu1) (nk := nk) (lv := lv) (qa := qa) (qz := qz) (ec := ec) (pn := pn) (st := st) (kb := kb1) (ch := ch) (kw := kw) (K := zk_c (zu dc (4 * p + 0) 0) E F K) (lx := lx1) (bo := bo) (lk := lk) (oc := oc1) (eN := eN) (eV := eV) (U := U) (F := F) (Ww := Ww) (Q := Q) (os := os1) (ps := ps) (pc := pc1) (pw := pw) (rd := rd1) (wr := wr1) (S := S) (pr := pr) (P := P) (Z := Z) (gx := gx) (R := R) (L := L) (D := upd D (4 * p + 0) 0) (bh := bh) (O := O) (d := 1) T1 B1 O1 P1 hp (by decide)
  rw [zk_zk (fun n => zk_mo)] at T2 B2 O2 X2
  obtain ⟨fu3, kb3, C3, ln3, lx3, oc3, os3, rd3, wr3, pc3, T3, B3, O3, P3, X3⟩ := xo_closeEnd (fu := fu2) (nk := nk) (lv := lv) (qa := qa) (qz := qz) (ec := ec) (pn := pn) (st := st) (kb := kb2) (ch := ch) (kw := kw) (K := zk_c (zu (zu dc (4 * p + 0) 0) (4 * p + 1) 0) E F K) (lx := lx2) (bo := bo) (lk := lk) (oc := oc2) (eN := eN) (eV := eV) (U := U) (F := F) (Ww := Ww) (Q := Q) (os := os2) (ps := ps) (pc := pc2) (pw := pw) (rd := rd2) (wr := wr2) (S := S) (pr := pr) (P := P) (Z := Z) (gx := gx) (R := R) (L := L) (D := upd (upd D (4 * p + 0) 0) (4 * p + 1) 0) (bh := bh) (O := O) (d := 2) T2 B2 O2 P2 hp (by decide)
  rw [zk_zk (fun n => zk_mo)] at T3 B3 O3 X3
  obtain ⟨fu4, kb4, C4, ln4, lx4, oc4, os4, rd4, wr4, pc4, T4, B4, O4, P4, X4⟩ := xo_closeEnd (fu := fu3) (nk := nk) (lv := lv) (qa := qa) (qz := qz) (ec := ec) (pn := pn) (st := st) (kb := kb3) (ch := ch) (kw := kw) (K := zk_c (zu (zu (zu dc (4 * p + 0) 0) (4 * p + 1) 0) (4 * p + 2) 0) E F K) (lx := lx3) (bo := bo) (lk := lk) (oc := oc3) (eN := eN) (eV := eV) (U := U) (F := F) (Ww := Ww) (Q := Q) (os := os3) (ps := ps) (pc := pc3) (pw := pw) (rd := rd3) (wr := wr3) (S := S) (pr := pr) (P := P) (Z := Z) (gx := gx) (R := R) (L := L) (D := upd (upd (upd D (4 * p + 0) 0) (4 * p + 1) 0) (4 * p + 2) 0) (bh := bh) (O := O) (d := 3) T3 B3 O3 P3 hp (by decide)
  rw [zk_zk (fun n => zk_mo)] at T4 B4 O4 X4
  refine ⟨fu4, kb4, C4, ln4, _, lx4, oc4, os4, rd4, wr4, pc4, _, T4, B4, O4, P4, ?_, fun post x2 h => ⟨5, ?_⟩⟩
  · intro i hi
    rcases (show i = 0 ∨ i = 1 ∨ i = 2 ∨ i = 3 by omega) with e | e | e | e <;> subst e
    · rw [zu_n (by omega), zu_n (by omega), zu_n (by omega), zu_s]
    · rw [zu_n (by omega), zu_n (by omega), zu_s]
    · rw [zu_n (by omega), zu_s]
    · rw [zu_s]
  · refine br_f (by decide) (X1 _ (nm_r (e' := nI 1) rfl ?_))
    refine br_f (by decide) (X2 _ (nm_r (e' := nI 2) rfl ?_))
    refine br_f (by decide) (X3 _ (nm_r (e' := nI 3) rfl ?_))
    refine br_f (by decide) (X4 _ (nm_r (e' := nI 4) rfl ?_))
    exact br_t (by decide) h
theorem xo_end26 {post : SX → Prop} {p : Nat} {res : Int32} (hp : p < 5) (hpp : pr p ≠ nI p) (h : post (fu, nk, lv, qa, qz, ec, pn, st, kb, ch, kw, K, lx, bo, lk, oc, eN, eV, U, F, Ww, Q, os, ps, pc, pw, rd, wr, upd (ze_S p 5 S pr) p (if 0 ≤ pr p then 3 else 0), ze_R p 5 S pr, upd P p res, Z, gx, R, L, D, bh, O)) :
    ∀ t i, i + t = 5 → wX_end_26 post (nI p) res fu nk lv qa qz ec pn (t + 1) (nI i) st kb ch kw K lx bo lk oc eN eV U F Ww Q os ps pc pw rd wr (ze_S p i S pr) (ze_R p i S pr) P Z gx R L D bh O := by
  intro t
  induction t with
  | zero =>
    intro i hi
    have e : i = 5 := by omega
    subst e
    refine br_t (nI_le (a := 5) (b := 5) (by decide) (by decide)) ⟨vp_in_nI hp (by decide), ?_⟩
    have er : ze_R p 5 S pr p = pr p := if_neg fun z => hpp z.2.2
    rw [zcl (f := ze_R p 5 S pr) (by omega), er, nI_clamp (by omega), show (3 : Int32).toInt8.toInt32 = 3 by decide, show (0 : Int32).toInt8.toInt32 = 0 by decide, zb_0, show vp_nar .byte 3 = 3 by rw [vp_nar_byte]; decide]
    refine nm_e ⟨vp_in_nI hp (by decide), ?_⟩
    by_cases c : 0 ≤ pr p
    · rw [if_pos c] at h; exact br_t c ⟨vp_in_nI hp (by decide), nm_e h⟩
    · rw [if_neg c] at h; exact br_f c ⟨vp_in_nI hp (by decide), nm_e h⟩
  | succ t ih =>
    intro i hi
    have ih' := ih (i + 1) (by omega)
    refine br_f (nI_ge (b := 5) (by omega) (by decide)) ⟨vp_in_nI (by omega) (by decide), ?_⟩
    rw [zcl (f := ze_S p i S pr) (by omega), zcl (f := ze_R p i S pr) (by omega), ze_Si, ze_Ri, nI_clamp (by omega), zb_m1, zb_0]
    by_cases c0 : S i = 0
    · rw [ze_Sn (fun z => by rw [c0] at z; exact absurd z.1 (by decide)), ze_Rn (fun z => z.1 c0)] at ih'
      exact br_t c0 (nm_r (nI_1 i) ih')
    · refine br_f c0 ⟨vp_in_nI (by omega) (by decide), ?_⟩
      by_cases cp : pr i = nI p
      · refine br_t cp ⟨vp_in_nI (by omega) (by decide), nm_e ⟨vp_in_nI (by omega) (by decide), ?_⟩⟩
        by_cases c3 : S i = 3
        · rw [ze_Su ⟨c3, cp⟩, ze_Ru ⟨c0, cp⟩] at ih'
          exact br_t c3 ⟨vp_in_nI (by omega) (by decide), nm_e (nm_r (nI_1 i) ih')⟩
        · rw [ze_Sn (fun z => c3 z.1), ze_Ru ⟨c0, cp⟩] at ih'
          exact br_f c3 (nm_r (nI_1 i) ih')
      · rw [ze_Sn (fun z => cp z.2), ze_Rn (fun z => cp z.2)] at ih'
        exact br_f cp (nm_r (nI_1 i) ih')
end
section
variable {qn : Int32} {ec : Int64} {pn go : Int32} {K ly wd E U S py Py Z gy R A L F Ww Q fl pp qy O : Nat → Int32} {dc : Nat → Nat} {ql : List Nat}
theorem yo_end33 {post : SY → Prop} {p : Nat} {res : Int32} {D : Nat → Int32} (hp : p < 5) (hpp : py p ≠ nI p) (HD : zr_OD dc D A) (H3 : zr_K3 K U E) (hK0 : K 0 = 2)
    (h : post (qn, ec, pn, go, zk_c dc E F K, ly, wd, E, U, upd (ze_S p 5 S py) p (if 0 ≤ py p then 3 else 0), ze_R p 5 S py, upd Py p res, Z, gy, R, A, L, F, Ww, Q, fl, pp, qy, O)) :
    ∀ t i, i + t = 5 → wY_end_33 post (nI p) res qn ec pn go (t + 1) (nI i) K ly wd E U (ze_S p i S py) (ze_R p i S py) Py Z gy R A L F Ww Q fl pp qy O := by
  intro t
  induction t with
  | zero =>
    intro i hi
    have e : i = 5 := by omega
    subst e
    refine br_t (nI_le (a := 5) (b := 5) (by decide) (by decide)) ⟨vp_in_nI hp (by decide), ?_⟩
    have er : ze_R p 5 S py p = py p := if_neg fun z => hpp z.2.2
    rw [zcl (f := ze_R p 5 S py) (by omega), er]
    by_cases c : 0 ≤ py p
    · rw [if_pos c] at h
      refine br_t c ?_
      unfold wY_end_111
      rw [nI_clamp (by omega)]
      exact ⟨vp_in_nI hp (by decide), nm_e ⟨vp_in_nI hp (by decide), nm_e (yo_clean HD H3 hK0 h)⟩⟩
    · rw [if_neg c] at h
      refine br_f c ?_
      unfold wY_end_111
      rw [nI_clamp (by omega)]
      exact ⟨vp_in_nI hp (by decide), nm_e ⟨vp_in_nI hp (by decide), nm_e (yo_clean HD H3 hK0 h)⟩⟩
  | succ t ih =>
    intro i hi
    have ih' := ih (i + 1) (by omega)
    refine br_f (nI_ge (b := 5) (by omega) (by decide)) ?_
    by_cases ci : i = p
    · subst ci
      rw [ze_Sn (fun z => hpp z.2), ze_Rn (fun z => hpp z.2)] at ih'
      exact br_t rfl (nm_r (nI_1 i) ih')
    · refine br_f (fun z => ci (zi_inj (by omega) (by omega) z)) ⟨vp_in_nI (by omega) (by decide), ?_⟩
      rw [zcl (f := ze_S p i S py) (by omega), zcl (f := ze_R p i S py) (by omega), ze_Si, ze_Ri, nI_clamp (by omega)]
      by_cases c0 : S i = 0
      · rw [ze_Sn (fun z => by rw [c0] at z; exact absurd z.1 (by decide)), ze_Rn (fun z => z.1 c0)] at ih'
        exact br_t c0 (nm_r (nI_1 i) ih')
      · refine br_f c0 ⟨vp_in_nI (by omega) (by decide), ?_⟩
        by_cases cp : py i = nI p
        · refine br_t cp ⟨vp_in_nI (by omega) (by decide), nm_e ⟨vp_in_nI (by omega) (by decide), ?_⟩⟩
          by_cases c3 : S i = 3
          · rw [ze_Su ⟨c3, cp⟩, ze_Ru ⟨c0, cp⟩] at ih'
            exact br_t c3 ⟨vp_in_nI (by omega) (by decide), nm_e (nm_r (nI_1 i) ih')⟩
          · rw [ze_Sn (fun z => c3 z.1), ze_Ru ⟨c0, cp⟩] at ih'
            exact br_f c3 (nm_r (nI_1 i) ih')
        · rw [ze_Sn (fun z => cp z.2), ze_Rn (fun z => cp z.2)] at ih'
          exact br_f cp (nm_r (nI_1 i) ih')
theorem yo_end9 {post : SY → Prop} {p i n : Nat} {res : Int32} (hp : p < 5) (hi : i < 4) (h : wY_end_9 post (nI p) res qn ec pn go n (nI (4 * p + (i + 1))) K ly wd E U S py Py Z gy R (upd A (4 * p + i) 0) L F Ww Q fl pp qy O) : wY_end_9 post (nI p) res qn ec pn go (n + 1) (nI (4 * p + i)) K ly wd E U S py Py Z gy R A L F Ww Q fl pp qy O := by
  have e4 : 4 * nI p + 4 = nI (4 * p + 4) := by rw [zi_m4, zi_a4]
  refine br_f (by rw [e4]; exact nI_ge (by omega) (by omega)) ⟨vp_in_nI (by omega) (by decide), ?_⟩
  rw [nI_clamp (by omega)]
  exact nm_e (nm_r (e' := nI (4 * p + (i + 1))) (nI_1 _) h)
theorem yo_end9e {post : SY → Prop} {p n : Nat} {res : Int32} (h : ∃ n, wY_end_33 post (nI p) res qn ec pn go n 0 K ly wd E U S py Py Z gy R A L F Ww Q fl pp qy O) (hp : p < 5) : wY_end_9 post (nI p) res qn ec pn go (n + 1) (nI (4 * p + 4)) K ly wd E U S py Py Z gy R A L F Ww Q fl pp qy O := by
  have e4 : 4 * nI p + 4 = nI (4 * p + 4) := by rw [zi_m4, zi_a4]
  exact br_t (by rw [e4]; exact nI_le (Nat.le_refl _) (by omega)) h
end
end
section
/-! ending a process, on both sides -/
theorem ze_eq {p : Nat} {S pr py : Nat → Int32} (h : zr_PA S pr py) : ze_S p 5 S pr = ze_S p 5 S py := by
  funext c
  unfold ze_S
  by_cases q : c < 5 ∧ S c = 3 ∧ pr c = nI p
  · rw [if_pos q, if_pos ⟨q.1, q.2.1, by rw [← (h c q.1 (by rw [q.2.1]; decide)).1]; exact q.2.2⟩]
  · rw [if_neg q, if_neg (fun z => q ⟨z.1, z.2.1, by rw [(h c z.1 (by rw [z.2.1]; decide)).1]; exact z.2.2⟩)]
theorem zj_end {B p cur : Nat} {res : Int32} {Py : Nat → Int32} {C : Nat → Int32} {ln bl dc : Nat → Nat} {ql : List Nat} {fu : Int64} {nk lv qa qz : Int32} {ec : Int64} {pn : Int32} {st kb ch kw K lx bo lk oc eN eV U F Ww Q os ps pc pw rd wr S pr P Z gx R L D bh O : Nat → Int32} {qn go : Int32} {ly wd E py gy A fl pp qy : Nat → Int32} (I : zz_I B cur C ln bl dc ql fu nk lv qa qz pn st kb ch kw K lx bo lk oc eN eV U F Q os ps pc pw rd wr S pr P Z gx L D bh qn ly wd E py gy A fl pp qy) (hp : p < 5) (hal : S p = 1 ∨ S p = 2) :
    ∃ (fu' : Int64) (qa' qz' qn' : Int32) (kb' K' lx' oc' os' pc' rd' wr' S' pr' D' bh' py' A' qy' C' : Nat → Int32) (ln' dc' : Nat → Nat) (ql' : List Nat),
      zz_I B cur C' ln' bl dc' ql' fu' nk lv qa' qz' pn st kb' ch kw K' lx' bo lk oc' eN eV U F Q os' ps pc' pw rd' wr' S' pr' (upd P p res) Z gx L D' bh' qn' ly wd E py' gy A' fl pp qy' ∧ (S' p = 0 ∨ S' p = 3) ∧ (∀ q, q ≠ p → S q = 1 → S' q = 1) ∧
      (∀ post : SX → Prop, post (fu', nk, lv, qa', qz', ec, pn, st, kb', ch, kw, K', lx', bo, lk, oc', eN, eV, U, F, Ww, Q, os', ps, pc', pw, rd', wr', S', pr', upd P p res, Z, gx, R, L, D', bh', O) → wpX_end post (fu, nk, lv, qa, qz, ec, pn, st, kb, ch, kw, K, lx, bo, lk, oc, eN, eV, U, F, Ww, Q, os, ps, pc, pw, rd, wr, S, pr, P, Z, gx, R, L, D, bh, O) (nI p) res) ∧
      ∀ post : SY → Prop, post (qn', ec, pn, go, K', ly, wd, E, U, S', py', upd Py p res, Z, gy, R, A', L, F, Ww, Q, fl, pp, qy', O) → wpY_end post (qn, ec, pn, go, K, ly, wd, E, U, S, py, Py, Z, gy, R, A, L, F, Ww, Q, fl, pp, qy, O) (nI p) res := by
  obtain ⟨i1, i2, i3, i4, ⟨⟨q1, q2, q3, q4, q5, q6, q7⟩, q8⟩, j1, j2, j3, j4, j5⟩ := I
  have hS0 : S p ≠ 0 := by rcases hal with e | e <;> rw [e] <;> decide
  have hS3 : S p ≠ 3 := by rcases hal with e | e <;> rw [e] <;> decide
  obtain ⟨hpy, hpp⟩ := j2 p hp hS0
  have hpp' : py p ≠ nI p := by rw [← hpy]; exact hpp
  obtain ⟨bh', hb', hXq⟩ := xq_leaveQueue (fu := fu) (nk := nk) (lv := lv) (qa := qa) (qz := qz) (ec := ec) (pn := pn) (st := st) (kb := kb) (ch := ch) (kw := kw) (K := K) (lx := lx) (bo := bo) (lk := lk) (oc := oc) (eN := eN) (eV := eV) (U := U) (F := F) (Ww := Ww) (Q := Q) (os := os) (ps := ps) (pc := pc) (pw := pw) (rd := rd) (wr := wr) (S := S) (pr := pr) (P := P) (Z := Z) (gx := gx) (R := R) (L := L) (D := D) (bh := bh) (O := O) hp q1 q2 q3 q4 q5
  obtain ⟨qy', hy', hYq⟩ := yo_leave (qn := qn) (ec := ec) (pn := pn) (go := go) (K := K) (ly := ly) (wd := wd) (E := E) (U := U) (S := S) (py := py) (Py := Py) (Z := Z) (gy := gy) (R := R) (A := A) (L := L) (F := F) (Ww := Ww) (Q := Q) (fl := fl) (pp := pp) (qy := qy) (O := O) hp q1 (zq_len q1 q2) q6 q7
  obtain ⟨fu', kb', C', ln', dc', lx', oc', os', rd', wr', pc', D', T', B', ⟨od, os9, of9, oc9, nz9, dd9⟩, P', hdc, hX4⟩ := xo_close4 (fu := fu) (nk := nk) (lv := lv) (qa := zq_h (zq_r p ql)) (qz := zq_l (zq_r p ql)) (ec := ec) (pn := pn) (st := st) (kb := kb) (ch := ch) (kw := kw) (K := K) (lx := lx) (bo := bo) (lk := lk) (oc := oc) (eN := eN) (eV := eV) (U := U) (F := F) (Ww := Ww) (Q := Q) (os := os) (ps := ps) (pc := pc) (pw := pw) (rd := rd) (wr := wr) (S := S) (pr := pr) (P := P) (Z := Z) (gx := gx) (R := R) (L := L) (D := D) (bh := bh') (O := O) i1 i2 i3 i4 hp
  -- the new states
  have hSx : ∀ q, q ≠ p → ze_S p 5 S pr q = S q ∨ (S q = 3 ∧ ze_S p 5 S pr q = 0) := by
    intro q _
    unfold ze_S
    by_cases c : q < 5 ∧ S q = 3 ∧ pr q = nI p
    · rw [if_pos c]; exact Or.inr ⟨c.2.1, rfl⟩
    · rw [if_neg c]; exact Or.inl rfl
  have hSp : (if (0 : Int32) ≤ pr p then (3 : Int32) else 0) = 0 ∨ (if (0 : Int32) ≤ pr p then (3 : Int32) else 0) = 3 := by
    by_cases c : 0 ≤ pr p
    · rw [if_pos c]; exact Or.inr rfl
    · rw [if_neg c]; exact Or.inl rfl
  have g1 : ∀ q v, (v = 1 ∨ v = 2) → (upd (ze_S p 5 S pr) p (if 0 ≤ pr p then 3 else 0) q = v ↔ S q = v ∧ q ≠ p) := by
    intro q v hv
    by_cases c : q = p
    · subst c
      rw [pk_us]
      constructor
      · intro z; rcases hSp with y | y <;> rw [y] at z <;> rcases hv with x | x <;> rw [x] at z <;> exact absurd z (by decide)
      · exact fun z => absurd rfl z.2
    · rw [pk_un c]
      rcases hSx q c with y | ⟨y1, y2⟩
      · rw [y]; exact ⟨fun z => ⟨z, c⟩, fun z => z.1⟩
      · rw [y1, y2]
        constructor
        · intro z; rcases hv with x | x <;> rw [x] at z <;> exact absurd z (by decide)
        · intro z; have z1 := z.1; rcases hv with x | x <;> rw [x] at z1 <;> exact absurd z1 (by decide)
  have g0 : ∀ q, upd (ze_S p 5 S pr) p (if 0 ≤ pr p then 3 else 0) q ≠ 0 → S q ≠ 0 := by
    intro q z
    by_cases c : q = p
    · rw [c]; exact hS0
    · rw [pk_un c] at z
      rcases hSx q c with y | ⟨y1, y2⟩
      · rw [y] at z; exact z
      · exact absurd y2 z
  have gal : ∀ q, (upd (ze_S p 5 S pr) p (if 0 ≤ pr p then 3 else 0) q = 1 ∨ upd (ze_S p 5 S pr) p (if 0 ≤ pr p then 3 else 0) q = 2) → S q = 1 ∨ S q = 2 := fun q z => z.imp (fun y => ((g1 q 1 (Or.inl rfl)).mp y).1) (fun y => ((g1 q 2 (Or.inr rfl)).mp y).1)
  have hod := hX4
  refine ⟨fu', zq_h (zq_r p ql), zq_l (zq_r p ql), nI (zq_r p ql).length, kb', zk_c dc' E F K, lx', oc', os', pc', rd', wr', upd (ze_S p 5 S pr) p (if 0 ≤ pr p then 3 else 0), ze_R p 5 S pr, D', bh', ze_R p 5 S py, _, qy', C', ln', dc', zq_r p ql,
    ⟨?_, B', ⟨od, os9, of9, oc9, nz9, ?_⟩, P', ⟨⟨fun q hq => q1 q (zq_rm.mp hq).1, zq_rd q2, rfl, rfl, hb', rfl, hy'⟩, ?_⟩, ?_, ?_, ?_, ?_, j5⟩, ?_, ?_, ?_, ?_⟩
  · obtain ⟨t1, t2, t3, t4, t5, t6, t7⟩ := T'
    exact ⟨t1, t2, t3, t4, fun q hq h => t5 q hq (gal q h), t6, t7⟩
  · intro q hq h1 h2 i hi
    by_cases c : q = p
    · subst c; exact hdc i hi
    · exact dd9 q hq (fun z => h1 ((g1 q 1 (Or.inl rfl)).mpr ⟨z, c⟩)) (fun z => h2 ((g1 q 2 (Or.inr rfl)).mpr ⟨z, c⟩)) i hi
  · intro q hq
    rw [zq_rm, q8 q hq, g1 q 1 (Or.inl rfl)]
    exact ⟨fun z => ⟨⟨z.1.1, z.2⟩, z.1.2⟩, fun z => ⟨⟨z.1.1, z.2⟩, z.1.2⟩⟩
  · intro q hq
    by_cases c : q = p
    · subst c; rw [pk_us]; rcases hSp with y | y
      · exact Or.inl y
      · exact Or.inr (Or.inr (Or.inr y))
    · rw [pk_un c]
      rcases hSx q c with y | ⟨_, y⟩
      · rw [y]; exact j1 q hq
      · exact Or.inl y
  · intro q hq z
    obtain ⟨e1, e2⟩ := j2 q hq (g0 q z)
    unfold ze_R
    by_cases c : q < 5 ∧ S q ≠ 0 ∧ pr q = nI p
    · rw [if_pos c, if_pos ⟨c.1, c.2.1, by rw [← e1]; exact c.2.2⟩]
      exact ⟨rfl, fun y => zi_m1ne (n := q) (by omega) y.symm⟩
    · rw [if_neg c, if_neg (fun y => c ⟨y.1, y.2.1, by rw [e1]; exact y.2.2⟩)]
      exact ⟨e1, e2⟩
  · exact fun q hq h => j3 q hq (gal q h)
  · intro q hq h
    obtain ⟨y1, y2⟩ := (g1 q 2 (Or.inr rfl)).mp h
    rw [pk_un y2]
    exact j4 q hq y1
  · rw [pk_us]; exact hSp
  · intro q hq h
    exact (g1 q 1 (Or.inl rfl)).mpr ⟨h, hq⟩
  · intro post h
    unfold wpX_end
    refine hXq _ (hX4 post res ⟨6, ?_⟩)
    have := xo_end26 (fu := fu') (nk := nk) (lv := lv) (qa := zq_h (zq_r p ql)) (qz := zq_l (zq_r p ql)) (ec := ec) (pn := pn) (st := st) (kb := kb') (ch := ch) (kw := kw) (K := zk_c dc' E F K) (lx := lx') (bo := bo) (lk := lk) (oc := oc') (eN := eN) (eV := eV) (U := U) (F := F) (Ww := Ww) (Q := Q) (os := os') (ps := ps) (pc := pc') (pw := pw) (rd := rd') (wr := wr') (S := S) (pr := pr) (P := P) (Z := Z) (gx := gx) (R := R) (L := L) (D := D') (bh := bh') (O := O) (post := post) (res := res) hp hpp h 5 0 (by decide)
    rw [ze_S0, ze_R0] at this
    exact this
  · intro post h
    have e0 : 4 * nI p = nI (4 * p + 0) := zi_m4 p
    unfold wpY_end
    refine hYq _ (nm_r e0 ⟨5, ?_⟩)
    refine yo_end9 (i := 0) hp (by decide) (yo_end9 (i := 1) hp (by decide) (yo_end9 (i := 2) hp (by decide) (yo_end9 (i := 3) hp (by decide) (yo_end9e ⟨6, ?_⟩ hp))))
    have := yo_end33 (qn := nI (zq_r p ql).length) (ec := ec) (pn := pn) (go := go) (K := K) (ly := ly) (wd := wd) (E := E) (U := U) (S := S) (py := py) (Py := Py) (Z := Z) (gy := gy) (R := R) (A := upd (upd (upd (upd A (4 * p + 0) 0) (4 * p + 1) 0) (4 * p + 2) 0) (4 * p + 3) 0) (L := L) (F := F) (Ww := Ww) (Q := Q) (fl := fl) (pp := pp) (qy := qy') (O := O) (post := post) (res := res) (dc := dc') (D := D') hp hpp' od i1.2.2.1 i1.1.2 (by rw [← ze_eq j2, ← hpy]; exact h) 5 0 (by decide)
    rw [ze_S0, ze_R0] at this
    exact this
end
section
theorem zj_0 {B p z s a b : Nat} {w : Int32} {C : Nat → Int32} {ln bl dc : Nat → Nat} {ql : List Nat} {fu : Int64} {nk lv qa qz : Int32} {ec : Int64} {pn : Int32} {st kb ch kw K lx bo lk oc eN eV U F Ww Q os ps pc pw rd wr S pr P Z gx R L D bh O : Nat → Int32} {qn go : Int32} {ly wd E py gy A fl pp qy : Nat → Int32} (I : zz_I B p C ln bl dc ql fu nk lv qa qz pn st kb ch kw K lx bo lk oc eN eV U F Q os ps pc pw rd wr S pr P Z gx L D bh qn ly wd E py gy A fl pp qy) (hB : B + 1 < 1000000) (hp : p < 5) (hS : S p = 1) (hz : z ≤ 20) (eZ : Z p = nI z) (eP : P p = nI s) (hs : s < z) (hw : gy (20 * p + s) = w) (hD : zw_D w 0 a b) : ∃ (r : Int32) (u' : SX) (v' : SY), zz_Q (B + 1) p w r u' v' ∧ (∀ post : SX → Prop, post u' → wpX_execute post (fu, nk, lv, qa, qz, ec + 1, pn, st, kb, ch, kw, K, lx, bo, lk, oc, eN, eV, U, F, Ww, Q, os, ps, pc, pw, rd, wr, S, pr, P, Z, gx, R, L, D, bh, O) (nI p) w) ∧ ∀ post : Int32 → SY → Prop, post r v' → wpY_execute post (qn, ec, pn, go, K, ly, wd, E, U, S, py, P, Z, gy, R, A, L, F, Ww, Q, fl, pp, qy, O) (nI p) := by
  obtain ⟨fu', qa', qz', qn', kb', K', lx', oc', os', pc', rd', wr', S', pr', D', bh', py', A', qy', C', ln', dc', ql', I', hS', _, hX, hY⟩ := zj_end (res := R (4 * p + a)) (Py := P) (ec := ec + 1) (R := R) (O := O) (Ww := Ww) (go := go) (zi_P (x := P p + 1) I (by rw [hS]; decide)) hp (Or.inl hS)
  rw [zi_utw] at I' hX
  exact ⟨0, (fu', nk, lv, qa', qz', ec + 1, pn, st, kb', ch, kw, K', lx', bo, lk, oc', eN, eV, U, F, Ww, Q, os', ps, pc', pw, rd', wr', S', pr', upd P p (R (4 * p + a)), Z, gx, R, L, D', bh', O), (qn', ec + 1, pn, go, K', ly, wd, E, U, S', py', upd P p (R (4 * p + a)), Z, gy, R, A', L, F, Ww, Q, fl, pp, qy', O), zz_Qmk (zi_B I' hB) (Or.inr ⟨rfl, Or.inl (by rcases hS' with e | e <;> rw [e] <;> decide)⟩),
    fun post h => xe_0 hp hD hX h, fun post h => ye_0 hp hz eZ eP hs hw hD hY h⟩
theorem zj_out {B p z : Nat} {w : Int32} {C : Nat → Int32} {ln bl dc : Nat → Nat} {ql : List Nat} {fu : Int64} {nk lv qa qz : Int32} {ec : Int64} {pn : Int32} {st kb ch kw K lx bo lk oc eN eV U F Ww Q os ps pc pw rd wr S pr P Z gx R L D bh O : Nat → Int32} {qn go : Int32} {ly wd E py gy A fl pp qy : Nat → Int32} (I : zz_I B p C ln bl dc ql fu nk lv qa qz pn st kb ch kw K lx bo lk oc eN eV U F Q os ps pc pw rd wr S pr P Z gx L D bh qn ly wd E py gy A fl pp qy) (hB : B + 1 < 1000000) (hp : p < 5) (hS : S p = 1) (hz : z ≤ 20) (eZ : Z p = nI z) (hn : ¬ za_r z (P p)) :
    ∃ (u' : SX) (v' : SY), zz_Q (B + 1) p w 0 u' v' ∧ (∀ post : SX → Prop, post u' → wpX_end post (fu, nk, lv, qa, qz, ec + 1, pn, st, kb, ch, kw, K, lx, bo, lk, oc, eN, eV, U, F, Ww, Q, os, ps, pc, pw, rd, wr, S, pr, P, Z, gx, R, L, D, bh, O) (nI p) (-4)) ∧ ∀ post : Int32 → SY → Prop, post 0 v' → wpY_execute post (qn, ec, pn, go, K, ly, wd, E, U, S, py, P, Z, gy, R, A, L, F, Ww, Q, fl, pp, qy, O) (nI p) := by
  obtain ⟨fu', qa', qz', qn', kb', K', lx', oc', os', pc', rd', wr', S', pr', D', bh', py', A', qy', C', ln', dc', ql', I', hS', _, hX, hY⟩ := zj_end (res := -4) (Py := P) (ec := ec + 1) (R := R) (O := O) (Ww := Ww) (go := go) I hp (Or.inl hS)
  exact ⟨(fu', nk, lv, qa', qz', ec + 1, pn, st, kb', ch, kw, K', lx', bo, lk, oc', eN, eV, U, F, Ww, Q, os', ps, pc', pw, rd', wr', S', pr', upd P p (-4), Z, gx, R, L, D', bh', O), (qn', ec + 1, pn, go, K', ly, wd, E, U, S', py', upd P p (-4), Z, gy, R, A', L, F, Ww, Q, fl, pp, qy', O), zz_Qmk (zi_B I' hB) (Or.inr ⟨rfl, Or.inl (by rcases hS' with e | e <;> rw [e] <;> decide)⟩),
    hX, fun post h => ye_out hp hz eZ hn hY h⟩
theorem zj_28 {B p z s a b : Nat} {w : Int32} {C : Nat → Int32} {ln bl dc : Nat → Nat} {ql : List Nat} {fu : Int64} {nk lv qa qz : Int32} {ec : Int64} {pn : Int32} {st kb ch kw K lx bo lk oc eN eV U F Ww Q os ps pc pw rd wr S pr P Z gx R L D bh O : Nat → Int32} {qn go : Int32} {ly wd E py gy A fl pp qy : Nat → Int32} (I : zz_I B p C ln bl dc ql fu nk lv qa qz pn st kb ch kw K lx bo lk oc eN eV U F Q os ps pc pw rd wr S pr P Z gx L D bh qn ly wd E py gy A fl pp qy) (hB : B + 1 < 1000000) (hp : p < 5) (hS : S p = 1) (hz : z ≤ 20) (eZ : Z p = nI z) (eP : P p = nI s) (hs : s < z) (hw : gy (20 * p + s) = w) (hD : zw_D w 28 a b) : ∃ (r : Int32) (u' : SX) (v' : SY), zz_Q (B + 1) p w r u' v' ∧ (∀ post : SX → Prop, post u' → wpX_execute post (fu, nk, lv, qa, qz, ec + 1, pn, st, kb, ch, kw, K, lx, bo, lk, oc, eN, eV, U, F, Ww, Q, os, ps, pc, pw, rd, wr, S, pr, P, Z, gx, R, L, D, bh, O) (nI p) w) ∧ ∀ post : Int32 → SY → Prop, post r v' → wpY_execute post (qn, ec, pn, go, K, ly, wd, E, U, S, py, P, Z, gy, R, A, L, F, Ww, Q, fl, pp, qy, O) (nI p) := by
  have I1 := zi_P (x := P p + 1) I (by rw [hS]; decide)
  have ha4 := hD.2.2.2.2.1
  have eia : 4 * nI p + nI a = nI (4 * p + a) := by rw [zi_m4, nI_add]
  have hYf : ∀ (post' : SY → Prop), ((R (4 * p + a) = nI p) ∨ ¬ za_l S (R (4 * p + a))) → post' (qn, ec + 1, pn, 1, K, ly, wd, E, U, S, py, P, Z, gy, upd R (4 * p + 3) (-1), A, L, F, Ww, Q, fl, pp, qy, O) → wpY_killOther post' (qn, ec + 1, pn, 1, K, ly, wd, E, U, S, py, P, Z, gy, R, A, L, F, Ww, Q, fl, pp, qy, O) (nI p) (nI a) := by
    intro post' hc h'
    refine ⟨by rw [eia]; exact vp_in_nI (by omega) (by decide), ?_⟩
    rw [eia, zcl (f := R) (by omega)]
    refine nm_e ?_
    by_cases e : R (4 * p + a) = nI p
    · exact br_t e (yo_fail hp h')
    · exact br_f e (yr_isLive (fun z => absurd z (hc.resolve_left e)) (fun _ => br_t rfl (yo_fail hp h')))
  by_cases e : R (4 * p + a) = nI p
  · exact ⟨1, (fu, nk, lv, qa, qz, ec + 1, pn, st, kb, ch, kw, K, lx, bo, lk, oc, eN, eV, U, F, Ww, Q, os, ps, pc, pw, rd, wr, S, pr, upd P p (P p + 1), Z, gx, upd R (4 * p + 3) (-1), L, D, bh, O), (qn, ec + 1, pn, 1, K, ly, wd, E, U, S, py, upd P p (P p + 1), Z, gy, upd R (4 * p + 3) (-1), A, L, F, Ww, Q, fl, pp, qy, O), zz_Qmk (zi_B I1 hB) (Or.inl ⟨rfl, hS, by rw [hD.1]; decide⟩),
      fun post h => xe_28 (g := 0) hp hD (fun post' h' => br_t e h') (fun _ => h) (fun z => absurd rfl z),
      fun post h => ye_c28 hp hz eZ eP hs hw hD (fun post' h' => yc_28 (fun post' h' => hYf post' (Or.inl e) h') h') rfl h⟩
  · rcases Classical.em (za_l S (R (4 * p + a))) with hl | hl
    · obtain ⟨q, hq, eq, hal⟩ := hl
      have hqp : q ≠ p := fun z => e (by rw [eq, z])
      obtain ⟨fu', qa', qz', qn', kb', K', lx', oc', os', pc', rd', wr', S', pr', D', bh', py', A', qy', C', ln', dc', ql', I', _, hS', hX, hY⟩ := zj_end (res := -3) (Py := P) (ec := ec + 1) (R := R) (O := O) (Ww := Ww) (go := 1) I1 hq hal
      have eP' : upd (upd P q (-3)) p (upd P q (-3) p + 1) = upd (upd P p (P p + 1)) q (-3) := by rw [pk_un (Ne.symm hqp), zi_ucomm hqp]
      refine ⟨1, (fu', nk, lv, qa', qz', ec + 1, pn, st, kb', ch, kw, K', lx', bo, lk, oc', eN, eV, U, F, Ww, Q, os', ps, pc', pw, rd', wr', S', pr', upd (upd P p (P p + 1)) q (-3), Z, gx, upd R (4 * p + 3) 1, L, D', bh', O), (qn', ec + 1, pn, 1, K', ly, wd, E, U, S', py', upd (upd P p (P p + 1)) q (-3), Z, gy, upd R (4 * p + 3) 1, A', L, F, Ww, Q, fl, pp, qy', O), zz_Qmk (zi_B I' hB) (Or.inl ⟨rfl, hS' p (Ne.symm hqp) hS, by rw [hD.1]; decide⟩),
        fun post h => xe_28 (g := 1) hp hD (fun post' h' => ?_) (fun z => absurd z (by decide)) (fun _ => h),
        fun post h => ye_c28 hp hz eZ eP hs hw hD (fun post' h' => yc_28 (fun post' h' => ?_) h') rfl (by rw [eP']; exact h)⟩
      · refine br_f e (xr_isAlive (fun _ => br_f (by decide) ?_) (fun z => absurd ⟨q, hq, eq, hal⟩ z))
        rw [eq]
        exact hX _ h'
      · refine ⟨by rw [eia]; exact vp_in_nI (by omega) (by decide), ?_⟩
        rw [eia, zcl (f := R) (by omega)]
        refine nm_e (br_f e (yr_isLive (fun _ => br_f (by decide) ?_) (fun z => absurd ⟨q, hq, eq, hal⟩ z)))
        rw [eq]
        exact hY _ (yo_done hp h')
    · exact ⟨1, (fu, nk, lv, qa, qz, ec + 1, pn, st, kb, ch, kw, K, lx, bo, lk, oc, eN, eV, U, F, Ww, Q, os, ps, pc, pw, rd, wr, S, pr, upd P p (P p + 1), Z, gx, upd R (4 * p + 3) (-1), L, D, bh, O), (qn, ec + 1, pn, 1, K, ly, wd, E, U, S, py, upd P p (P p + 1), Z, gy, upd R (4 * p + 3) (-1), A, L, F, Ww, Q, fl, pp, qy, O), zz_Qmk (zi_B I1 hB) (Or.inl ⟨rfl, hS, by rw [hD.1]; decide⟩),
        fun post h => xe_28 (g := 0) hp hD (fun post' h' => br_f e (xr_isAlive (fun z => absurd z hl) (fun _ => br_t rfl h'))) (fun _ => h) (fun z => absurd rfl z),
        fun post h => ye_c28 hp hz eZ eP hs hw hD (fun post' h' => yc_28 (fun post' h' => hYf post' (Or.inr hl) h') h') rfl h⟩
end
section
/-! loading a program -/
section
variable {fu : Int64} {nk lv qa qz : Int32} {ec : Int64} {pn : Int32} {st kb ch kw K lx bo lk oc eN eV U F Ww Q os ps pc pw rd wr S pr P Z gx R L D bh O : Nat → Int32} {C : Nat → Int32} {ln bl : Nat → Nat}
theorem xo_lp14 {p n l : Nat} (hp : p < 5) (hn : n < 10) (hl : l ≤ 20) (el : lx n = nI l) (hbo : ∀ i, i < l → bl (5 * n + i / 4) < 48 ∧ bo (5 * n + i / 4) = nI (bl (5 * n + i / 4)) ∧ zub fu (bl (5 * n + i / 4)) = true) :
    ∀ (t i : Nat) (nk : Int32) (st kb ch kw gx : Nat → Int32), i + t = l → zr_SO fu nk lv st kb ch kw C → ∃ (nk' : Int32) (st' kb' ch' kw' gx' : Nat → Int32), zr_SO fu nk' lv st' kb' ch' kw' C ∧
      (∀ k, i ≤ k → k < l → gx' (20 * p + k) = C (4 * bl (5 * n + k / 4) + k % 4)) ∧ (∀ j, ¬ (20 * p + i ≤ j ∧ j < 20 * p + l) → gx' j = gx j) ∧
      ∀ post : SX → Prop, post (fu, nk', lv, qa, qz, ec, pn, st', kb', ch', kw', K, lx, bo, lk, oc, eN, eV, U, F, Ww, Q, os, ps, pc, pw, rd, wr, S, pr, upd P p 0, Z, gx', R, L, D, bh, O) → wX_loadProgram_14 post (nI p) (nI n) (t + 1) (nI i) fu nk lv qa qz ec pn st kb ch kw K lx bo lk oc eN eV U F Ww Q os ps pc pw rd wr S pr P Z gx R L D bh O := by
  intro t
  induction t with
  | zero =>
    intro i nk st kb ch kw gx hi HS
    refine ⟨nk, st, kb, ch, kw, gx, HS, fun k a b => by omega, fun _ _ => rfl, fun post h => ⟨vp_in_nI hn (by decide), ?_⟩⟩
    rw [zcl (f := lx) (by omega), el, nI_clamp (n := p) (by omega)]
    exact br_t (nI_le (by omega) (by omega)) ⟨vp_in_nI hp (by decide), nm_e h⟩
  | succ t ih =>
    intro i nk st kb ch kw gx hi HS
    obtain ⟨b1, b2, b3⟩ := hbo i (by omega)
    obtain ⟨nk1, st1, kb1, ch1, kw1, HS1, hX1⟩ := xs_wordAt (fu := fu) (nk := nk) (lv := lv) (qa := qa) (qz := qz) (ec := ec) (pn := pn) (st := st) (kb := kb) (ch := ch) (kw := kw) (K := K) (lx := lx) (bo := bo) (lk := lk) (oc := oc) (eN := eN) (eV := eV) (U := U) (F := F) (Ww := Ww) (Q := Q) (os := os) (ps := ps) (pc := pc) (pw := pw) (rd := rd) (wr := wr) (S := S) (pr := pr) (P := P) (Z := Z) (gx := gx) (R := R) (L := L) (D := D) (bh := bh) (O := O) (n := n) (i := i) HS hn (by omega) b1 b3 b2
    obtain ⟨nk', st', kb', ch', kw', gx', HS', g1, g2, gX⟩ := ih (i + 1) nk1 st1 kb1 ch1 kw1 (upd gx (20 * p + i) (C (4 * bl (5 * n + i / 4) + i % 4))) (by omega) HS1
    refine ⟨nk', st', kb', ch', kw', gx', HS', fun k a b => ?_, fun j hj => ?_, fun post h => ⟨vp_in_nI hn (by decide), ?_⟩⟩
    · by_cases c : k = i
      · subst c; rw [g2 _ (by omega), pk_us]
      · exact g1 k (by omega) b
    · rw [g2 j (by omega), pk_un (by omega)]
    · rw [zcl (f := lx) (by omega), el]
      refine br_f (nI_ge (by omega) (by omega)) (hX1 _ ?_)
      rw [zi_m20, nI_add, nI_clamp (by omega)]
      exact ⟨vp_in_nI (by omega) (by decide), nm_e (nm_r (nI_1 i) (gX post h))⟩
theorem xo_load {p n : Nat} (hp : p < 5) (hn : n < 10) (hK : K n = 1) (HS : zr_SO fu nk lv st kb ch kw C) (HF : zr_FX K ln bl fu bo lx) : ∃ (nk' : Int32) (st' kb' ch' kw' gx' : Nat → Int32), zr_SO fu nk' lv st' kb' ch' kw' C ∧
      (∀ k, k < ln n → gx' (20 * p + k) = C (4 * bl (5 * n + k / 4) + k % 4)) ∧ (∀ j, ¬ (20 * p ≤ j ∧ j < 20 * p + 20) → gx' j = gx j) ∧
      ∀ post : SX → Prop, post (fu, nk', lv, qa, qz, ec, pn, st', kb', ch', kw', K, lx, bo, lk, oc, eN, eV, U, F, Ww, Q, os, ps, pc, pw, rd, wr, S, pr, upd P p 0, upd Z p (lx n), gx', R, L, D, bh, O) → wpX_loadProgram post (fu, nk, lv, qa, qz, ec, pn, st, kb, ch, kw, K, lx, bo, lk, oc, eN, eV, U, F, Ww, Q, os, ps, pc, pw, rd, wr, S, pr, P, Z, gx, R, L, D, bh, O) (nI p) (nI n) := by
  obtain ⟨hl, el⟩ := HF.1 n hn hK
  have hv : ∀ i, i < ln n → zr_V K ln (5 * n + i / 4) := by
    intro i hi
    have e1 : (5 * n + i / 4) / 5 = n := by omega
    refine ⟨by rw [e1]; exact hK, ?_⟩
    rw [e1]; omega
  obtain ⟨nk', st', kb', ch', kw', gx', HS', g1, g2, gX⟩ := xo_lp14 (fu := fu) (lv := lv) (qa := qa) (qz := qz) (ec := ec) (pn := pn) (K := K) (lx := lx) (bo := bo) (lk := lk) (oc := oc) (eN := eN) (eV := eV) (U := U) (F := F) (Ww := Ww) (Q := Q) (os := os) (ps := ps) (pc := pc) (pw := pw) (rd := rd) (wr := wr) (S := S) (pr := pr) (P := P) (Z := upd Z p (lx n)) (R := R) (L := L) (D := D) (bh := bh) (O := O) (bl := bl) (C := C) hp hn hl el (fun i hi => HF.2.1 _ (by omega) (hv i hi)) (ln n) 0 nk st kb ch kw gx (by omega) HS
  refine ⟨nk', st', kb', ch', kw', gx', HS', fun k hk => g1 k (by omega) hk, fun j hj => g2 j (by omega), fun post h => ⟨vp_in_nI hn (by decide), vp_in_nI hp (by decide), ?_⟩⟩
  rw [zcl (f := lx) (by omega), nI_clamp (by omega)]
  rw [el] at gX h ⊢
  rw [zb_nar (by omega)]
  exact nm_e ⟨_, gX post h⟩
end
section
variable {C : Nat → Int32} {ln bl dc : Nat → Nat} {ql : List Nat} {fu : Int64} {nk lv qa qz : Int32} {ec : Int64} {pn : Int32} {st kb ch kw K lx bo lk oc eN eV U F Ww Q os ps pc pw rd wr S pr P Z gx R L D bh O : Nat → Int32} {qn go : Int32} {ly wd E py gy A fl pp qy : Nat → Int32} {Py : Nat → Int32}
/-- both sides load: the programs agree -/
theorem zj_load {p n : Nat} (hp : p < 5) (hn : n < 10) (hK : K n = 1) (HB : zg_B fu nk lv st kb ch kw C K ln bl bo lx ly wd) : ∃ (nk' : Int32) (st' kb' ch' kw' gx' gy' : Nat → Int32) (l : Nat), zg_B fu nk' lv st' kb' ch' kw' C K ln bl bo lx ly wd ∧
    l ≤ 20 ∧ lx n = nI l ∧ (∀ k, k < l → gx' (20 * p + k) = gy' (20 * p + k)) ∧ (∀ j, ¬ (20 * p ≤ j ∧ j < 20 * p + 20) → gx' j = gx j) ∧ (∀ j, ¬ (20 * p ≤ j ∧ j < 20 * p + 20) → gy' j = gy j) ∧
    (∀ post : SX → Prop, post (fu, nk', lv, qa, qz, ec, pn, st', kb', ch', kw', K, lx, bo, lk, oc, eN, eV, U, F, Ww, Q, os, ps, pc, pw, rd, wr, S, pr, upd P p 0, upd Z p (lx n), gx', R, L, D, bh, O) → wpX_loadProgram post (fu, nk, lv, qa, qz, ec, pn, st, kb, ch, kw, K, lx, bo, lk, oc, eN, eV, U, F, Ww, Q, os, ps, pc, pw, rd, wr, S, pr, P, Z, gx, R, L, D, bh, O) (nI p) (nI n)) ∧
    ∀ post : SY → Prop, post (qn, ec, pn, go, K, ly, wd, E, U, S, py, upd Py p 0, upd Z p (lx n), gy', R, A, L, F, Ww, Q, fl, pp, qy, O) → wpY_load post (qn, ec, pn, go, K, ly, wd, E, U, S, py, Py, Z, gy, R, A, L, F, Ww, Q, fl, pp, qy, O) (nI p) (nI n) := by
  obtain ⟨HS, HF, HY⟩ := HB
  obtain ⟨hl, el⟩ := HF.1 n hn hK
  obtain ⟨ey, hwd⟩ := HY n hn hK
  obtain ⟨nk', st', kb', ch', kw', gx', HS', g1, g2, gX⟩ := xo_load (fu := fu) (nk := nk) (lv := lv) (qa := qa) (qz := qz) (ec := ec) (pn := pn) (st := st) (kb := kb) (ch := ch) (kw := kw) (K := K) (lx := lx) (bo := bo) (lk := lk) (oc := oc) (eN := eN) (eV := eV) (U := U) (F := F) (Ww := Ww) (Q := Q) (os := os) (ps := ps) (pc := pc) (pw := pw) (rd := rd) (wr := wr) (S := S) (pr := pr) (P := P) (Z := Z) (gx := gx) (R := R) (L := L) (D := D) (bh := bh) (O := O) hp hn hK HS HF
  obtain ⟨gy', y1, y2, yX⟩ := yo_load (qn := qn) (ec := ec) (pn := pn) (go := go) (K := K) (ly := ly) (wd := wd) (E := E) (U := U) (S := S) (py := py) (Py := Py) (Z := Z) (gy := gy) (R := R) (A := A) (L := L) (F := F) (Ww := Ww) (Q := Q) (fl := fl) (pp := pp) (qy := qy) (O := O) (p := p) (n := n) hp hn
  rw [ey, ← el] at yX
  exact ⟨nk', st', kb', ch', kw', gx', gy', ln n, ⟨HS', HF, HY⟩, hl, el, fun k hk => by rw [g1 k hk, y1 k (by omega), hwd k hk], g2, y2, gX, yX⟩
end
theorem zr_PGl {S S' Z gx gy gx' gy' : Nat → Int32} {p l : Nat} (H : zr_PG S Z gx gy) (hS : ∀ q, q ≠ p → (S' q = 1 ∨ S' q = 2) → (S q = 1 ∨ S q = 2)) (hl : l ≤ 20) (h1 : ∀ k, k < l → gx' (20 * p + k) = gy' (20 * p + k))
    (h2 : ∀ j, ¬ (20 * p ≤ j ∧ j < 20 * p + 20) → gx' j = gx j) (h3 : ∀ j, ¬ (20 * p ≤ j ∧ j < 20 * p + 20) → gy' j = gy j) : zr_PG S' (upd Z p (nI l)) gx' gy' := by
  intro q hq h
  by_cases c : q = p
  · subst c; exact ⟨l, hl, pk_us, h1⟩
  · obtain ⟨z, hz, e, hg⟩ := H q hq (hS q c h)
    exact ⟨z, hz, by rw [pk_un c]; exact e, fun i hi => by rw [h2 _ (by omega), h3 _ (by omega)]; exact hg i hi⟩
theorem zj_12 {B p z s a b : Nat} {w : Int32} {C : Nat → Int32} {ln bl dc : Nat → Nat} {ql : List Nat} {fu : Int64} {nk lv qa qz : Int32} {ec : Int64} {pn : Int32} {st kb ch kw K lx bo lk oc eN eV U F Ww Q os ps pc pw rd wr S pr P Z gx R L D bh O : Nat → Int32} {qn go : Int32} {ly wd E py gy A fl pp qy : Nat → Int32} (I : zz_I B p C ln bl dc ql fu nk lv qa qz pn st kb ch kw K lx bo lk oc eN eV U F Q os ps pc pw rd wr S pr P Z gx L D bh qn ly wd E py gy A fl pp qy) (hB : B + 1 < 1000000) (hp : p < 5) (hS : S p = 1) (hz : z ≤ 20) (eZ : Z p = nI z) (eP : P p = nI s) (hs : s < z) (hw : gy (20 * p + s) = w) (hD : zw_D w 12 a b) : ∃ (r : Int32) (u' : SX) (v' : SY), zz_Q (B + 1) p w r u' v' ∧ (∀ post : SX → Prop, post u' → wpX_execute post (fu, nk, lv, qa, qz, ec + 1, pn, st, kb, ch, kw, K, lx, bo, lk, oc, eN, eV, U, F, Ww, Q, os, ps, pc, pw, rd, wr, S, pr, P, Z, gx, R, L, D, bh, O) (nI p) w) ∧ ∀ post : Int32 → SY → Prop, post r v' → wpY_execute post (qn, ec, pn, go, K, ly, wd, E, U, S, py, P, Z, gy, R, A, L, F, Ww, Q, fl, pp, qy, O) (nI p) := by
  have I1 := zi_P (x := P p + 1) I (by rw [hS]; decide)
  obtain ⟨⟨t1, t2, t3, t4, t5, t6, t7⟩, i2, i3, i4, i5, j1, j2, j3, j4, j5⟩ := id I
  obtain ⟨d, hd, eL, hKd⟩ := t5 p hp (Or.inl hS)
  obtain ⟨r, hr⟩ := zn_ex E d (R (4 * p + a))
  have hYn : ∀ post' : Int32 → Prop, post' r → wpY_named post' (qn, ec + 1, pn, go, K, ly, wd, E, U, S, py, P, Z, gy, R, A, L, F, Ww, Q, fl, pp, qy, O) (L p) (R (4 * p + a)) := fun post' h' => by rw [eL]; exact yr_named hd hr h'
  rcases zn_cs t3 hd hr with er | ⟨n, m, n1, hn, hm, em, eE, er, hK⟩
  · subst er
    refine ⟨1, (fu, nk, lv, qa, qz, ec + 1, pn, st, kb, ch, kw, K, lx, bo, lk, oc, eN, eV, U, F, Ww, Q, os, ps, pc, pw, rd, wr, S, pr, upd P p (P p + 1), Z, gx, upd R (4 * p + 3) (-1), L, D, bh, O), (qn, ec + 1, pn, 1, K, ly, wd, E, U, S, py, upd P p (P p + 1), Z, gy, upd R (4 * p + 3) (-1), A, L, F, Ww, Q, fl, pp, qy, O), zz_Qmk (zi_B I1 hB) (Or.inl ⟨rfl, hS, by rw [hD.1]; decide⟩),
      fun post h => xe_12 (g := 0) hp hD (fun post' h' => ?_) (fun _ => h) (fun z => absurd rfl z),
      fun post h => ye_12a hp hz eZ eP hs hw hD hYn (fun post' h' => ys_12 hp hD.2.2.2.2.1 hD.2.2.2.2.2 h') rfl h⟩
    unfold wpX_loadNamed
    exact xr_namedFile hp eL hd hKd t6 hr (Or.inl ⟨rfl, Or.inl rfl⟩) (br_f (by decide) h')
  · subst er
    by_cases hK1 : K n = 1
    · obtain ⟨nk', st', kb', ch', kw', gx', gy', l, HB', hl, el, h1, h2, h3, hX, hY⟩ := zj_load (fu := fu) (nk := nk) (lv := lv) (qa := qa) (qz := qz) (ec := ec + 1) (pn := pn) (st := st) (kb := kb) (ch := ch) (kw := kw) (K := K) (lx := lx) (bo := bo) (lk := lk) (oc := oc) (eN := eN) (eV := eV) (U := U) (F := F) (Ww := Ww) (Q := Q) (os := os) (ps := ps) (pc := pc) (pw := pw) (rd := rd) (wr := wr) (S := S) (pr := pr) (P := upd P p (P p + 1)) (Z := Z) (gx := gx) (R := R) (L := L) (D := D) (bh := bh) (O := O) (qn := qn) (go := go) (ly := ly) (wd := wd) (E := E) (py := py) (gy := gy) (A := A) (fl := fl) (pp := pp) (qy := qy) (Py := P) hp hn hK1 i2
      rw [zi_utw] at hX
      have I' : zz_I (B + 1) p C ln bl dc ql fu nk' lv qa qz pn st' kb' ch' kw' K lx bo lk oc eN eV U F Q os ps pc pw rd wr S pr (upd P p 0) (upd Z p (lx n)) gx' L D bh qn ly wd E py gy' A fl pp qy := by
        refine ⟨⟨t1, t2, t3, t4, t5, t6, t7⟩, HB', i3, i4, i5, j1, j2, ?_, ?_, hB, ?_⟩
        · rw [el]; exact zr_PGl j3 (fun q _ h => h) hl h1 h2 h3
        · intro q hq h
          have : q ≠ p := fun e => by rw [e, hS] at h; exact absurd h (by decide)
          rw [pk_un this, pk_un this]; exact j4 q hq h
        · obtain ⟨_, k, hk, e⟩ := j5
          exact ⟨k, by omega, e⟩
      refine ⟨1, (fu, nk', lv, qa, qz, ec + 1, pn, st', kb', ch', kw', K, lx, bo, lk, oc, eN, eV, U, F, Ww, Q, os, ps, pc, pw, rd, wr, S, pr, upd P p 0, upd Z p (lx n), gx', R, L, D, bh, O), (qn, ec + 1, pn, go, K, ly, wd, E, U, S, py, upd P p 0, upd Z p (lx n), gy', R, A, L, F, Ww, Q, fl, pp, qy, O), zz_Qmk I' (Or.inl ⟨rfl, hS, by rw [hD.1]; decide⟩),
        fun post h => xe_12 (g := 1) hp hD (fun post' h' => ?_) (fun z => absurd z (by decide)) (fun _ => h),
        fun post h => ye_12t hp hz eZ eP hs hw hD hn hYn hK1 hY h⟩
      unfold wpX_loadNamed
      exact xr_namedFile hp eL hd hKd t6 hr (Or.inr ⟨n, hn, rfl, hK1, rfl⟩) (br_t (nI_pos' (by omega)) (hX _ h'))
    · refine ⟨1, (fu, nk, lv, qa, qz, ec + 1, pn, st, kb, ch, kw, K, lx, bo, lk, oc, eN, eV, U, F, Ww, Q, os, ps, pc, pw, rd, wr, S, pr, upd P p (P p + 1), Z, gx, upd R (4 * p + 3) (-1), L, D, bh, O), (qn, ec + 1, pn, 1, K, ly, wd, E, U, S, py, upd P p (P p + 1), Z, gy, upd R (4 * p + 3) (-1), A, L, F, Ww, Q, fl, pp, qy, O), zz_Qmk (zi_B I1 hB) (Or.inl ⟨rfl, hS, by rw [hD.1]; decide⟩),
        fun post h => xe_12 (g := 0) hp hD (fun post' h' => ?_) (fun _ => h) (fun z => absurd rfl z),
        fun post h => ye_12b hp hz eZ eP hs hw hD hn hYn hK1 (fun post' h' => ys_12 hp hD.2.2.2.2.1 hD.2.2.2.2.2 h') rfl h⟩
      unfold wpX_loadNamed
      exact xr_namedFile hp eL hd hKd t6 hr (Or.inl ⟨rfl, Or.inr ⟨n, hn, rfl, hK1⟩⟩) (br_f (by decide) h')
end
section
/-! entering, going, linking, on both sides -/
section
variable {B cur : Nat} {C : Nat → Int32} {ln bl dc : Nat → Nat} {ql : List Nat} {fu : Int64} {nk lv qa qz : Int32} {ec : Int64} {pn : Int32} {st kb ch kw K lx bo lk oc eN eV U F Ww Q os ps pc pw rd wr S pr P Z gx R L D bh O : Nat → Int32} {qn go : Int32} {ly wd E py gy A fl pp qy : Nat → Int32}
theorem zi_new {d l m n kd : Nat} (I : zz_I B cur C ln bl dc ql fu nk lv qa qz pn st kb ch kw K lx bo lk oc eN eV U F Q os ps pc pw rd wr S pr P Z gx L D bh qn ly wd E py gy A fl pp qy) (hd : d < 10) (hKd : K d = 2) (hl : l < 6) (el : lx d = nI l) (hm : m < 15) (hn : n < 10) (hK : K n = 0) (hE : E (15 * d + m) = -1) (hkd : kd = 1 ∨ kd = 2) :
    zz_I B cur C (zu ln n 0) bl dc ql fu nk lv qa qz pn st kb ch kw (upd K n (nI kd)) (upd (upd lx n 0) d (nI (l + 1))) bo (upd (upd lk n 0) n (nI 1)) (upd oc n 0) (upd eN (6 * d + l) (nI m)) (upd eV (6 * d + l) (nI n)) (upd U n (nI d)) F Q os ps pc pw rd wr S pr P Z gx L D bh qn (upd ly n 0) wd (upd E (15 * d + m) (nI n)) py gy A fl pp qy := by
  obtain ⟨i1, ⟨b1, b2, b3⟩, ⟨o1, o2, o3, o4, o5, o6⟩, i4, i5, i6⟩ := I
  have hnd : n ≠ d := fun e => by rw [e, hKd] at hK; exact absurd hK (by decide)
  have hKn : ∀ x, K x = 1 → x ≠ n := fun x h e => by rw [e, hK] at h; exact absurd h (by decide)
  have hKd1 : ∀ x, K x = 1 → x ≠ d := fun x h e => by rw [e, hKd] at h; exact absurd h (by decide)
  have hnof : ∀ o, o < 8 → ¬ (F o = nI n ∧ zh_o dc (1 + o)) := by
    intro o ho ⟨e, z⟩
    obtain ⟨⟨x, _, hx, e2, hKx⟩, _⟩ := o3 o ho z
    exact hKn x hKx (zi_inj (by omega) (by omega) (e2.symm.trans e))
  refine ⟨zt_new i1 hd hKd hl el hm hn hK hE hkd, ⟨b1, zs_FXk b2 (by rw [hK]; decide) (fun x hx => pk_un hx) (fun x hx hKx => by rw [pk_un (hKd1 x hKx), pk_un hx]) (by rw [pk_un hnd, pk_us]), zs_FYk b3 (fun x hx => pk_un hx) (fun x hx => pk_un hx) pk_us⟩, ⟨o1, o2, ?_, ?_, ?_, o6⟩, i4, i5, i6⟩
  · intro o ho z
    obtain ⟨⟨x, x1, hx, e, hKx⟩, q⟩ := o3 o ho z
    exact ⟨⟨x, x1, hx, e, by rw [pk_un (hKn x hKx)]; exact hKx⟩, q⟩
  · intro x hx hKx
    by_cases c : x = n
    · subst c; rw [pk_us, zc_none (fun o ho => hnof o ho)]; rfl
    · rw [pk_un c] at hKx ⊢; exact o4 x hx hKx
  · intro x hx hKx
    by_cases c : x = n
    · subst c; exact Or.inl ⟨15 * d + m, by omega, pk_us⟩
    · rw [pk_un c] at hKx
      rcases o5 x hx hKx with ⟨k, hk, e⟩ | q
      · exact Or.inl ⟨k, hk, by rw [pk_un (fun q => by rw [q, hE] at e; exact zi_m1ne (n := x) (by omega) e.symm)]; exact e⟩
      · exact Or.inr q
theorem zi_link {d l m n : Nat} (I : zz_I B cur C ln bl dc ql fu nk lv qa qz pn st kb ch kw K lx bo lk oc eN eV U F Q os ps pc pw rd wr S pr P Z gx L D bh qn ly wd E py gy A fl pp qy) (hd : d < 10) (hKd : K d = 2) (hl : l < 6) (el : lx d = nI l) (hm : m < 15) (hn1 : 1 ≤ n) (hn : n < 10) (hK : K n = 1) (hE : E (15 * d + m) = -1) :
    zz_I B cur C ln bl dc ql fu nk lv qa qz pn st kb ch kw K (upd lx d (nI (l + 1))) bo (upd lk n (nI (zc (fun k => E k = nI n) 150 + 1))) oc (upd eN (6 * d + l) (nI m)) (upd eV (6 * d + l) (nI n)) U F Q os ps pc pw rd wr S pr P Z gx L D bh qn ly wd (upd E (15 * d + m) (nI n)) py gy A fl pp qy := by
  obtain ⟨i1, ⟨b1, b2, b3⟩, ⟨o1, o2, o3, o4, o5, o6⟩, i4, i5, i6⟩ := I
  refine ⟨zt_link i1 hd hKd hl el hm hn1 hn hK hE, ⟨b1, zs_FXl b2 (fun x hx hKx => pk_un (fun e => by rw [e, hKd] at hKx; exact absurd hKx (by decide))), b3⟩, ⟨o1, o2, o3, o4, ?_, o6⟩, i4, i5, i6⟩
  intro x hx hKx
  rcases o5 x hx hKx with ⟨k, hk, e⟩ | q
  · exact Or.inl ⟨k, hk, by rw [pk_un (fun q => by rw [q, hE] at e; exact zi_m1ne (n := x) (by omega) e.symm)]; exact e⟩
  · exact Or.inr q
theorem zi_L {p n : Nat} (I : zz_I B cur C ln bl dc ql fu nk lv qa qz pn st kb ch kw K lx bo lk oc eN eV U F Q os ps pc pw rd wr S pr P Z gx L D bh qn ly wd E py gy A fl pp qy) (hn : n < 10) (hK : K n = 2) : zz_I B cur C ln bl dc ql fu nk lv qa qz pn st kb ch kw K lx bo lk oc eN eV U F Q os ps pc pw rd wr S pr P Z gx (upd L p (nI n)) D bh qn ly wd E py gy A fl pp qy := by
  obtain ⟨⟨t1, t2, t3, t4, t5, t6, t7⟩, i2, i3, i4, i5, i6⟩ := I
  refine ⟨⟨t1, t2, t3, t4, ?_, t6, t7⟩, i2, i3, i4, i5, i6⟩
  intro q hq h
  by_cases c : q = p
  · subst c; exact ⟨n, hn, pk_us, hK⟩
  · rw [pk_un c]; exact t5 q hq h
end
theorem zj_20 {B p z s a b : Nat} {w : Int32} {C : Nat → Int32} {ln bl dc : Nat → Nat} {ql : List Nat} {fu : Int64} {nk lv qa qz : Int32} {ec : Int64} {pn : Int32} {st kb ch kw K lx bo lk oc eN eV U F Ww Q os ps pc pw rd wr S pr P Z gx R L D bh O : Nat → Int32} {qn go : Int32} {ly wd E py gy A fl pp qy : Nat → Int32} (I : zz_I B p C ln bl dc ql fu nk lv qa qz pn st kb ch kw K lx bo lk oc eN eV U F Q os ps pc pw rd wr S pr P Z gx L D bh qn ly wd E py gy A fl pp qy) (hB : B + 1 < 1000000) (hp : p < 5) (hS : S p = 1) (hz : z ≤ 20) (eZ : Z p = nI z) (eP : P p = nI s) (hs : s < z) (hw : gy (20 * p + s) = w) (hD : zw_D w 20 a b) : ∃ (r : Int32) (u' : SX) (v' : SY), zz_Q (B + 1) p w r u' v' ∧ (∀ post : SX → Prop, post u' → wpX_execute post (fu, nk, lv, qa, qz, ec + 1, pn, st, kb, ch, kw, K, lx, bo, lk, oc, eN, eV, U, F, Ww, Q, os, ps, pc, pw, rd, wr, S, pr, P, Z, gx, R, L, D, bh, O) (nI p) w) ∧ ∀ post : Int32 → SY → Prop, post r v' → wpY_execute post (qn, ec, pn, go, K, ly, wd, E, U, S, py, P, Z, gy, R, A, L, F, Ww, Q, fl, pp, qy, O) (nI p) := by
  have I1 := zi_P (x := P p + 1) I (by rw [hS]; decide)
  obtain ⟨⟨t1, t2, t3, t4, t5, t6, t7⟩, _⟩ := id I
  obtain ⟨d, hd, eL, hKd⟩ := t5 p hp (Or.inl hS)
  obtain ⟨r, hr⟩ := zn_ex E d (R (4 * p + a))
  obtain ⟨f, hf⟩ := zf_ex (fun n => K n = 0) 10
  obtain ⟨l, hl, el, hDD⟩ := t6 d hd hKd
  have ecnt := hDD.2.2.2
  have hK0 : K 0 ≠ 0 := by rw [t1.2]; decide
  have ha4 := hD.2.2.2.2.1
  have eia : 4 * nI p + nI a = nI (4 * p + a) := by rw [zi_m4, nI_add]
  have hXf : ∀ post' : Int32 → Prop, post' r → wpX_find post' (fu, nk, lv, qa, qz, ec + 1, pn, st, kb, ch, kw, K, lx, bo, lk, oc, eN, eV, U, F, Ww, Q, os, ps, pc, pw, rd, wr, S, pr, upd P p (P p + 1), Z, gx, R, L, D, bh, O) (L p) (R (4 * p + a)) := fun post' h' => by rw [eL]; exact xr_find hd hKd t6 hr h'
  have hYf : (¬ za_r 15 (R (4 * p + a)) ∨ (∃ m, m < 15 ∧ R (4 * p + a) = nI m ∧ E (15 * d + m) ≠ -1) ∨ f = -1 ∨ 6 ≤ l) → ∀ post' : SY → Prop, post' (qn, ec + 1, pn, 1, K, ly, wd, E, U, S, py, P, Z, gy, upd R (4 * p + 3) (-1), A, L, F, Ww, Q, fl, pp, qy, O) → wpY_makeDirectory post' (qn, ec + 1, pn, 1, K, ly, wd, E, U, S, py, P, Z, gy, R, A, L, F, Ww, Q, fl, pp, qy, O) (nI p) (nI a) := by
    intro hc post' h'
    refine ⟨by rw [eia]; exact vp_in_nI (by omega) (by decide), ?_⟩
    rw [eia, zcl (f := R) (by omega), zcl (f := L) (by omega), eL]
    refine nm_e ⟨vp_in_nI hp (by decide), yr_canEnter hd t3 hf (fun m hm em hE hnf hc6 => ?_) (fun _ => br_t rfl (yo_fail hp h'))⟩
    rcases hc with q | ⟨m', hm', em', q⟩ | q | q
    · exact absurd ⟨m, hm, em⟩ q
    · have := zi_inj (by omega) (by omega) (em.symm.trans em')
      subst this
      exact absurd hE q
    · exact absurd q hnf
    · rw [ecnt] at hc6; omega
  rcases zn_cs t3 hd hr with er | ⟨n, m, n1, hn, hm, em, eE, er, hK⟩
  · subst er
    by_cases hno : f = -1 ∨ ¬ za_r 15 (R (4 * p + a)) ∨ l = 6
    · refine ⟨1, (fu, nk, lv, qa, qz, ec + 1, pn, st, kb, ch, kw, K, lx, bo, lk, oc, eN, eV, U, F, Ww, Q, os, ps, pc, pw, rd, wr, S, pr, upd P p (P p + 1), Z, gx, upd R (4 * p + 3) (-1), L, D, bh, O), (qn, ec + 1, pn, 1, K, ly, wd, E, U, S, py, upd P p (P p + 1), Z, gy, upd R (4 * p + 3) (-1), A, L, F, Ww, Q, fl, pp, qy, O), zz_Qmk (zi_B I1 hB) (Or.inl ⟨rfl, hS, by rw [hD.1]; decide⟩),
        fun post h => xe_20n (g := -1) hp hD hXf (by decide) (fun post' h' => by rw [eL]; exact xd_enterNo hd hl el hK0 hf hno h') (fun _ => h) (fun z => absurd (by decide) z),
        fun post h => ye_c20 hp hz eZ eP hs hw hD (fun post' h' => yc_20 (fun post' h' => hYf ?_ post' h') h') rfl h⟩
      rcases hno with q | q | q
      · exact Or.inr (Or.inr (Or.inl q))
      · exact Or.inl q
      · exact Or.inr (Or.inr (Or.inr (by omega)))
    · have hf' := hf
      rcases hf' with ⟨q, _⟩ | ⟨n, hn, ef, hKn, _⟩
      · exact absurd (Or.inl q) hno
      · subst ef
        have hza : za_r 15 (R (4 * p + a)) := Classical.byContradiction fun q => hno (Or.inr (Or.inl q))
        have hl6 : l < 6 := by
          rcases Nat.lt_or_ge l 6 with q | q
          · exact q
          · exact absurd (Or.inr (Or.inr (by omega))) hno
        obtain ⟨m, hm, em⟩ := hza
        have hE : E (15 * d + m) = -1 := by
          rcases hr with ⟨m', hm', em', q⟩ | ⟨q, _⟩
          · have := zi_inj (by omega) (by omega) (em.symm.trans em')
            subst this; exact q.symm
          · exact absurd ⟨m, hm, em⟩ q
        have hnd : d ≠ n := fun e => by rw [e, hKn] at hKd; exact absurd hKd (by decide)
        have hEn : ∀ k, k < 15 → E (15 * n + k) = -1 := fun k hk => zt_nE t3 hn (by rw [hKn]; decide) hk
        refine ⟨1, (fu, nk, lv, qa, qz, ec + 1, pn, st, kb, ch, kw, upd K n (nI 2), upd (upd lx n 0) d (nI (l + 1)), bo, upd (upd lk n 0) n (nI 1), upd oc n 0, upd eN (6 * d + l) (nI m), upd eV (6 * d + l) (nI n), upd U n (nI d), F, Ww, Q, os, ps, pc, pw, rd, wr, S, pr, upd P p (P p + 1), Z, gx, upd R (4 * p + 3) 1, L, D, bh, O),
          (qn, ec + 1, pn, 1, upd K n (nI 2), upd ly n 0, wd, upd E (15 * d + m) (nI n), upd U n (nI d), S, py, upd P p (P p + 1), Z, gy, upd R (4 * p + 3) 1, A, L, F, Ww, Q, fl, pp, qy, O), zz_Qmk (zi_B (zi_new I1 hd hKd hl6 el hm hn hKn hE (Or.inr rfl)) hB) (Or.inl ⟨rfl, hS, by rw [hD.1]; decide⟩),
          fun post h => xe_20n (g := nI n) hp hD hXf (by decide) (fun post' h' => by rw [eL, em]; exact xd_enterNew hd hl6 el hm hn hnd (Or.inr rfl) hK0 hf h') (fun z => absurd z (nI_pos (by omega))) (fun _ => h),
          fun post h => ye_c20 hp hz eZ eP hs hw hD (fun post' h' => yc_20 (fun post' h' => ?_) h') rfl h⟩
        refine ⟨by rw [eia]; exact vp_in_nI (by omega) (by decide), ?_⟩
        rw [eia, zcl (f := R) (by omega), zcl (f := L) (by omega), eL, em]
        refine nm_e ⟨vp_in_nI hp (by decide), yr_canEnter hd t3 hf (fun m' hm' em' _ _ _ => br_f (by decide) ⟨vp_in_nI hp (by decide), ?_⟩) (fun q => ?_)⟩
        · exact yo_enterNew (kd := 2) hd hm hn hf hEn (yo_done hp h')
        · rcases q with q | ⟨m', hm', em', q⟩ | q | q
          · exact absurd ⟨m, hm, rfl⟩ q
          · have := zi_inj (by omega) (by omega) em'
            subst this; exact absurd hE q
          · exact absurd q (zi_m1ne (by omega))
          · rw [ecnt] at q; omega
  · subst er
    exact ⟨1, (fu, nk, lv, qa, qz, ec + 1, pn, st, kb, ch, kw, K, lx, bo, lk, oc, eN, eV, U, F, Ww, Q, os, ps, pc, pw, rd, wr, S, pr, upd P p (P p + 1), Z, gx, upd R (4 * p + 3) (-1), L, D, bh, O), (qn, ec + 1, pn, 1, K, ly, wd, E, U, S, py, upd P p (P p + 1), Z, gy, upd R (4 * p + 3) (-1), A, L, F, Ww, Q, fl, pp, qy, O), zz_Qmk (zi_B I1 hB) (Or.inl ⟨rfl, hS, by rw [hD.1]; decide⟩),
      fun post h => xe_20f hp hD hXf (nI_pos' (by omega)) h,
      fun post h => ye_c20 hp hz eZ eP hs hw hD (fun post' h' => yc_20 (fun post' h' => hYf (Or.inr (Or.inl ⟨m, hm, em, by rw [eE]; exact zi_m1ne (by omega)⟩)) post' h') h') rfl h⟩
theorem zj_21 {B p z s a b : Nat} {w : Int32} {C : Nat → Int32} {ln bl dc : Nat → Nat} {ql : List Nat} {fu : Int64} {nk lv qa qz : Int32} {ec : Int64} {pn : Int32} {st kb ch kw K lx bo lk oc eN eV U F Ww Q os ps pc pw rd wr S pr P Z gx R L D bh O : Nat → Int32} {qn go : Int32} {ly wd E py gy A fl pp qy : Nat → Int32} (I : zz_I B p C ln bl dc ql fu nk lv qa qz pn st kb ch kw K lx bo lk oc eN eV U F Q os ps pc pw rd wr S pr P Z gx L D bh qn ly wd E py gy A fl pp qy) (hB : B + 1 < 1000000) (hp : p < 5) (hS : S p = 1) (hz : z ≤ 20) (eZ : Z p = nI z) (eP : P p = nI s) (hs : s < z) (hw : gy (20 * p + s) = w) (hD : zw_D w 21 a b) : ∃ (r : Int32) (u' : SX) (v' : SY), zz_Q (B + 1) p w r u' v' ∧ (∀ post : SX → Prop, post u' → wpX_execute post (fu, nk, lv, qa, qz, ec + 1, pn, st, kb, ch, kw, K, lx, bo, lk, oc, eN, eV, U, F, Ww, Q, os, ps, pc, pw, rd, wr, S, pr, P, Z, gx, R, L, D, bh, O) (nI p) w) ∧ ∀ post : Int32 → SY → Prop, post r v' → wpY_execute post (qn, ec, pn, go, K, ly, wd, E, U, S, py, P, Z, gy, R, A, L, F, Ww, Q, fl, pp, qy, O) (nI p) := by
  have I1 := zi_P (x := P p + 1) I (by rw [hS]; decide)
  obtain ⟨⟨t1, t2, t3, t4, t5, t6, t7⟩, _⟩ := id I
  obtain ⟨d, hd, eL, hKd⟩ := t5 p hp (Or.inl hS)
  have ha4 := hD.2.2.2.2.1
  have eia : 4 * nI p + nI a = nI (4 * p + a) := by rw [zi_m4, nI_add]
  -- one value for both
  have key : ∃ v : Int32, (v = -1 ∨ ∃ n, n < 10 ∧ v = nI n) ∧
      (∀ post' : Int32 → SX → Prop, wX_go_43 post' (nI p) v fu nk lv qa qz (ec + 1) pn st kb ch kw K lx bo lk oc eN eV U F Ww Q os ps pc pw rd wr S pr (upd P p (P p + 1)) Z gx R L D bh O → wpX_go post' (fu, nk, lv, qa, qz, ec + 1, pn, st, kb, ch, kw, K, lx, bo, lk, oc, eN, eV, U, F, Ww, Q, os, ps, pc, pw, rd, wr, S, pr, upd P p (P p + 1), Z, gx, R, L, D, bh, O) (nI p) (R (4 * p + a))) ∧
      ∀ post' : SY → Prop, wY_go_42 post' (nI p) v qn (ec + 1) pn 1 K ly wd E U S py P Z gy R A L F Ww Q fl pp qy O → wpY_go post' (qn, ec + 1, pn, 1, K, ly, wd, E, U, S, py, P, Z, gy, R, A, L, F, Ww, Q, fl, pp, qy, O) (nI p) (nI a) := by
    by_cases c : R (4 * p + a) = 15
    · obtain ⟨m, hm, eU, hKm⟩ := t2.2 d hd hKd
      refine ⟨nI m, Or.inr ⟨m, hm, rfl⟩, fun post' h' => br_t c ⟨vp_in_nI hp (by decide), ?_⟩, fun post' h' => ⟨by rw [eia]; exact vp_in_nI (by omega) (by decide), ?_⟩⟩
      · rw [zcl (f := L) (by omega), eL, zcl (f := U) (by omega), eU]
        exact ⟨vp_in_nI hd (by decide), h'⟩
      · rw [eia, zcl (f := R) (by omega), zcl (f := L) (by omega), eL, zcl (f := U) (by omega), eU]
        exact nm_e (br_t c ⟨vp_in_nI hp (by decide), vp_in_nI hd (by decide), h'⟩)
    · obtain ⟨r, hr⟩ := zn_ex E d (R (4 * p + a))
      refine ⟨r, ?_, fun post' h' => br_f c (xr_isName (fun hz => br_f (by decide) ⟨vp_in_nI hp (by decide), ?_⟩) (fun hz => br_t rfl ?_)), fun post' h' => ⟨by rw [eia]; exact vp_in_nI (by omega) (by decide), ?_⟩⟩
      · rcases zn_cs t3 hd hr with er | ⟨n, m, n1, hn, hm, em, eE, er, hK⟩
        · exact Or.inl er
        · exact Or.inr ⟨n, hn, er⟩
      · rw [zcl (f := L) (by omega), eL]
        exact xr_find hd hKd t6 hr h'
      · rw [zn_no hr hz] at h'; exact h'
      · rw [eia, zcl (f := R) (by omega), zcl (f := L) (by omega), eL]
        exact nm_e (br_f c ⟨vp_in_nI hp (by decide), yr_named hd hr h'⟩)
  obtain ⟨v, hv, hX, hY⟩ := key
  by_cases hg : ∃ n, n < 10 ∧ v = nI n ∧ K n = 2
  · obtain ⟨n, hn, ev, hKn⟩ := hg
    subst ev
    refine ⟨1, (fu, nk, lv, qa, qz, ec + 1, pn, st, kb, ch, kw, K, lx, bo, lk, oc, eN, eV, U, F, Ww, Q, os, ps, pc, pw, rd, wr, S, pr, upd P p (P p + 1), Z, gx, upd R (4 * p + 3) 1, upd L p (nI n), D, bh, O), (qn, ec + 1, pn, 1, K, ly, wd, E, U, S, py, upd P p (P p + 1), Z, gy, upd R (4 * p + 3) 1, A, upd L p (nI n), F, Ww, Q, fl, pp, qy, O), zz_Qmk (zi_B (zi_L I1 hn hKn) hB) (Or.inl ⟨rfl, hS, by rw [hD.1]; decide⟩),
      fun post h => xe_21 (g := 1) hp hD (fun post' h' => hX post' ?_) (fun z => absurd z (by decide)) (fun _ => h),
      fun post h => ye_c21 hp hz eZ eP hs hw hD (fun post' h' => yc_21 (fun post' h' => hY post' ?_) h') rfl h⟩
    · unfold wX_go_43
      rw [zcl (f := K) (by omega), nI_clamp (n := p) (by omega), zb_nar8 (by omega)]
      exact br_f (nI_pos (by omega)) ⟨vp_in_nI hn (by decide), br_t hKn ⟨vp_in_nI hp (by decide), nm_e h'⟩⟩
    · unfold wY_go_42
      rw [zcl (f := K) (by omega), nI_clamp (n := p) (by omega)]
      exact br_f (nI_pos (by omega)) ⟨vp_in_nI hn (by decide), br_t hKn ⟨vp_in_nI hp (by decide), nm_e (yo_done hp h')⟩⟩
  · refine ⟨1, (fu, nk, lv, qa, qz, ec + 1, pn, st, kb, ch, kw, K, lx, bo, lk, oc, eN, eV, U, F, Ww, Q, os, ps, pc, pw, rd, wr, S, pr, upd P p (P p + 1), Z, gx, upd R (4 * p + 3) (-1), L, D, bh, O), (qn, ec + 1, pn, 1, K, ly, wd, E, U, S, py, upd P p (P p + 1), Z, gy, upd R (4 * p + 3) (-1), A, L, F, Ww, Q, fl, pp, qy, O), zz_Qmk (zi_B I1 hB) (Or.inl ⟨rfl, hS, by rw [hD.1]; decide⟩),
      fun post h => xe_21 (g := 0) hp hD (fun post' h' => hX post' ?_) (fun _ => h) (fun z => absurd rfl z),
      fun post h => ye_c21 hp hz eZ eP hs hw hD (fun post' h' => yc_21 (fun post' h' => hY post' ?_) h') rfl h⟩
    · unfold wX_go_43
      rcases hv with e | ⟨n, hn, e⟩
      · rw [e]; exact br_t (by decide) h'
      · rw [e, zcl (f := K) (by omega)]
        exact br_f (nI_pos (by omega)) ⟨vp_in_nI hn (by decide), br_f (fun q => hg ⟨n, hn, e, q⟩) h'⟩
    · unfold wY_go_42
      rcases hv with e | ⟨n, hn, e⟩
      · rw [e]; exact br_t (by decide) (yo_fail hp h')
      · rw [e, zcl (f := K) (by omega)]
        exact br_f (nI_pos (by omega)) ⟨vp_in_nI hn (by decide), br_f (fun q => hg ⟨n, hn, e, q⟩) (yo_fail hp h')⟩
end
section
/-! linking and removing, on both sides -/
theorem zj_22 {B p z s a b : Nat} {w : Int32} {C : Nat → Int32} {ln bl dc : Nat → Nat} {ql : List Nat} {fu : Int64} {nk lv qa qz : Int32} {ec : Int64} {pn : Int32} {st kb ch kw K lx bo lk oc eN eV U F Ww Q os ps pc pw rd wr S pr P Z gx R L D bh O : Nat → Int32} {qn go : Int32} {ly wd E py gy A fl pp qy : Nat → Int32} (I : zz_I B p C ln bl dc ql fu nk lv qa qz pn st kb ch kw K lx bo lk oc eN eV U F Q os ps pc pw rd wr S pr P Z gx L D bh qn ly wd E py gy A fl pp qy) (hB : B + 1 < 1000000) (hp : p < 5) (hS : S p = 1) (hz : z ≤ 20) (eZ : Z p = nI z) (eP : P p = nI s) (hs : s < z) (hw : gy (20 * p + s) = w) (hD : zw_D w 22 a b) : ∃ (r : Int32) (u' : SX) (v' : SY), zz_Q (B + 1) p w r u' v' ∧ (∀ post : SX → Prop, post u' → wpX_execute post (fu, nk, lv, qa, qz, ec + 1, pn, st, kb, ch, kw, K, lx, bo, lk, oc, eN, eV, U, F, Ww, Q, os, ps, pc, pw, rd, wr, S, pr, P, Z, gx, R, L, D, bh, O) (nI p) w) ∧ ∀ post : Int32 → SY → Prop, post r v' → wpY_execute post (qn, ec, pn, go, K, ly, wd, E, U, S, py, P, Z, gy, R, A, L, F, Ww, Q, fl, pp, qy, O) (nI p) := by
  have I1 := zi_P (x := P p + 1) I (by rw [hS]; decide)
  obtain ⟨⟨t1, t2, t3, t4, t5, t6, t7⟩, _⟩ := id I
  obtain ⟨d, hd, eL, hKd⟩ := t5 p hp (Or.inl hS)
  obtain ⟨r, hr⟩ := zn_ex E d (R (4 * p + a))
  obtain ⟨r2, hr2⟩ := zn_ex E d (R (4 * p + b))
  obtain ⟨l, hl, el, hDD⟩ := t6 d hd hKd
  have ecnt := hDD.2.2.2
  have ha4 := hD.2.2.2.2.1
  have hb4 := hD.2.2.2.2.2
  have eia : 4 * nI p + nI a = nI (4 * p + a) := by rw [zi_m4, nI_add]
  have eib : 4 * nI p + nI b = nI (4 * p + b) := by rw [zi_m4, nI_add]
  -- the reference's walk down to the file
  have hYn : ∀ (post' : SY → Prop), (r = -1 ∨ ∃ n, n < 10 ∧ r = nI n ∧ K n ≠ 1) → post' (qn, ec + 1, pn, 1, K, ly, wd, E, U, S, py, P, Z, gy, upd R (4 * p + 3) (-1), A, L, F, Ww, Q, fl, pp, qy, O) → wpY_link post' (qn, ec + 1, pn, 1, K, ly, wd, E, U, S, py, P, Z, gy, R, A, L, F, Ww, Q, fl, pp, qy, O) (nI p) (nI a) (nI b) := by
    intro post' hc h'
    refine ⟨vp_in_nI hp (by decide), by rw [eia]; exact vp_in_nI (by omega) (by decide), ?_⟩
    rw [eia, eib, zcl (f := R) (i := 4 * p + a) (by omega), zcl (f := L) (by omega), eL]
    refine yr_named hd hr ⟨vp_in_nI (by omega) (by decide), nm_e ?_⟩
    rcases hc with e | ⟨n, hn, e, hK⟩
    · rw [e]; exact br_t (by decide) (yo_fail hp h')
    · rw [e, zcl (f := K) (by omega)]; exact br_f (nI_pos (by omega)) ⟨vp_in_nI hn (by decide), br_f hK (yo_fail hp h')⟩
  have hXn : ∀ (post' : Int32 → SX → Prop), (r = -1 ∨ ∃ n, n < 10 ∧ r = nI n ∧ K n ≠ 1) → post' 0 (fu, nk, lv, qa, qz, ec + 1, pn, st, kb, ch, kw, K, lx, bo, lk, oc, eN, eV, U, F, Ww, Q, os, ps, pc, pw, rd, wr, S, pr, upd P p (P p + 1), Z, gx, R, L, D, bh, O) → wpX_link post' (fu, nk, lv, qa, qz, ec + 1, pn, st, kb, ch, kw, K, lx, bo, lk, oc, eN, eV, U, F, Ww, Q, os, ps, pc, pw, rd, wr, S, pr, upd P p (P p + 1), Z, gx, R, L, D, bh, O) (nI p) (R (4 * p + a)) (R (4 * p + b)) := by
    intro post' hc h'
    unfold wpX_link
    exact xr_namedFile hp eL hd hKd t6 hr (v := -1) (Or.inl ⟨rfl, hc⟩) ⟨vp_in_nI hp (by decide), nm_e (br_t (by decide) h')⟩
  have hfail : (r = -1 ∨ ∃ n, n < 10 ∧ r = nI n ∧ K n ≠ 1) → ∃ (r : Int32) (u' : SX) (v' : SY), zz_Q (B + 1) p w r u' v' ∧ (∀ post : SX → Prop, post u' → wpX_execute post (fu, nk, lv, qa, qz, ec + 1, pn, st, kb, ch, kw, K, lx, bo, lk, oc, eN, eV, U, F, Ww, Q, os, ps, pc, pw, rd, wr, S, pr, P, Z, gx, R, L, D, bh, O) (nI p) w) ∧ ∀ post : Int32 → SY → Prop, post r v' → wpY_execute post (qn, ec, pn, go, K, ly, wd, E, U, S, py, P, Z, gy, R, A, L, F, Ww, Q, fl, pp, qy, O) (nI p) := fun hc =>
    ⟨1, (fu, nk, lv, qa, qz, ec + 1, pn, st, kb, ch, kw, K, lx, bo, lk, oc, eN, eV, U, F, Ww, Q, os, ps, pc, pw, rd, wr, S, pr, upd P p (P p + 1), Z, gx, upd R (4 * p + 3) (-1), L, D, bh, O), (qn, ec + 1, pn, 1, K, ly, wd, E, U, S, py, upd P p (P p + 1), Z, gy, upd R (4 * p + 3) (-1), A, L, F, Ww, Q, fl, pp, qy, O), zz_Qmk (zi_B I1 hB) (Or.inl ⟨rfl, hS, by rw [hD.1]; decide⟩),
      fun post h => xe_22 (g := 0) hp hD (fun post' h' => hXn post' hc h') (fun _ => h) (fun z => absurd rfl z),
      fun post h => ye_c22 hp hz eZ eP hs hw hD (fun post' h' => yc_22 (fun post' h' => hYn post' hc h') h') rfl h⟩
  rcases zn_cs t3 hd hr with er | ⟨n, m0, n1, hn, hm0, em0, eE0, er, hK0⟩
  · exact hfail (Or.inl er)
  · by_cases hK : K n = 1
    · subst er
      have hXp : ∀ (post' : Int32 → SX → Prop), (za_r 15 (R (4 * p + b)) → (0 ≤ r2 → post' 0 (fu, nk, lv, qa, qz, ec + 1, pn, st, kb, ch, kw, K, lx, bo, lk, oc, eN, eV, U, F, Ww, Q, os, ps, pc, pw, rd, wr, S, pr, upd P p (P p + 1), Z, gx, R, L, D, bh, O)) ∧ (¬ 0 ≤ r2 → (lx d < 6 → wpX_enter (fun u => post' 1 u) (fu, nk, lv, qa, qz, ec + 1, pn, st, kb, ch, kw, K, lx, bo, lk, oc, eN, eV, U, F, Ww, Q, os, ps, pc, pw, rd, wr, S, pr, upd P p (P p + 1), Z, gx, R, L, D, bh, O) (nI d) (R (4 * p + b)) (nI n)) ∧ (¬ lx d < 6 → post' 0 (fu, nk, lv, qa, qz, ec + 1, pn, st, kb, ch, kw, K, lx, bo, lk, oc, eN, eV, U, F, Ww, Q, os, ps, pc, pw, rd, wr, S, pr, upd P p (P p + 1), Z, gx, R, L, D, bh, O)))) →
          (¬ za_r 15 (R (4 * p + b)) → post' 0 (fu, nk, lv, qa, qz, ec + 1, pn, st, kb, ch, kw, K, lx, bo, lk, oc, eN, eV, U, F, Ww, Q, os, ps, pc, pw, rd, wr, S, pr, upd P p (P p + 1), Z, gx, R, L, D, bh, O)) → wpX_link post' (fu, nk, lv, qa, qz, ec + 1, pn, st, kb, ch, kw, K, lx, bo, lk, oc, eN, eV, U, F, Ww, Q, os, ps, pc, pw, rd, wr, S, pr, upd P p (P p + 1), Z, gx, R, L, D, bh, O) (nI p) (R (4 * p + a)) (R (4 * p + b)) := by
        intro post' h1 h0
        unfold wpX_link
        refine xr_namedFile hp eL hd hKd t6 hr (v := nI n) (Or.inr ⟨n, hn, rfl, hK, rfl⟩) ⟨vp_in_nI hp (by decide), nm_r (e' := nI d) ((zcl (by omega)).trans eL) (br_f (nI_pos (by omega)) (xr_isName (fun hz => br_f (by decide) (xr_find hd hKd t6 hr2 ?_)) (fun hz => br_t rfl (h0 hz))))⟩
        refine ⟨(h1 hz).1, fun q => ⟨vp_in_nI hd (by decide), ?_⟩⟩
        rw [zcl (f := lx) (by omega)]
        exact ⟨((h1 hz).2 q).1, ((h1 hz).2 q).2⟩
      have hYp : ∀ (post' : SY → Prop), (za_r 15 (R (4 * p + b)) → (0 ≤ r2 → post' (qn, ec + 1, pn, 1, K, ly, wd, E, U, S, py, P, Z, gy, upd R (4 * p + 3) (-1), A, L, F, Ww, Q, fl, pp, qy, O)) ∧ (¬ 0 ≤ r2 → (l = 6 → post' (qn, ec + 1, pn, 1, K, ly, wd, E, U, S, py, P, Z, gy, upd R (4 * p + 3) (-1), A, L, F, Ww, Q, fl, pp, qy, O)) ∧ (l ≠ 6 → ∀ m, m < 15 → R (4 * p + b) = nI m → post' (qn, ec + 1, pn, 1, K, ly, wd, upd E (15 * d + m) (nI n), U, S, py, P, Z, gy, upd R (4 * p + 3) 1, A, L, F, Ww, Q, fl, pp, qy, O)))) →
          (¬ za_r 15 (R (4 * p + b)) → post' (qn, ec + 1, pn, 1, K, ly, wd, E, U, S, py, P, Z, gy, upd R (4 * p + 3) (-1), A, L, F, Ww, Q, fl, pp, qy, O)) → wpY_link post' (qn, ec + 1, pn, 1, K, ly, wd, E, U, S, py, P, Z, gy, R, A, L, F, Ww, Q, fl, pp, qy, O) (nI p) (nI a) (nI b) := by
        intro post' h1 h0
        refine ⟨vp_in_nI hp (by decide), by rw [eia]; exact vp_in_nI (by omega) (by decide), ?_⟩
        rw [eia, eib, zcl (f := R) (i := 4 * p + a) (by omega), zcl (f := R) (i := 4 * p + b) (by omega), zcl (f := L) (by omega), eL]
        refine yr_named hd hr ⟨vp_in_nI (by omega) (by decide), nm_e (br_f (nI_pos (by omega)) ⟨vp_in_nI hn (by decide), br_t ((zcl (by omega)).trans hK) (yr_in0 (h := 14) (by decide) (fun hz => br_f (by decide) ⟨vp_in_nI hp (by decide), ?_⟩) (fun hz => br_t rfl (yo_fail hp (h0 hz))))⟩)⟩
        refine yr_named hd hr2 ⟨fun q => yo_fail hp ((h1 hz).1 q), fun q => ⟨vp_in_nI hp (by decide), yr_entriesOf hd t3 ?_⟩⟩
        rw [ecnt]
        by_cases c6 : l = 6
        · exact br_t (by rw [c6]; rfl) (yo_fail hp (((h1 hz).2 q).1 c6))
        · refine br_f (fun z => c6 (zi_inj (b := 6) (by omega) (by decide) z)) ⟨vp_in_nI hp (by decide), ?_⟩
          obtain ⟨m, hm, em⟩ := hz
          have hf := ((h1 ⟨m, hm, em⟩).2 q).2 c6 m hm em
          rw [em, zi_m15, nI_add, nI_clamp (n := 15 * d + m) (by omega)]
          exact ⟨vp_in_nI (by omega) (by decide), nm_e (yo_done hp hf)⟩
      by_cases hok : ∃ m, m < 15 ∧ R (4 * p + b) = nI m ∧ r2 = -1 ∧ l < 6
      · obtain ⟨m, hm, em, e2, hl6⟩ := hok
        have hE : E (15 * d + m) = -1 := by
          rcases hr2 with ⟨m', hm', em', q⟩ | ⟨q, _⟩
          · have := zi_inj (by omega) (by omega) (em.symm.trans em')
            subst this; exact q.symm.trans e2
          · exact absurd ⟨m, hm, em⟩ q
        have b60 := zt_l60 t3 t6 hn
        refine ⟨1, (fu, nk, lv, qa, qz, ec + 1, pn, st, kb, ch, kw, K, upd lx d (nI (l + 1)), bo, upd lk n (nI (zc (fun k => E k = nI n) 150 + 1)), oc, upd eN (6 * d + l) (nI m), upd eV (6 * d + l) (nI n), U, F, Ww, Q, os, ps, pc, pw, rd, wr, S, pr, upd P p (P p + 1), Z, gx, upd R (4 * p + 3) 1, L, D, bh, O), (qn, ec + 1, pn, 1, K, ly, wd, upd E (15 * d + m) (nI n), U, S, py, upd P p (P p + 1), Z, gy, upd R (4 * p + 3) 1, A, L, F, Ww, Q, fl, pp, qy, O), zz_Qmk (zi_B (zi_link I1 hd hKd hl6 el hm n1 hn hK hE) hB) (Or.inl ⟨rfl, hS, by rw [hD.1]; decide⟩),
          fun post h => xe_22 (g := 1) hp hD (fun post' h' => hXp post' (fun _ => ⟨fun q => ?_, fun _ => ⟨fun _ => ?_, fun q => ?_⟩⟩) (fun q => ?_)) (fun z => absurd z (by decide)) (fun _ => h),
          fun post h => ye_c22 hp hz eZ eP hs hw hD (fun post' h' => yc_22 (fun post' h' => hYp post' (fun _ => ⟨fun q => ?_, fun _ => ⟨fun q => ?_, fun _ m' hm' em' => ?_⟩⟩) (fun q => ?_)) h') rfl h⟩
        · rw [e2] at q; exact absurd q (by decide)
        · rw [em]; exact xd_enter hd hl6 el hm hn (t7 n hn hK0) (by omega) h'
        · rw [el] at q; exact absurd (nI_lt (b := 6) hl6 (by decide)) q
        · exact absurd ⟨m, hm, em⟩ q
        · rw [e2] at q; exact absurd q (by decide)
        · omega
        · have := zi_inj (by omega) (by omega) (em.symm.trans em')
          subst this; exact h'
        · exact absurd ⟨m, hm, em⟩ q
      · have hneg : za_r 15 (R (4 * p + b)) → ¬ 0 ≤ r2 → l = 6 := by
          intro ⟨m, hm, em⟩ q
          rcases zn_cs t3 hd hr2 with e | ⟨x, _, _, hx, _, _, _, e, _⟩
          · rcases Nat.lt_or_ge l 6 with y | y
            · exact absurd ⟨m, hm, em, e, y⟩ hok
            · omega
          · rw [e] at q; exact absurd (nI_pos' (by omega)) q
        exact ⟨1, (fu, nk, lv, qa, qz, ec + 1, pn, st, kb, ch, kw, K, lx, bo, lk, oc, eN, eV, U, F, Ww, Q, os, ps, pc, pw, rd, wr, S, pr, upd P p (P p + 1), Z, gx, upd R (4 * p + 3) (-1), L, D, bh, O), (qn, ec + 1, pn, 1, K, ly, wd, E, U, S, py, upd P p (P p + 1), Z, gy, upd R (4 * p + 3) (-1), A, L, F, Ww, Q, fl, pp, qy, O), zz_Qmk (zi_B I1 hB) (Or.inl ⟨rfl, hS, by rw [hD.1]; decide⟩),
          fun post h => xe_22 (g := 0) hp hD (fun post' h' => hXp post' (fun hz => ⟨fun _ => h', fun q => ⟨fun y => absurd y (by rw [el, hneg hz q]; decide), fun _ => h'⟩⟩) (fun _ => h')) (fun _ => h) (fun z => absurd rfl z),
          fun post h => ye_c22 hp hz eZ eP hs hw hD (fun post' h' => yc_22 (fun post' h' => hYp post' (fun hz => ⟨fun _ => h', fun q => ⟨fun _ => h', fun y => absurd (hneg hz q) y⟩⟩) (fun _ => h')) h') rfl h⟩
    · exact hfail (Or.inr ⟨n, hn, er, hK⟩)
end
section
/-! removing, on both sides -/
theorem zs_FXe {K K' : Nat → Int32} {ln bl : Nat → Nat} {fu : Int64} {bo lx : Nat → Int32} (H : zr_FX K ln bl fu bo lx) (h : ∀ x, K' x = 1 ↔ K x = 1) : zr_FX K' ln bl fu bo lx := by
  obtain ⟨a1, a2, a3, a4⟩ := H
  have hV : ∀ q, zr_V K' ln q ↔ zr_V K ln q := fun q => by unfold zr_V; rw [h]
  refine ⟨fun m hm hK => a1 m hm ((h m).mp hK), fun q hq v => a2 q hq ((hV q).mp v), fun q q' hq hq' v v' => a3 q q' hq hq' ((hV q).mp v) ((hV q').mp v'), fun b hb u => ?_⟩
  obtain ⟨q, hq, v, e⟩ := a4 b hb u
  exact ⟨q, hq, (hV q).mpr v, e⟩
theorem zs_FYe1 {K K' : Nat → Int32} {ln bl : Nat → Nat} {C ly wd : Nat → Int32} (H : zr_FY K ln bl C ly wd) (h : ∀ x, K' x = 1 ↔ K x = 1) : zr_FY K' ln bl C ly wd := fun m hm hK => H m hm ((h m).mp hK)
/-- what a removal makes of the invariant; the component's freeing -/
theorem zi_rem {B cur d l m n e : Nat} {C : Nat → Int32} {ln bl dc : Nat → Nat} {ql : List Nat} {fu : Int64} {nk lv qa qz : Int32} {ec : Int64} {pn : Int32} {st kb ch kw K lx bo lk oc eN eV U F Ww Q os ps pc pw rd wr S pr P Z gx R L D bh O : Nat → Int32} {qn go : Int32} {ly wd E py gy A fl pp qy : Nat → Int32} (I : zz_I B cur C ln bl dc ql fu nk lv qa qz pn st kb ch kw K lx bo lk oc eN eV U F Q os ps pc pw rd wr S pr P Z gx L D bh qn ly wd E py gy A fl pp qy) (hd : d < 10) (hKd : K d = 2) (hl : l ≤ 6) (el : lx d = nI l) (hm : m < 15) (hn1 : 1 ≤ n) (hn : n < 10) (hE : E (15 * d + m) = nI n) (he : e < l) (hN : eN (6 * d + e) = nI m) (hV : eV (6 * d + e) = nI n)
    (hdir : K n = 2 → (∀ m', m' < 15 → E (15 * n + m') = -1) ∧ ∀ p, p < 5 → (S p = 1 ∨ S p = 2) → L p ≠ nI n) (hK0 : K n ≠ 0) :
    ∃ (fu' : Int64) (kb' K' lx' lk' eN' eV' C' : Nat → Int32) (ln' : Nat → Nat), zz_I B cur C' ln' bl dc ql fu' nk lv qa qz pn st kb' ch kw K' lx' bo lk' oc eN' eV' U F Q os ps pc pw rd wr S pr P Z gx L D bh qn ly wd (upd E (15 * d + m) (-1)) py gy A fl pp qy ∧ K' = zk_c dc (upd E (15 * d + m) (-1)) F (if K n = 2 then upd K n 0 else K) ∧ zr_K3 (if K n = 2 then upd K n 0 else K) U (upd E (15 * d + m) (-1)) ∧
      ∀ post : SX → Prop, post (fu', nk, lv, qa, qz, ec, pn, st, kb', ch, kw, K', lx', bo, lk', oc, eN', eV', U, F, Ww, Q, os, ps, pc, pw, rd, wr, S, pr, P, Z, gx, R, L, D, bh, O) → wpX_takeOut post (fu, nk, lv, qa, qz, ec, pn, st, kb, ch, kw, K, lx, bo, lk, oc, eN, eV, U, F, Ww, Q, os, ps, pc, pw, rd, wr, S, pr, P, Z, gx, R, L, D, bh, O) (nI d) (nI (6 * d + e)) := by
  obtain ⟨i1, ⟨b1, b2, b3⟩, ⟨o1, o2, o3, o4, o5, o6⟩, i4, i5, i6⟩ := I
  obtain ⟨t1, t2, t3, t4, t5, t6, t7⟩ := id i1
  obtain ⟨l', hl', el', hDD⟩ := t6 d hd hKd
  have := zi_inj (by omega) (by omega) (el'.symm.trans el)
  subst this
  -- the last entry
  obtain ⟨m2, hm2, em2, ev2, ene2⟩ := hDD.1 (l' - 1) (by omega)
  obtain ⟨n2, hn2, en2⟩ : ∃ n2, n2 < 10 ∧ eV (6 * d + (l' - 1)) = nI n2 := by
    rcases t3 (15 * d + m2) (by omega) with q | ⟨x, _, hx, q, _⟩
    · exact absurd q ene2
    · exact ⟨x, hx, ev2.trans q⟩
  have b60 := zt_l60 t3 t6 hn
  have hcpos : 0 < zc (fun k => E k = nI n) 150 := zc_pos (show 15 * d + m < 150 by omega) hE
  have hc2 := zt_c2 (x := n) (show 15 * d + m < 150 by omega) hn hn hE
  rw [if_pos rfl] at hc2
  have elk : lk n = nI (zc (fun k => E k = nI n) 150 - 1 + 1) := by rw [show zc (fun k => E k = nI n) 150 - 1 + 1 = zc (fun k => E k = nI n) 150 by omega]; exact t7 n hn hK0
  have hd1 : ∀ x, K x = 1 → x ≠ d := fun x h q => by rw [q, hKd] at h; exact absurd h (by decide)
  have b2' : zr_FX K ln bl fu bo (upd lx d (nI (l' - 1))) := zs_FXl b2 (fun x hx hKx => pk_un (hd1 x hKx))
  have hlE : ∀ x, x < 10 → x ≠ n → zh_l E x → zh_l (upd E (15 * d + m) (-1)) x := by
    intro x hx hxn ⟨k, hk, ek⟩
    exact ⟨k, hk, by rw [pk_un (fun q => hxn (by rw [q] at ek; exact zi_inj (by omega) (by omega) (ek.symm.trans hE)))]; exact ek⟩
  have nzx : ∀ x, x < 10 → x ≠ n → K x = 1 → zh_l (upd E (15 * d + m) (-1)) x ∨ zh_f dc F x := fun x hx hxn hKx => (o5 x hx hKx).imp (hlE x hx hxn) id
  by_cases hK2 : K n = 2
  · obtain ⟨g0, g1⟩ := hdir hK2
    have hK1n : ∀ x, K x = 1 → x ≠ n := fun x h q => by rw [q, hK2] at h; exact absurd h (by decide)
    have hiff : ∀ x, upd K n 0 x = 1 ↔ K x = 1 := by
      intro x
      by_cases c : x = n
      · subst c; rw [pk_us, hK2]; decide
      · rw [pk_un c]
    have T' := zt_deld (lk' := upd lk n (nI (zc (fun k => E k = nI n) 150 - 1))) i1 hd hKd hl el hm hn1 hn hK2 hE he hN g0 g1 (fun x hx => pk_un hx)
    have nz' : zr_NZ dc (upd K n 0) (upd E (15 * d + m) (-1)) F := by
      intro x hx hKx
      have := (hiff x).mp hKx
      exact nzx x hx (hK1n x this) this
    rw [if_pos hK2]
    refine ⟨fu, kb, upd K n 0, _, _, _, _, C, ln, ⟨T', ⟨b1, zs_FXe b2' hiff, zs_FYe1 b3 hiff⟩, ⟨o1, o2, ?_, ?_, nz', o6⟩, i4, i5, i6⟩, (zk_id nz').symm, T'.2.2.1, fun post h => ?_⟩
    · intro o ho z
      obtain ⟨⟨x, x1, hx, e1, hKx⟩, q⟩ := o3 o ho z
      exact ⟨⟨x, x1, hx, e1, (hiff x).mpr hKx⟩, q⟩
    · intro x hx hKx
      by_cases c : x = n
      · subst c; rw [pk_us] at hKx; exact absurd rfl hKx
      · rw [pk_un c] at hKx; exact o4 x hx hKx
    · have z0 : oc n = 0 := by
        rw [o4 n hn hK0, zc_none (fun o ho q => ?_)]
        · rfl
        · obtain ⟨⟨x, _, hx, e1, hKx⟩, _⟩ := o3 o ho q.2
          exact hK1n x hKx (zi_inj (by omega) (by omega) (e1.symm.trans q.1))
      have z1 : zc (fun k => E k = nI n) 150 - 1 = 0 := by rw [t4 n hn1 hn hK2]
      refine xd_takeOut (u2 := (fu, nk, lv, qa, qz, ec, pn, st, kb, ch, kw, upd K n 0, upd lx d (nI (l' - 1)), bo, upd lk n (nI (zc (fun k => E k = nI n) 150 - 1)), oc, upd eN (6 * d + e) (eN (6 * d + (l' - 1))), upd eV (6 * d + e) (eV (6 * d + (l' - 1))), U, F, Ww, Q, os, ps, pc, pw, rd, wr, S, pr, P, Z, gx, R, L, D, bh, O)) hd hl el he hn hV em2 hm2 en2 hn2 elk (by omega) (fun post' h' => xd_freeDir hn (by rw [pk_us, z1]; rfl) z0 hK2 h') h
  · have hK1 : K n = 1 := by
      rcases t1.1 n hn with q | q | q
      · exact absurd q hK0
      · exact q
      · exact absurd q hK2
    rw [if_neg hK2]
    have T1 := zt_del i1 hd hKd hl el hm hn hK1 hE he hN
    by_cases c : zh_l (upd E (15 * d + m) (-1)) n ∨ zh_f dc F n
    · have nz' : zr_NZ dc K (upd E (15 * d + m) (-1)) F := by
        intro x hx hKx
        by_cases cx : x = n
        · rw [cx]; exact c
        · exact nzx x hx cx hKx
      refine ⟨fu, kb, K, _, _, _, _, C, ln, ⟨T1, ⟨b1, b2', b3⟩, ⟨o1, o2, o3, o4, nz', o6⟩, i4, i5, i6⟩, (zk_id nz').symm, T1.2.2.1, fun post h => ?_⟩
      have b8 := zc_le (fun o => F o = nI n ∧ zh_o dc (1 + o)) 8
      refine xd_takeOut (u2 := (fu, nk, lv, qa, qz, ec, pn, st, kb, ch, kw, K, upd lx d (nI (l' - 1)), bo, upd lk n (nI (zc (fun k => E k = nI n) 150 - 1)), oc, upd eN (6 * d + e) (eN (6 * d + (l' - 1))), upd eV (6 * d + e) (eV (6 * d + (l' - 1))), U, F, Ww, Q, os, ps, pc, pw, rd, wr, S, pr, P, Z, gx, R, L, D, bh, O)) hd hl el he hn hV em2 hm2 en2 hn2 elk (by omega) (fun post' h' => xd_freeNo hn pk_us (by omega) (o4 n hn hK0) (by omega) ?_ h') h
      rcases c with q | ⟨o, ho, q⟩
      · have := zt_hl.mp q; exact Or.inl (by omega)
      · exact Or.inr (zc_pos ho q)
    · have cl : ¬ zh_l (upd E (15 * d + m) (-1)) n := fun q => c (Or.inl q)
      have cf : ¬ zh_f dc F n := fun q => c (Or.inr q)
      obtain ⟨of2, oc2, nz2⟩ := zo_free o3 o4 nzx cf
      obtain ⟨fu', kb', C', g1, g2, g3, gX⟩ := xs_empty (fu := fu) (nk := nk) (lv := lv) (qa := qa) (qz := qz) (ec := ec) (pn := pn) (st := st) (kb := kb) (ch := ch) (kw := kw) (K := K) (lx := upd lx d (nI (l' - 1))) (bo := bo) (lk := upd lk n (nI (zc (fun k => E k = nI n) 150 - 1))) (oc := oc) (eN := upd eN (6 * d + e) (eN (6 * d + (l' - 1)))) (eV := upd eV (6 * d + e) (eV (6 * d + (l' - 1)))) (U := U) (F := F) (Ww := Ww) (Q := Q) (os := os) (ps := ps) (pc := pc) (pw := pw) (rd := rd) (wr := wr) (S := S) (pr := pr) (P := P) (Z := Z) (gx := gx) (R := R) (L := L) (D := D) (bh := bh) (O := O) (n := n) b1 b2' hn hK1
      refine ⟨fu', kb', upd K n 0, upd (upd lx d (nI (l' - 1))) n 0, _, _, _, C', zu ln n 0, ⟨zt_free T1 hK1 cl (fun x hx => pk_un hx), ⟨g1, zs_FXg g2 zu_s, zs_FYg ?_⟩, ⟨o1, o2, of2, oc2, nz2, o6⟩, i4, i5, i6⟩, (zk_1 hn hK1 cl cf nzx).symm, T1.2.2.1, fun post h => ?_⟩
      · intro x hx cx hKx
        rw [zu_n cx]
        obtain ⟨y1, y2⟩ := b3 x hx hKx
        have b20 := (b2.1 x hx hKx).1
        refine ⟨y1, fun i hi => ?_⟩
        have e5 : (5 * x + i / 4) / 5 = x := by omega
        rw [g3 (5 * x + i / 4) (i % 4) (by omega) ⟨by rw [e5]; exact hKx, by rw [e5]; omega⟩ (by rw [e5]; exact cx) (Nat.mod_lt _ (by decide))]
        exact y2 i hi
      · have z1 : zc (fun k => E k = nI n) 150 - 1 = 0 := by rw [zt_hl] at cl; omega
        have z2 : oc n = 0 := by rw [o4 n hn hK0, zc_none (fun o ho q => cf ⟨o, ho, q⟩)]; rfl
        refine xd_takeOut (u2 := (fu', nk, lv, qa, qz, ec, pn, st, kb', ch, kw, upd K n 0, upd (upd lx d (nI (l' - 1))) n 0, bo, upd lk n (nI (zc (fun k => E k = nI n) 150 - 1)), oc, upd eN (6 * d + e) (eN (6 * d + (l' - 1))), upd eV (6 * d + e) (eV (6 * d + (l' - 1))), U, F, Ww, Q, os, ps, pc, pw, rd, wr, S, pr, P, Z, gx, R, L, D, bh, O)) hd hl el he hn hV em2 hm2 en2 hn2 elk (by omega) (fun post' h' => xd_freeFile hn (by rw [pk_us, z1]; rfl) z2 hK1 gX h') h
end
section
theorem zj_23 {B p z s a b : Nat} {w : Int32} {C : Nat → Int32} {ln bl dc : Nat → Nat} {ql : List Nat} {fu : Int64} {nk lv qa qz : Int32} {ec : Int64} {pn : Int32} {st kb ch kw K lx bo lk oc eN eV U F Ww Q os ps pc pw rd wr S pr P Z gx R L D bh O : Nat → Int32} {qn go : Int32} {ly wd E py gy A fl pp qy : Nat → Int32} (I : zz_I B p C ln bl dc ql fu nk lv qa qz pn st kb ch kw K lx bo lk oc eN eV U F Q os ps pc pw rd wr S pr P Z gx L D bh qn ly wd E py gy A fl pp qy) (hB : B + 1 < 1000000) (hp : p < 5) (hS : S p = 1) (hz : z ≤ 20) (eZ : Z p = nI z) (eP : P p = nI s) (hs : s < z) (hw : gy (20 * p + s) = w) (hD : zw_D w 23 a b) : ∃ (r : Int32) (u' : SX) (v' : SY), zz_Q (B + 1) p w r u' v' ∧ (∀ post : SX → Prop, post u' → wpX_execute post (fu, nk, lv, qa, qz, ec + 1, pn, st, kb, ch, kw, K, lx, bo, lk, oc, eN, eV, U, F, Ww, Q, os, ps, pc, pw, rd, wr, S, pr, P, Z, gx, R, L, D, bh, O) (nI p) w) ∧ ∀ post : Int32 → SY → Prop, post r v' → wpY_execute post (qn, ec, pn, go, K, ly, wd, E, U, S, py, P, Z, gy, R, A, L, F, Ww, Q, fl, pp, qy, O) (nI p) := by
  have I1 := zi_P (x := P p + 1) I (by rw [hS]; decide)
  obtain ⟨⟨t1, t2, t3, t4, t5, t6, t7⟩, _, ⟨o1, _⟩, _⟩ := id I
  obtain ⟨d, hd, eL, hKd⟩ := t5 p hp (Or.inl hS)
  obtain ⟨r, hr⟩ := zn_ex E d (R (4 * p + a))
  obtain ⟨l, hl, el, hDD⟩ := t6 d hd hKd
  have ha4 := hD.2.2.2.2.1
  have eia : 4 * nI p + nI a = nI (4 * p + a) := by rw [zi_m4, nI_add]
  obtain ⟨r0, h0, hXe⟩ := xr_entry (fu := fu) (nk := nk) (lv := lv) (qa := qa) (qz := qz) (ec := ec + 1) (pn := pn) (st := st) (kb := kb) (ch := ch) (kw := kw) (K := K) (lx := lx) (bo := bo) (lk := lk) (oc := oc) (eN := eN) (eV := eV) (U := U) (F := F) (Ww := Ww) (Q := Q) (os := os) (ps := ps) (pc := pc) (pw := pw) (rd := rd) (wr := wr) (S := S) (pr := pr) (P := upd P p (P p + 1)) (Z := Z) (gx := gx) (R := R) (L := L) (D := D) (bh := bh) (O := O) (nm := R (4 * p + a)) hd hl el hDD
  rcases h0 with ⟨e0, hno⟩ | ⟨e, m, he, hm, em, er0, eN0, eV0, eE⟩
  · have er : r = -1 := by
      rcases hr with ⟨m, hm, em, q⟩ | ⟨_, q⟩
      · rw [q, hno m hm em]
      · exact q
    subst er
    refine ⟨1, (fu, nk, lv, qa, qz, ec + 1, pn, st, kb, ch, kw, K, lx, bo, lk, oc, eN, eV, U, F, Ww, Q, os, ps, pc, pw, rd, wr, S, pr, upd P p (P p + 1), Z, gx, upd R (4 * p + 3) (-1), L, D, bh, O), (qn, ec + 1, pn, 1, K, ly, wd, E, U, S, py, upd P p (P p + 1), Z, gy, upd R (4 * p + 3) (-1), A, L, F, Ww, Q, fl, pp, qy, O), zz_Qmk (zi_B I1 hB) (Or.inl ⟨rfl, hS, by rw [hD.1]; decide⟩),
      fun post h => xe_23 (g := 0) hp hD (fun post' h' => ?_) (fun _ => h) (fun z => absurd rfl z),
      fun post h => ye_c23 hp hz eZ eP hs hw hD (fun post' h' => yc_23 (fun post' h' => ?_) h') rfl h⟩
    · unfold wpX_remove
      refine xr_isName (fun hz => br_f (by decide) ⟨vp_in_nI hp (by decide), ?_⟩) (fun hz => br_t rfl (br_f (by decide) h'))
      rw [zcl (f := L) (by omega), eL]
      refine hXe _ ?_
      rw [e0]
      exact br_f (by decide) h'
    · refine ⟨by rw [eia]; exact vp_in_nI (by omega) (by decide), ?_⟩
      rw [eia, zcl (f := R) (by omega), zcl (f := L) (by omega), eL]
      exact nm_e ⟨vp_in_nI hp (by decide), yr_named hd hr (br_t (by decide) (yo_fail hp h'))⟩
  · obtain ⟨n, n1, hn, eEn, hK0⟩ : ∃ n, 1 ≤ n ∧ n < 10 ∧ E (15 * d + m) = nI n ∧ K n ≠ 0 := by
      rcases t3 (15 * d + m) (by omega) with q | ⟨x, x1, hx, q, hK, _⟩
      · exact absurd q eE
      · exact ⟨x, x1, hx, q, hK⟩
    have er : r = nI n := by
      rcases hr with ⟨m', hm', em', q⟩ | ⟨q, _⟩
      · have := zi_inj (by omega) (by omega) (em.symm.trans em')
        subst this; exact q.trans eEn
      · exact absurd ⟨m, hm, em⟩ q
    subst er
    have eV1 : eV (6 * d + e) = nI n := eV0.trans eEn
    -- down to the entry
    have hXp : ∀ post' : Int32 → SX → Prop, wX_remove_23 post' (nI p) (nI (6 * d + e)) fu nk lv qa qz (ec + 1) pn st kb ch kw K lx bo lk oc eN eV U F Ww Q os ps pc pw rd wr S pr (upd P p (P p + 1)) Z gx R L D bh O → wpX_remove post' (fu, nk, lv, qa, qz, ec + 1, pn, st, kb, ch, kw, K, lx, bo, lk, oc, eN, eV, U, F, Ww, Q, os, ps, pc, pw, rd, wr, S, pr, upd P p (P p + 1), Z, gx, R, L, D, bh, O) (nI p) (R (4 * p + a)) := by
      intro post' h'
      unfold wpX_remove
      refine xr_isName (fun hz => br_f (by decide) ⟨vp_in_nI hp (by decide), ?_⟩) (fun hz => absurd ⟨m, hm, em⟩ hz)
      rw [zcl (f := L) (by omega), eL]
      refine hXe _ ?_
      rw [er0]
      exact h'
    have hYp : ∀ post' : SY → Prop, ((K n = 2 → wpY_entriesOf (fun r_114 => (((0 < r_114 → (wY_remove_58 post' (nI p) qn (ec + 1) pn 1 K ly wd E U S py P Z gy R A L F Ww Q fl pp qy O)) ∧ (¬ 0 < r_114 → (wpY_isPlace (fun r_140 => (((r_140 = 0 → (wY_remove_64 post' (nI p) (R (4 * p + a)) (nI n) qn (ec + 1) pn 1 K ly wd E U S py P Z gy R A L F Ww Q fl pp qy O)) ∧ (¬ r_140 = 0 → (wY_remove_58 post' (nI p) qn (ec + 1) pn 1 K ly wd E U S py P Z gy R A L F Ww Q fl pp qy O))))) (qn, ec + 1, pn, 1, K, ly, wd, E, U, S, py, P, Z, gy, R, A, L, F, Ww, Q, fl, pp, qy, O) (nI n)))))) (qn, ec + 1, pn, 1, K, ly, wd, E, U, S, py, P, Z, gy, R, A, L, F, Ww, Q, fl, pp, qy, O) (nI n)) ∧ (¬ K n = 2 → wY_remove_64 post' (nI p) (R (4 * p + a)) (nI n) qn (ec + 1) pn 1 K ly wd E U S py P Z gy R A L F Ww Q fl pp qy O)) → wpY_remove post' (qn, ec + 1, pn, 1, K, ly, wd, E, U, S, py, P, Z, gy, R, A, L, F, Ww, Q, fl, pp, qy, O) (nI p) (nI a) := by
      intro post' h'
      refine ⟨by rw [eia]; exact vp_in_nI (by omega) (by decide), ?_⟩
      rw [eia, zcl (f := R) (by omega), zcl (f := L) (by omega), eL]
      refine nm_e ⟨vp_in_nI hp (by decide), yr_named hd hr (br_f (nI_pos (by omega)) ⟨vp_in_nI hn (by decide), ?_⟩)⟩
      rw [zcl (f := K) (by omega)]
      exact h'
    by_cases hbad : K n = 2 ∧ ((∃ m', m' < 15 ∧ E (15 * n + m') ≠ -1) ∨ ∃ q, q < 5 ∧ (S q = 1 ∨ S q = 2) ∧ L q = nI n)
    · obtain ⟨hK2, hbad⟩ := hbad
      obtain ⟨l2, hl2, el2, hD2⟩ := t6 n hn hK2
      have ecnt := hD2.2.2.2
      refine ⟨1, (fu, nk, lv, qa, qz, ec + 1, pn, st, kb, ch, kw, K, lx, bo, lk, oc, eN, eV, U, F, Ww, Q, os, ps, pc, pw, rd, wr, S, pr, upd P p (P p + 1), Z, gx, upd R (4 * p + 3) (-1), L, D, bh, O), (qn, ec + 1, pn, 1, K, ly, wd, E, U, S, py, upd P p (P p + 1), Z, gy, upd R (4 * p + 3) (-1), A, L, F, Ww, Q, fl, pp, qy, O), zz_Qmk (zi_B I1 hB) (Or.inl ⟨rfl, hS, by rw [hD.1]; decide⟩),
        fun post h => xe_23 (g := 0) hp hD (fun post' h' => hXp post' ?_) (fun _ => h) (fun z => absurd rfl z),
        fun post h => ye_c23 hp hz eZ eP hs hw hD (fun post' h' => yc_23 (fun post' h' => hYp post' ?_) h') rfl h⟩
      · unfold wX_remove_23
        rw [zcl (f := eV) (by omega), eV1]
        refine br_t (nI_pos' (by omega)) ⟨vp_in_nI (by omega) (by decide), nm_e ⟨vp_in_nI hn (by decide), ?_⟩⟩
        rw [zcl (f := K) (by omega), zcl (f := lx) (by omega), el2]
        refine br_t hK2 ⟨vp_in_nI hn (by decide), ?_⟩
        by_cases c : 0 < l2
        · exact br_t (nI_lt (a := 0) c (by omega)) h'
        · refine br_f (nI_nlt (a := 0) (by omega) (by decide)) (xr_isPlace (fun _ => br_f (by decide) h') (fun q => ?_))
          rcases hbad with ⟨m', hm', y⟩ | ⟨x, hx, y⟩
          · have := zc_pos (p := fun m => E (15 * n + m) ≠ -1) hm' y
            omega
          · exact absurd y (q x hx)
      · refine br_t hK2 (yr_entriesOf hn t3 ?_)
        rw [ecnt]
        by_cases c : 0 < l2
        · exact br_t (nI_lt (a := 0) c (by omega)) (yo_fail hp h')
        · refine br_f (nI_nlt (a := 0) (by omega) (by decide)) (yr_isPlace (fun _ => br_f (by decide) (yo_fail hp h')) (fun q => ?_))
          rcases hbad with ⟨m', hm', y⟩ | ⟨x, hx, y⟩
          · have := zc_pos (p := fun m => E (15 * n + m) ≠ -1) hm' y
            omega
          · exact absurd y (q x hx)
    · have hdir : K n = 2 → (∀ m', m' < 15 → E (15 * n + m') = -1) ∧ ∀ p, p < 5 → (S p = 1 ∨ S p = 2) → L p ≠ nI n := by
        intro hK2
        refine ⟨fun m' hm' => Classical.byContradiction fun y => hbad ⟨hK2, Or.inl ⟨m', hm', y⟩⟩, fun q hq hal y => hbad ⟨hK2, Or.inr ⟨q, hq, hal, y⟩⟩⟩
      obtain ⟨fu', kb', K', lx', lk', eN', eV', C', ln', I', eK', hK3, hXt⟩ := zi_rem (ec := ec + 1) (R := R) (O := O) (Ww := Ww) (go := go) I1 hd hKd hl el hm n1 hn eEn he eN0 eV1 hdir hK0
      have hK00 : (if K n = 2 then upd K n 0 else K) 0 = 2 := by
        by_cases c : K n = 2
        · rw [if_pos c, pk_un (by omega)]; exact t1.2
        · rw [if_neg c]; exact t1.2
      refine ⟨1, (fu', nk, lv, qa, qz, ec + 1, pn, st, kb', ch, kw, K', lx', bo, lk', oc, eN', eV', U, F, Ww, Q, os, ps, pc, pw, rd, wr, S, pr, upd P p (P p + 1), Z, gx, upd R (4 * p + 3) 1, L, D, bh, O), (qn, ec + 1, pn, 1, K', ly, wd, upd E (15 * d + m) (-1), U, S, py, upd P p (P p + 1), Z, gy, upd R (4 * p + 3) 1, A, L, F, Ww, Q, fl, pp, qy, O), zz_Qmk (zi_B I' hB) (Or.inl ⟨rfl, hS, by rw [hD.1]; decide⟩),
        fun post h => xe_23 (g := 1) hp hD (fun post' h' => hXp post' ?_) (fun z => absurd z (by decide)) (fun _ => h),
        fun post h => ye_c23 hp hz eZ eP hs hw hD (fun post' h' => yc_23 (fun post' h' => hYp post' ?_) h') rfl h⟩
      · have h70 : wX_remove_70 post' (nI p) (nI (6 * d + e)) fu nk lv qa qz (ec + 1) pn st kb ch kw K lx bo lk oc eN eV U F Ww Q os ps pc pw rd wr S pr (upd P p (P p + 1)) Z gx R L D bh O := by
          unfold wX_remove_70
          rw [zcl (f := L) (by omega), eL]
          exact ⟨vp_in_nI hp (by decide), hXt _ h'⟩
        unfold wX_remove_23
        rw [zcl (f := eV) (by omega), eV1]
        refine br_t (nI_pos' (by omega)) ⟨vp_in_nI (by omega) (by decide), nm_e ⟨vp_in_nI hn (by decide), ?_⟩⟩
        rw [zcl (f := K) (by omega), zcl (f := lx) (by omega)]
        by_cases c2 : K n = 2
        · obtain ⟨l2, hl2, el2, hD2⟩ := t6 n hn c2
          have ecnt := hD2.2.2.2
          rw [zc_none (fun m' hm' y => y ((hdir c2).1 m' hm'))] at ecnt
          rw [el2, ← ecnt]
          exact br_t c2 ⟨vp_in_nI hn (by decide), br_f (by decide) (xr_isPlace (fun ⟨x, hx, y1, y2⟩ => absurd y2 ((hdir c2).2 x hx y1)) (fun _ => br_t rfl h70))⟩
        · exact br_f c2 h70
      · have h64 : wY_remove_64 post' (nI p) (R (4 * p + a)) (nI n) qn (ec + 1) pn 1 K ly wd E U S py P Z gy R A L F Ww Q fl pp qy O := by
          unfold wY_remove_64
          rw [zcl (f := L) (by omega), eL, em, zi_m15, nI_add, nI_clamp (n := 15 * d + m) (by omega), zcl (f := K) (by omega), nI_clamp (n := n) (by omega)]
          refine ⟨vp_in_nI hp (by decide), vp_in_nI (by omega) (by decide), nm_e ⟨vp_in_nI hn (by decide), ?_⟩⟩
          by_cases c2 : K n = 2
          · rw [if_pos c2] at eK' hK3 hK00
            refine br_t c2 ⟨vp_in_nI hn (by decide), nm_e (yo_clean o1 hK3 hK00 (yo_done hp ?_))⟩
            rw [← eK']
            exact h'
          · rw [if_neg c2] at eK' hK3 hK00
            refine br_f c2 (yo_clean o1 hK3 hK00 (yo_done hp ?_))
            rw [← eK']
            exact h'
        refine ⟨fun c2 => yr_entriesOf hn t3 ?_, fun _ => h64⟩
        rw [zc_none (fun m' hm' y => y ((hdir c2).1 m' hm'))]
        exact br_f (by decide) (yr_isPlace (fun ⟨x, hx, y1, y2⟩ => absurd y2 ((hdir c2).2 x hx y1)) (fun _ => br_t rfl h64))
end
section
/-! closing, copying, seeking, on both sides -/
theorem za_12 {dc : Nat → Nat} {D A : Nat → Int32} {p c : Nat} {x : Int32} (H : zr_OD dc D A) (hp : p < 5) (h : za_c dc p x c) : c ≤ 12 := by
  rcases h with ⟨j, hj, _, e⟩ | ⟨_, e⟩
  · rw [e]; exact (H _ (by omega)).1
  · omega
theorem zx_nz {c : Nat} (h : c ≤ 12) (h0 : c ≠ 0) : ¬ nI (zxn c) = 0 := fun e => h0 (zx_inj c h 0 (by omega) (zi_inj (b := 0) (by have := zx_le h; omega) (by decide) e))
theorem zy_nz {c : Nat} (h : c ≤ 12) (h0 : c ≠ 0) : ¬ nI (zyn c) = 0 := fun e => h0 (zy_inj c h 0 (by omega) (zi_inj (b := 0) (by have := zy_le h; omega) (by decide) e))
theorem zo_D0 {dc : Nat → Nat} {D A : Nat → Int32} (H : zr_OD dc D A) {k : Nat} (hk : k < 20) : (D k = 0 ↔ dc k = 0) ∧ (A k = 0 ↔ dc k = 0) := by
  obtain ⟨h, e1, e2⟩ := H k hk
  refine ⟨⟨fun z => Classical.byContradiction fun q => zx_nz h q (e1.symm.trans z), fun z => by rw [e1, z]; rfl⟩, ⟨fun z => Classical.byContradiction fun q => zy_nz h q (e2.symm.trans z), fun z => by rw [e2, z]; rfl⟩⟩
theorem zj_14 {B p z s a b : Nat} {w : Int32} {C : Nat → Int32} {ln bl dc : Nat → Nat} {ql : List Nat} {fu : Int64} {nk lv qa qz : Int32} {ec : Int64} {pn : Int32} {st kb ch kw K lx bo lk oc eN eV U F Ww Q os ps pc pw rd wr S pr P Z gx R L D bh O : Nat → Int32} {qn go : Int32} {ly wd E py gy A fl pp qy : Nat → Int32} (I : zz_I B p C ln bl dc ql fu nk lv qa qz pn st kb ch kw K lx bo lk oc eN eV U F Q os ps pc pw rd wr S pr P Z gx L D bh qn ly wd E py gy A fl pp qy) (hB : B + 1 < 1000000) (hp : p < 5) (hS : S p = 1) (hz : z ≤ 20) (eZ : Z p = nI z) (eP : P p = nI s) (hs : s < z) (hw : gy (20 * p + s) = w) (hD : zw_D w 14 a b) : ∃ (r : Int32) (u' : SX) (v' : SY), zz_Q (B + 1) p w r u' v' ∧ (∀ post : SX → Prop, post u' → wpX_execute post (fu, nk, lv, qa, qz, ec + 1, pn, st, kb, ch, kw, K, lx, bo, lk, oc, eN, eV, U, F, Ww, Q, os, ps, pc, pw, rd, wr, S, pr, P, Z, gx, R, L, D, bh, O) (nI p) w) ∧ ∀ post : Int32 → SY → Prop, post r v' → wpY_execute post (qn, ec, pn, go, K, ly, wd, E, U, S, py, P, Z, gy, R, A, L, F, Ww, Q, fl, pp, qy, O) (nI p) := by
  have I1 := zi_P (x := P p + 1) I (by rw [hS]; decide)
  obtain ⟨i1, i2, i3, i4, i5, i6⟩ := id I1
  have od := i3.1
  have hb4 := hD.2.2.2.2.2
  have eib : 4 * nI p + nI b = nI (4 * p + b) := by rw [zi_m4, nI_add]
  obtain ⟨c, hc⟩ := za_ex dc p (R (4 * p + b))
  have hc12 := za_12 od hp hc
  by_cases c0 : c = 0
  · subst c0
    refine ⟨1, (fu, nk, lv, qa, qz, ec + 1, pn, st, kb, ch, kw, K, lx, bo, lk, oc, eN, eV, U, F, Ww, Q, os, ps, pc, pw, rd, wr, S, pr, upd P p (P p + 1), Z, gx, upd R (4 * p + 3) (-1), L, D, bh, O), (qn, ec + 1, pn, 1, K, ly, wd, E, U, S, py, upd P p (P p + 1), Z, gy, upd R (4 * p + 3) (-1), A, L, F, Ww, Q, fl, pp, qy, O), zz_Qmk (zi_B I1 hB) (Or.inl ⟨rfl, hS, by rw [hD.1]; decide⟩),
      fun post h => xe_14 (g := 0) hp hD (fun post' h' => ?_) (fun _ => h) (fun z => absurd rfl z),
      fun post h => ye_c14 hp hz eZ eP hs hw hD (fun post' h' => yc_14 (fun post' h' => ?_) h') rfl h⟩
    · unfold wpX_close
      exact xr_endAt hp od hc (br_t rfl h')
    · unfold wpY_close
      exact yr_endOf hp hb4 od hc (br_t rfl (yo_fail hp h'))
  · obtain ⟨j, hj, ej, ec'⟩ : ∃ j, j < 4 ∧ R (4 * p + b) = nI j ∧ c = dc (4 * p + j) := by
      rcases hc with q | ⟨_, q⟩
      · exact q
      · exact absurd q c0
    have eij : 4 * nI p + nI j = nI (4 * p + j) := by rw [zi_m4, nI_add]
    obtain ⟨fu', kb', C', ln', lx', oc', os', rd', wr', pc', T', B', O', P', hX⟩ := xo_closeEnd (fu := fu) (nk := nk) (lv := lv) (qa := qa) (qz := qz) (ec := ec + 1) (pn := pn) (st := st) (kb := kb) (ch := ch) (kw := kw) (K := K) (lx := lx) (bo := bo) (lk := lk) (oc := oc) (eN := eN) (eV := eV) (U := U) (F := F) (Ww := Ww) (Q := Q) (os := os) (ps := ps) (pc := pc) (pw := pw) (rd := rd) (wr := wr) (S := S) (pr := pr) (P := upd P p (P p + 1)) (Z := Z) (gx := gx) (R := R) (L := L) (D := D) (bh := bh) (O := O) (d := j) i1 i2 i3 i4 hp hj
    refine ⟨1, (fu', nk, lv, qa, qz, ec + 1, pn, st, kb', ch, kw, zk_c (zu dc (4 * p + j) 0) E F K, lx', bo, lk, oc', eN, eV, U, F, Ww, Q, os', ps, pc', pw, rd', wr', S, pr, upd P p (P p + 1), Z, gx, upd R (4 * p + 3) 1, L, upd D (4 * p + j) 0, bh, O), (qn, ec + 1, pn, 1, zk_c (zu dc (4 * p + j) 0) E F K, ly, wd, E, U, S, py, upd P p (P p + 1), Z, gy, upd R (4 * p + 3) 1, upd A (4 * p + j) 0, L, F, Ww, Q, fl, pp, qy, O), zz_Qmk (zi_B ⟨T', B', O', P', i5, i6⟩ hB) (Or.inl ⟨rfl, hS, by rw [hD.1]; decide⟩),
      fun post h => xe_14 (g := 1) hp hD (fun post' h' => ?_) (fun z => absurd z (by decide)) (fun _ => h),
      fun post h => ye_c14 hp hz eZ eP hs hw hD (fun post' h' => yc_14 (fun post' h' => ?_) h') rfl h⟩
    · unfold wpX_close
      refine xr_endAt hp od hc (br_f (zx_nz hc12 c0) ?_)
      rw [ej]
      exact hX _ h'
    · unfold wpY_close
      refine yr_endOf hp hb4 od hc (br_f (zy_nz hc12 c0) ?_)
      rw [eib, zcl (f := R) (by omega), ej, eij, nI_clamp (n := 4 * p + j) (by omega)]
      exact ⟨vp_in_nI (by omega) (by decide), vp_in_nI (by omega) (by decide), nm_e (yo_clean O'.1 i1.2.2.1 i1.1.2 (yo_done hp h'))⟩
section
variable {B cur : Nat} {C : Nat → Int32} {ln bl dc : Nat → Nat} {ql : List Nat} {fu : Int64} {nk lv qa qz : Int32} {ec : Int64} {pn : Int32} {st kb ch kw K lx bo lk oc eN eV U F Ww Q os ps pc pw rd wr S pr P Z gx R L D bh O : Nat → Int32} {qn go : Int32} {ly wd E py gy A fl pp qy : Nat → Int32}
/-- a further descriptor of what is held already -/
theorem zi_dup {q i c : Nat} {os' rd' wr' : Nat → Int32} (I : zz_I B cur C ln bl dc ql fu nk lv qa qz pn st kb ch kw K lx bo lk oc eN eV U F Q os ps pc pw rd wr S pr P Z gx L D bh qn ly wd E py gy A fl pp qy) (hq : q < 5) (hi : i < 4) (hal : S q = 1 ∨ S q = 2) (h0 : dc (4 * q + i) = 0) (hc : c ≤ 12) (hh : c ≠ 0 → zh_o dc c) (HS : zr_OS (zu dc (4 * q + i) c) os' rd' wr') :
    zz_I B cur C ln bl (zu dc (4 * q + i) c) ql fu nk lv qa qz pn st kb ch kw K lx bo lk oc eN eV U F Q os' ps pc pw rd' wr' S pr P Z gx L (upd D (4 * q + i) (nI (zxn c))) bh qn ly wd E py gy (upd A (4 * q + i) (nI (zyn c))) fl pp qy := by
  obtain ⟨i1, i2, ⟨o1, o2, o3, o4, o5, o6⟩, i4, i5, i6⟩ := I
  have key : ∀ x, x ≠ 0 → (zh_o (zu dc (4 * q + i) c) x ↔ zh_o dc x) := by
    intro x hx
    rw [zo_h1 (by omega) hx h0]
    exact ⟨fun z => z.elim id (fun e => by rw [← e]; exact hh (fun y => hx (by omega))), Or.inl⟩
  refine ⟨i1, i2, ⟨zo_OD o1 hc, HS, zo_OF o3 (fun o ho => (key _ (by omega)).mp), zo_OC o4 (fun o ho => key _ (by omega)), zo_NZ o5 (fun o ho => (key _ (by omega)).mpr), zo_DD o6 hal hi⟩, zp_mono i4 (fun j hj z => ⟨?_, rfl⟩), i5, i6⟩
  rw [key _ (by omega), key _ (by omega)] at z
  exact z
end
theorem zj_18 {B p z s a b : Nat} {w : Int32} {C : Nat → Int32} {ln bl dc : Nat → Nat} {ql : List Nat} {fu : Int64} {nk lv qa qz : Int32} {ec : Int64} {pn : Int32} {st kb ch kw K lx bo lk oc eN eV U F Ww Q os ps pc pw rd wr S pr P Z gx R L D bh O : Nat → Int32} {qn go : Int32} {ly wd E py gy A fl pp qy : Nat → Int32} (I : zz_I B p C ln bl dc ql fu nk lv qa qz pn st kb ch kw K lx bo lk oc eN eV U F Q os ps pc pw rd wr S pr P Z gx L D bh qn ly wd E py gy A fl pp qy) (hB : B + 1 < 1000000) (hp : p < 5) (hS : S p = 1) (hz : z ≤ 20) (eZ : Z p = nI z) (eP : P p = nI s) (hs : s < z) (hw : gy (20 * p + s) = w) (hD : zw_D w 18 a b) : ∃ (r : Int32) (u' : SX) (v' : SY), zz_Q (B + 1) p w r u' v' ∧ (∀ post : SX → Prop, post u' → wpX_execute post (fu, nk, lv, qa, qz, ec + 1, pn, st, kb, ch, kw, K, lx, bo, lk, oc, eN, eV, U, F, Ww, Q, os, ps, pc, pw, rd, wr, S, pr, P, Z, gx, R, L, D, bh, O) (nI p) w) ∧ ∀ post : Int32 → SY → Prop, post r v' → wpY_execute post (qn, ec, pn, go, K, ly, wd, E, U, S, py, P, Z, gy, R, A, L, F, Ww, Q, fl, pp, qy, O) (nI p) := by
  have I1 := zi_P (x := P p + 1) I (by rw [hS]; decide)
  obtain ⟨i1, i2, i3, i4, i5, i6⟩ := id I1
  have od := i3.1
  have ha4 := hD.2.2.2.2.1
  have hb4 := hD.2.2.2.2.2
  have eia : 4 * nI p + nI a = nI (4 * p + a) := by rw [zi_m4, nI_add]
  obtain ⟨c, hc⟩ := za_ex dc p (R (4 * p + b))
  have hc12 := za_12 od hp hc
  obtain ⟨r, hr⟩ := zf_ex (fun d => 0 ≤ d ∧ dc (4 * p + d) = 0) 4
  have hrX : zf_F (fun d => 0 ≤ d ∧ D (4 * p + d) = 0) 4 r := zf_cg (fun i hi => by rw [(zo_D0 od (show 4 * p + i < 20 by omega)).1]) hr
  have hrY : zf_F (fun d => 0 ≤ d ∧ A (4 * p + d) = 0) 4 r := zf_cg (fun i hi => by rw [(zo_D0 od (show 4 * p + i < 20 by omega)).2]) hr
  by_cases hok : c ≠ 0 ∧ 0 ≤ r
  · obtain ⟨c0, hr0⟩ := hok
    have hr' := hr
    rcases hr' with ⟨e, _⟩ | ⟨d, hd, er, ⟨_, hd0⟩, _⟩
    · rw [e] at hr0; exact absurd hr0 (by decide)
    subst er
    have eid : 4 * nI p + nI d = nI (4 * p + d) := by rw [zi_m4, nI_add]
    have hh : zh_o dc c := by
      rcases hc with ⟨j, hj, _, q⟩ | ⟨_, q⟩
      · exact ⟨4 * p + j, by omega, q.symm⟩
      · exact absurd q c0
    obtain ⟨os', rd', wr', HS', hX⟩ := xo_cntU (fu := fu) (nk := nk) (lv := lv) (qa := qa) (qz := qz) (ec := ec + 1) (pn := pn) (st := st) (kb := kb) (ch := ch) (kw := kw) (K := K) (lx := lx) (bo := bo) (lk := lk) (oc := oc) (eN := eN) (eV := eV) (U := U) (F := F) (Ww := Ww) (Q := Q) (os := os) (ps := ps) (pc := pc) (pw := pw) (rd := rd) (wr := wr) (S := S) (pr := pr) (P := upd P p (P p + 1)) (Z := Z) (gx := gx) (R := R) (L := L) (D := upd D (4 * p + d) (nI (zxn c))) (bh := bh) (O := O) (k0 := 4 * p + d) (c := c) i3.2.1 (by omega) hd0 hc12
    refine ⟨1, (fu, nk, lv, qa, qz, ec + 1, pn, st, kb, ch, kw, K, lx, bo, lk, oc, eN, eV, U, F, Ww, Q, os', ps, pc, pw, rd', wr', S, pr, upd P p (P p + 1), Z, gx, upd R (4 * p + a) (nI d), L, upd D (4 * p + d) (nI (zxn c)), bh, O), (qn, ec + 1, pn, 1, K, ly, wd, E, U, S, py, upd P p (P p + 1), Z, gy, upd R (4 * p + a) (nI d), upd A (4 * p + d) (nI (zyn c)), L, F, Ww, Q, fl, pp, qy, O), zz_Qmk (zi_B (zi_dup I1 hp hd (Or.inl hS) hd0 hc12 (fun _ => hh) HS') hB) (Or.inl ⟨rfl, hS, by rw [hD.1]; decide⟩),
      fun post h => xe_18 (g := 1) hp hD (fun post' h' => ?_) (fun z => absurd z (by decide)) (fun _ => h),
      fun post h => ye_c18 hp hz eZ eP hs hw hD (fun post' h' => yc_18 (fun post' h' => ?_) h') rfl h⟩
    · unfold wpX_copyEnd
      refine xr_endAt hp od hc (xr_emptyDescriptor (a := 0) hp (by decide) hrX (br_f (zx_nz hc12 c0) (br_t (nI_pos' (by omega)) ?_)))
      rw [eid, nI_clamp (n := 4 * p + d) (by omega), zb_nar8 (by have := zx_le hc12; omega), eia, nI_clamp (n := 4 * p + a) (by omega)]
      exact ⟨vp_in_nI (by omega) (by decide), nm_e (hX _ ⟨vp_in_nI (by omega) (by decide), nm_e h'⟩)⟩
    · unfold wpY_copy
      refine yr_endOf hp hb4 od hc (yr_newDescriptor (a := 0) hp (by decide) hrY (br_f (zy_nz hc12 c0) (br_t (nI_pos' (by omega)) ?_)))
      rw [eid, nI_clamp (n := 4 * p + d) (by omega), eia, nI_clamp (n := 4 * p + a) (by omega)]
      exact ⟨vp_in_nI (by omega) (by decide), nm_e ⟨vp_in_nI (by omega) (by decide), nm_e h'⟩⟩
  · refine ⟨1, (fu, nk, lv, qa, qz, ec + 1, pn, st, kb, ch, kw, K, lx, bo, lk, oc, eN, eV, U, F, Ww, Q, os, ps, pc, pw, rd, wr, S, pr, upd P p (P p + 1), Z, gx, upd R (4 * p + 3) (-1), L, D, bh, O), (qn, ec + 1, pn, 1, K, ly, wd, E, U, S, py, upd P p (P p + 1), Z, gy, upd R (4 * p + 3) (-1), A, L, F, Ww, Q, fl, pp, qy, O), zz_Qmk (zi_B I1 hB) (Or.inl ⟨rfl, hS, by rw [hD.1]; decide⟩),
      fun post h => xe_18 (g := 0) hp hD (fun post' h' => ?_) (fun _ => h) (fun z => absurd rfl z),
      fun post h => ye_c18 hp hz eZ eP hs hw hD (fun post' h' => yc_18 (fun post' h' => ?_) h') rfl h⟩
    · unfold wpX_copyEnd
      refine xr_endAt hp od hc (xr_emptyDescriptor (a := 0) hp (by decide) hrX ?_)
      by_cases c0 : c = 0
      · subst c0; exact br_t rfl h'
      · exact br_f (zx_nz hc12 c0) (br_f (fun q => hok ⟨c0, q⟩) h')
    · unfold wpY_copy
      refine yr_endOf hp hb4 od hc (yr_newDescriptor (a := 0) hp (by decide) hrY ?_)
      by_cases c0 : c = 0
      · subst c0; exact br_t rfl (yo_fail hp h')
      · exact br_f (zy_nz hc12 c0) (br_f (fun q => hok ⟨c0, q⟩) (yo_fail hp h'))
theorem zy_op7 : ∀ o, o < 8 → (nI (1 + o) - 1) &&& 7 = nI o := by decide
theorem zj_19 {B p z s a b : Nat} {w : Int32} {C : Nat → Int32} {ln bl dc : Nat → Nat} {ql : List Nat} {fu : Int64} {nk lv qa qz : Int32} {ec : Int64} {pn : Int32} {st kb ch kw K lx bo lk oc eN eV U F Ww Q os ps pc pw rd wr S pr P Z gx R L D bh O : Nat → Int32} {qn go : Int32} {ly wd E py gy A fl pp qy : Nat → Int32} (I : zz_I B p C ln bl dc ql fu nk lv qa qz pn st kb ch kw K lx bo lk oc eN eV U F Q os ps pc pw rd wr S pr P Z gx L D bh qn ly wd E py gy A fl pp qy) (hB : B + 1 < 1000000) (hp : p < 5) (hS : S p = 1) (hz : z ≤ 20) (eZ : Z p = nI z) (eP : P p = nI s) (hs : s < z) (hw : gy (20 * p + s) = w) (hD : zw_D w 19 a b) : ∃ (r : Int32) (u' : SX) (v' : SY), zz_Q (B + 1) p w r u' v' ∧ (∀ post : SX → Prop, post u' → wpX_execute post (fu, nk, lv, qa, qz, ec + 1, pn, st, kb, ch, kw, K, lx, bo, lk, oc, eN, eV, U, F, Ww, Q, os, ps, pc, pw, rd, wr, S, pr, P, Z, gx, R, L, D, bh, O) (nI p) w) ∧ ∀ post : Int32 → SY → Prop, post r v' → wpY_execute post (qn, ec, pn, go, K, ly, wd, E, U, S, py, P, Z, gy, R, A, L, F, Ww, Q, fl, pp, qy, O) (nI p) := by
  have I1 := zi_P (x := P p + 1) I (by rw [hS]; decide)
  obtain ⟨i1, i2, i3, i4, i5, i6⟩ := id I1
  have od := i3.1
  have ha4 := hD.2.2.2.2.1
  have hb4 := hD.2.2.2.2.2
  have eia : 4 * nI p + nI a = nI (4 * p + a) := by rw [zi_m4, nI_add]
  obtain ⟨c, hc⟩ := za_ex dc p (R (4 * p + b))
  have hc12 := za_12 od hp hc
  have zb := zy_le hc12
  by_cases hop : ∃ o, o < 8 ∧ c = 1 + o
  · obtain ⟨o, ho, e⟩ := hop
    subst e
    have hh : zh_o dc (1 + o) := by
      rcases hc with ⟨j, hj, _, q⟩ | ⟨_, q⟩
      · exact ⟨4 * p + j, by omega, q.symm⟩
      · omega
    obtain ⟨⟨n, n1, hn, eF, hK⟩, _⟩ := i3.2.2.1 o ho hh
    obtain ⟨hl, el⟩ := i2.2.1.1 n hn hK
    obtain ⟨ey, _⟩ := i2.2.2 n hn hK
    have hYp : ∀ post' : SY → Prop, (za_r (ln n + 1) (R (4 * p + a)) → post' (qn, ec + 1, pn, 1, K, ly, wd, E, U, S, py, P, Z, gy, upd R (4 * p + 3) 1, A, L, F, Ww, upd Q o (R (4 * p + a)), fl, pp, qy, O)) → (¬ za_r (ln n + 1) (R (4 * p + a)) → post' (qn, ec + 1, pn, 1, K, ly, wd, E, U, S, py, P, Z, gy, upd R (4 * p + 3) (-1), A, L, F, Ww, Q, fl, pp, qy, O)) → wpY_seek post' (qn, ec + 1, pn, 1, K, ly, wd, E, U, S, py, P, Z, gy, R, A, L, F, Ww, Q, fl, pp, qy, O) (nI p) (nI a) (nI b) := by
      intro post' h1 h0
      unfold wpY_seek
      refine yr_endOf hp hb4 od hc ⟨by rw [eia]; exact vp_in_nI (by omega) (by decide), ?_⟩
      rw [eia, zcl (f := R) (by omega), zy_o ho, zy_op7 o ho, zx_opn o ho, nI_clamp (n := o) (by omega), eF, zcl (f := ly) (by omega), ey]
      refine nm_e (yr_inN (v := 1 + o) (a := 1) (b := 8) (by omega) (by decide) (by decide) (fun _ _ => br_f (by decide) ⟨vp_in_nI ho (by decide), vp_in_nI hn (by decide), yr_in0 (h := ln n) (by omega) (fun q => br_f (by decide) ⟨vp_in_nI ho (by decide), nm_e (yo_done hp (h1 q))⟩) (fun q => br_t rfl (yo_fail hp (h0 q)))⟩) (fun q => absurd ⟨by omega, by omega⟩ q))
    have hXp : ∀ post' : Int32 → SX → Prop, (za_r (ln n + 1) (R (4 * p + a)) → ∀ k, k ≤ 20 → R (4 * p + a) = nI k → post' 1 (fu, nk, lv, qa, qz, ec + 1, pn, st, kb, ch, kw, K, lx, bo, lk, oc, eN, eV, U, F, Ww, upd Q o (R (4 * p + a)), os, ps, pc, pw, rd, wr, S, pr, upd P p (P p + 1), Z, gx, R, L, D, bh, O)) → (¬ za_r (ln n + 1) (R (4 * p + a)) → post' 0 (fu, nk, lv, qa, qz, ec + 1, pn, st, kb, ch, kw, K, lx, bo, lk, oc, eN, eV, U, F, Ww, Q, os, ps, pc, pw, rd, wr, S, pr, upd P p (P p + 1), Z, gx, R, L, D, bh, O)) → wpX_seek post' (fu, nk, lv, qa, qz, ec + 1, pn, st, kb, ch, kw, K, lx, bo, lk, oc, eN, eV, U, F, Ww, Q, os, ps, pc, pw, rd, wr, S, pr, upd P p (P p + 1), Z, gx, R, L, D, bh, O) (nI p) (R (4 * p + a)) (R (4 * p + b)) := by
      intro post' h1 h0
      unfold wpX_seek
      refine xr_endAt hp od hc (br_f (zx_nz hc12 (by omega)) ?_)
      rw [zx_o ho, zx_opn o ho, zcl (f := F) (by omega), eF, nI_clamp (n := o) (by omega)]
      refine br_t (nI_lt (b := 16) (by omega) (by decide)) ⟨vp_in_nI ho (by decide), nm_e ?_⟩
      rw [zcl (f := lx) (by omega), el]
      by_cases c1 : R (4 * p + a) < 0
      · exact br_t c1 (h0 (za_neg (by omega) c1))
      · refine br_f c1 ⟨vp_in_nI hn (by decide), ?_⟩
        obtain ⟨k, hk, ek⟩ := nI_of c1
        by_cases c2 : k ≤ ln n
        · have := h1 ⟨k, by omega, ek⟩ k (by omega) ek
          rw [ek] at this ⊢
          rw [zb_nar8 (by omega)]
          exact br_t (nI_le c2 (by omega)) ⟨vp_in_nI ho (by decide), nm_e this⟩
        · refine br_f (by rw [ek]; exact nI_ge (by omega) (by omega)) (h0 ?_)
          rintro ⟨k', hk', ek'⟩
          have := zi_inj (by omega) (by omega) (ek.symm.trans ek')
          omega
    rcases Classical.em (za_r (ln n + 1) (R (4 * p + a))) with hz1 | hz1
    · have I' : zz_I B p C ln bl dc ql fu nk lv qa qz pn st kb ch kw K lx bo lk oc eN eV U F (upd Q o (R (4 * p + a))) os ps pc pw rd wr S pr (upd P p (P p + 1)) Z gx L D bh qn ly wd E py gy A fl pp qy := by
        refine ⟨i1, i2, ⟨i3.1, i3.2.1, ?_, i3.2.2.2⟩, i4, i5, i6⟩
        intro o' ho' z'
        obtain ⟨q1, q2⟩ := i3.2.2.1 o' ho' z'
        refine ⟨q1, ?_⟩
        by_cases co : o' = o
        · subst co
          obtain ⟨k, hk, ek⟩ := hz1
          exact ⟨k, by omega, by rw [pk_us]; exact ek⟩
        · rw [pk_un co]; exact q2
      exact ⟨1, (fu, nk, lv, qa, qz, ec + 1, pn, st, kb, ch, kw, K, lx, bo, lk, oc, eN, eV, U, F, Ww, upd Q o (R (4 * p + a)), os, ps, pc, pw, rd, wr, S, pr, upd P p (P p + 1), Z, gx, upd R (4 * p + 3) 1, L, D, bh, O), (qn, ec + 1, pn, 1, K, ly, wd, E, U, S, py, upd P p (P p + 1), Z, gy, upd R (4 * p + 3) 1, A, L, F, Ww, upd Q o (R (4 * p + a)), fl, pp, qy, O), zz_Qmk (zi_B I' hB) (Or.inl ⟨rfl, hS, by rw [hD.1]; decide⟩),
        fun post h => xe_19 (g := 1) hp hD (fun post' h' => hXp post' (fun _ _ _ _ => h') (fun q => absurd hz1 q)) (fun z => absurd z (by decide)) (fun _ => h),
        fun post h => ye_c19 hp hz eZ eP hs hw hD (fun post' h' => yc_19 (fun post' h' => hYp post' (fun _ => h') (fun q => absurd hz1 q)) h') rfl h⟩
    · exact ⟨1, (fu, nk, lv, qa, qz, ec + 1, pn, st, kb, ch, kw, K, lx, bo, lk, oc, eN, eV, U, F, Ww, Q, os, ps, pc, pw, rd, wr, S, pr, upd P p (P p + 1), Z, gx, upd R (4 * p + 3) (-1), L, D, bh, O), (qn, ec + 1, pn, 1, K, ly, wd, E, U, S, py, upd P p (P p + 1), Z, gy, upd R (4 * p + 3) (-1), A, L, F, Ww, Q, fl, pp, qy, O), zz_Qmk (zi_B I1 hB) (Or.inl ⟨rfl, hS, by rw [hD.1]; decide⟩),
        fun post h => xe_19 (g := 0) hp hD (fun post' h' => hXp post' (fun q => absurd q hz1) (fun _ => h')) (fun _ => h) (fun z => absurd rfl z),
        fun post h => ye_c19 hp hz eZ eP hs hw hD (fun post' h' => yc_19 (fun post' h' => hYp post' (fun q => absurd q hz1) (fun _ => h')) h') rfl h⟩
  · refine ⟨1, (fu, nk, lv, qa, qz, ec + 1, pn, st, kb, ch, kw, K, lx, bo, lk, oc, eN, eV, U, F, Ww, Q, os, ps, pc, pw, rd, wr, S, pr, upd P p (P p + 1), Z, gx, upd R (4 * p + 3) (-1), L, D, bh, O), (qn, ec + 1, pn, 1, K, ly, wd, E, U, S, py, upd P p (P p + 1), Z, gy, upd R (4 * p + 3) (-1), A, L, F, Ww, Q, fl, pp, qy, O), zz_Qmk (zi_B I1 hB) (Or.inl ⟨rfl, hS, by rw [hD.1]; decide⟩),
      fun post h => xe_19 (g := 0) hp hD (fun post' h' => ?_) (fun _ => h) (fun z => absurd rfl z),
      fun post h => ye_c19 hp hz eZ eP hs hw hD (fun post' h' => yc_19 (fun post' h' => ?_) h') rfl h⟩
    · unfold wpX_seek
      refine xr_endAt hp od hc ?_
      rcases zx_cs hc12 with e | ⟨o, ho, e⟩ | ⟨j, hj, e⟩ | ⟨j, hj, e⟩
      · subst e; exact br_t rfl h'
      · exact absurd ⟨o, ho, e⟩ hop
      · refine br_f (zx_nz hc12 (by omega)) (br_f ?_ h')
        rw [e, zx_r hj]; exact nI_nlt (b := 16) (by omega) (by omega)
      · refine br_f (zx_nz hc12 (by omega)) (br_f ?_ h')
        rw [e, zx_w hj]; exact nI_nlt (b := 16) (by omega) (by omega)
    · unfold wpY_seek
      refine yr_endOf hp hb4 od hc ⟨by rw [eia]; exact vp_in_nI (by omega) (by decide), nm_e (yr_inN (v := zyn c) (a := 1) (b := 8) (by omega) (by decide) (by decide) (fun q1 q2 => ?_) (fun _ => br_t rfl (yo_fail hp h')))⟩
      rcases zx_cs hc12 with e | ⟨o, ho, e⟩ | ⟨j, hj, e⟩ | ⟨j, hj, e⟩
      · rw [e, zy_0] at q1; omega
      · exact absurd ⟨o, ho, e⟩ hop
      · rw [e, zy_r hj] at q2; omega
      · rw [e, zy_w hj] at q2; omega
end
section
/-! a new pipe, on both sides -/
section
variable {fu : Int64} {nk lv qa qz : Int32} {ec : Int64} {pn : Int32} {st kb ch kw K lx bo lk oc eN eV U F Ww Q os ps pc pw rd wr S pr P Z gx R L D bh O : Nat → Int32} {dc : Nat → Nat}
theorem xo_mp31 {post : Int32 → SX → Prop} {p a b : Nat} {x4 x5 rk : Int32} (HS : zr_OS dc os rd wr) (hk : zf_F (fun j => ¬ (zh_o dc (9 + j) ∨ zh_o dc (11 + j))) 2 rk)
    (h : ∀ k, (rk = -1 ∧ k = 2 ∨ rk = nI k ∧ k < 2) → wX_makePipe_52 post (nI p) (nI a) (nI b) x4 x5 (nI k) fu nk lv qa qz ec pn st kb ch kw K lx bo lk oc eN eV U F Ww Q os ps pc pw rd wr S pr P Z gx R L D bh O) : ∃ n, wX_makePipe_31 post (nI p) (nI a) (nI b) x4 x5 fu nk lv qa qz ec pn st kb ch kw K lx bo lk oc eN eV U F Ww Q os ps pc pw rd wr S pr P Z gx R L D bh O n 0 := by
  refine zf_scan (Wq := fun n i => wX_makePipe_31 post (nI p) (nI a) (nI b) x4 x5 fu nk lv qa qz ec pn st kb ch kw K lx bo lk oc eN eV U F Ww Q os ps pc pw rd wr S pr P Z gx R L D bh O n i) hk 0 (by decide) (fun j hj => absurd hj (by omega)) ?_ ?_ ?_
  · intro e n; exact br_t (nI_le (a := 2) (b := 2) (by decide) (by decide)) (h 2 (Or.inl ⟨e, rfl⟩))
  · intro n i _ hi hh e
    exact br_f (nI_ge (b := 2) hi (by decide)) (xr_isThere hi HS (fun z => absurd z hh) (fun _ _ => br_t rfl (h i (Or.inr ⟨e, hi⟩))))
  · intro n i _ hi hh k
    exact br_f (nI_ge (b := 2) hi (by decide)) (xr_isThere hi HS (fun _ => br_f (by decide) (nm_r (nI_1 i) k)) (fun z1 z2 => absurd (fun z => z.elim z1 z2) hh))
end
section
variable {qn : Int32} {ec : Int64} {pn go : Int32} {K ly wd E U S py Py Z gy R A L F Ww Q fl pp qy O : Nat → Int32} {dc : Nat → Nat}
theorem yo_pn26 {post : SY → Prop} {p a b : Nat} {x4 x5 rk : Int32} {D : Nat → Int32} (HD : zr_OD dc D A) (hk : zf_F (fun j => ¬ (zh_o dc (9 + j) ∨ zh_o dc (11 + j))) 2 rk)
    (h : wY_pipeNew_75 post (nI p) (nI a) (nI b) x4 x5 rk qn ec pn go K ly wd E U S py Py Z gy R A L F Ww Q fl pp qy O) : wY_pipeNew_26 post (nI p) (nI a) (nI b) x4 x5 qn ec pn go K ly wd E U S py Py Z gy R A L F Ww Q fl pp qy O := by
  have h51 : (zh_o dc (9 + 0) ∨ zh_o dc (11 + 0)) → wY_pipeNew_51 post (nI p) (nI a) (nI b) x4 x5 qn ec pn go K ly wd E U S py Py Z gy R A L F Ww Q fl pp qy O := by
    intro h0
    have hm : (zh_o dc (9 + 1) ∨ zh_o dc (11 + 1)) → wY_pipeNew_74 post (nI p) (nI a) (nI b) x4 x5 qn ec pn go K ly wd E U S py Py Z gy R A L F Ww Q fl pp qy O := by
      intro h1
      have : rk = -1 := by
        rcases hk with ⟨e, _⟩ | ⟨i, hi, _, hh, _⟩
        · exact e
        · rcases (show i = 0 ∨ i = 1 by omega) with e | e
          · rw [e] at hh; exact absurd h0 hh
          · rw [e] at hh; exact absurd h1 hh
      unfold wY_pipeNew_74
      rw [this] at h
      exact h
    unfold wY_pipeNew_51
    refine yr_has (c := 10) HD (by decide) (fun z => br_f (by decide) (hm (Or.inl z))) (fun z => br_t rfl (yr_has (c := 12) HD (by decide) (fun z2 => br_f (by decide) (hm (Or.inr z2))) (fun z2 => br_t rfl ?_)))
    have : rk = 1 := by
      rcases hk with ⟨_, hn⟩ | ⟨i, hi, e, hh, _⟩
      · exact absurd (fun y => y.elim z z2) (hn 1 (by decide))
      · rcases (show i = 0 ∨ i = 1 by omega) with e2 | e2
        · rw [e2] at hh; exact absurd h0 hh
        · rw [e, e2]; rfl
    rw [this] at h
    exact h
  unfold wY_pipeNew_26
  refine yr_has (c := 9) HD (by decide) (fun z => br_f (by decide) (h51 (Or.inl z))) (fun z => br_t rfl (yr_has (c := 11) HD (by decide) (fun z2 => br_f (by decide) (h51 (Or.inr z2))) (fun z2 => br_t rfl ?_)))
  have : rk = 0 := by
    rcases hk with ⟨_, hn⟩ | ⟨i, hi, e, hh, hm⟩
    · exact absurd (fun y => y.elim z z2) (hn 0 (by decide))
    · rcases (show i = 0 ∨ i = 1 by omega) with e2 | e2
      · rw [e, e2]; rfl
      · exact absurd (fun y => y.elim z z2) (hm 0 (by omega))
  rw [this] at h
  exact h
end
theorem zi_pipe {B p x y k : Nat} {cur : Nat} {C : Nat → Int32} {ln bl dc : Nat → Nat} {ql : List Nat} {fu : Int64} {nk lv qa qz pn : Int32} {st kb ch kw K lx bo lk oc eN eV U F Q os ps pc pw rd wr S pr P Z gx L D bh : Nat → Int32} {qn : Int32} {ly wd E py gy A fl pp qy : Nat → Int32} (I : zz_I B cur C ln bl dc ql fu nk lv qa qz pn st kb ch kw K lx bo lk oc eN eV U F Q os ps pc pw rd wr S pr P Z gx L D bh qn ly wd E py gy A fl pp qy) (hp : p < 5) (hal : S p = 1 ∨ S p = 2) (hx : x < y) (hy : y < 4) (hk : k < 2) (h1 : dc (4 * p + x) = 0) (h2 : dc (4 * p + y) = 0) (hno : ¬ (zh_o dc (9 + k) ∨ zh_o dc (11 + k))) :
    zz_I B cur C ln bl (zu (zu dc (4 * p + x) (9 + k)) (4 * p + y) (11 + k)) ql fu nk lv qa qz pn st kb ch kw K lx bo lk oc eN eV U F Q os (upd ps k 0) (upd pc k 0) pw (upd rd k 1) (upd wr k 1) S pr P Z gx L (upd (upd D (4 * p + x) (nI (16 + 2 * k))) (4 * p + y) (nI (17 + 2 * k))) bh qn ly wd E py gy (upd (upd A (4 * p + x) (nI (101 + k))) (4 * p + y) (nI (201 + k))) (upd fl k 0) pp qy := by
  obtain ⟨i1, i2, ⟨o1, o2, o3, o4, o5, o6⟩, i4, i5, i6⟩ := I
  have h2' : zu dc (4 * p + x) (9 + k) (4 * p + y) = 0 := by rw [zu_n (by omega)]; exact h2
  have key : ∀ c, c ≠ 0 → (zh_o (zu (zu dc (4 * p + x) (9 + k)) (4 * p + y) (11 + k)) c ↔ zh_o dc c ∨ c = 9 + k ∨ c = 11 + k) := by
    intro c hc
    rw [zo_h1 (by omega) hc h2', zo_h1 (by omega) hc h1, or_assoc]
    exact ⟨fun q => q.imp id (fun q => q.imp Eq.symm Eq.symm), fun q => q.imp id (fun q => q.imp Eq.symm Eq.symm)⟩
  have cnt : ∀ c, c ≠ 0 → zc (fun j => zu (zu dc (4 * p + x) (9 + k)) (4 * p + y) (11 + k) j = c) 20 = zc (fun j => dc j = c) 20 + (if 9 + k = c then 1 else 0) + (if 11 + k = c then 1 else 0) := by
    intro c hc
    rw [zo_up (by omega) h2' hc, zo_up (by omega) h1 hc]
  have c9 := zo_pos (fun q => hno (Or.inl q))
  have c11 := zo_pos (fun q => hno (Or.inr q))
  have hh : ∀ o, o < 8 → (zh_o (zu (zu dc (4 * p + x) (9 + k)) (4 * p + y) (11 + k)) (1 + o) ↔ zh_o dc (1 + o)) := fun o ho => by
    rw [key _ (by omega)]
    exact ⟨fun q => q.elim id (fun q => by omega), Or.inl⟩
  refine ⟨i1, i2, ⟨?_, ⟨?_, ?_⟩, zo_OF o3 (fun o ho => (hh o ho).mp), zo_OC o4 hh, zo_NZ o5 (fun o ho => (hh o ho).mpr), zo_DD (zo_DD o6 hal (by omega)) hal hy⟩, ?_, i5, i6⟩
  · have := zo_OD (k0 := 4 * p + y) (c := 11 + k) (zo_OD (k0 := 4 * p + x) (c := 9 + k) o1 (by omega)) (by omega)
    rw [zx_r hk, zx_w hk, zy_r hk, zy_w hk] at this
    exact this
  · intro o ho
    rw [cnt _ (by omega), if_neg (by omega), if_neg (by omega)]
    simp only [Nat.add_zero]
    exact o2.1 o ho
  · intro j hj
    by_cases c : j = k
    · subst c
      rw [pk_us, pk_us, cnt _ (by omega), cnt _ (by omega), c9, c11, if_pos rfl, if_neg (by omega), if_neg (by omega), if_pos rfl]
      exact ⟨rfl, rfl⟩
    · rw [pk_un c, pk_un c, cnt _ (by omega), cnt _ (by omega), if_neg (by omega), if_neg (by omega), if_neg (by omega), if_neg (by omega)]
      simp only [Nat.add_zero]
      exact o2.2 j hj
  · intro j hj q
    by_cases c : j = k
    · subst c
      exact ⟨0, 0, by omega, by omega, by rw [pk_us]; rfl, by rw [pk_us]; rfl, by rw [pk_us]; rfl, fun i hi => absurd hi (by omega)⟩
    · rw [key _ (by omega), key _ (by omega)] at q
      rw [pk_un c, pk_un c, pk_un c]
      exact i4 j hj (q.imp (fun y => y.elim id (fun y => by omega)) (fun y => y.elim id (fun y => by omega)))
theorem zx_p1 : ∀ k, k < 2 → 16 + 2 * nI k = nI (16 + 2 * k) ∧ nI (16 + 2 * k) + 1 = nI (17 + 2 * k) := by decide
theorem zj_17 {B p z s a b : Nat} {w : Int32} {C : Nat → Int32} {ln bl dc : Nat → Nat} {ql : List Nat} {fu : Int64} {nk lv qa qz : Int32} {ec : Int64} {pn : Int32} {st kb ch kw K lx bo lk oc eN eV U F Ww Q os ps pc pw rd wr S pr P Z gx R L D bh O : Nat → Int32} {qn go : Int32} {ly wd E py gy A fl pp qy : Nat → Int32} (I : zz_I B p C ln bl dc ql fu nk lv qa qz pn st kb ch kw K lx bo lk oc eN eV U F Q os ps pc pw rd wr S pr P Z gx L D bh qn ly wd E py gy A fl pp qy) (hB : B + 1 < 1000000) (hp : p < 5) (hS : S p = 1) (hz : z ≤ 20) (eZ : Z p = nI z) (eP : P p = nI s) (hs : s < z) (hw : gy (20 * p + s) = w) (hD : zw_D w 17 a b) : ∃ (r : Int32) (u' : SX) (v' : SY), zz_Q (B + 1) p w r u' v' ∧ (∀ post : SX → Prop, post u' → wpX_execute post (fu, nk, lv, qa, qz, ec + 1, pn, st, kb, ch, kw, K, lx, bo, lk, oc, eN, eV, U, F, Ww, Q, os, ps, pc, pw, rd, wr, S, pr, P, Z, gx, R, L, D, bh, O) (nI p) w) ∧ ∀ post : Int32 → SY → Prop, post r v' → wpY_execute post (qn, ec, pn, go, K, ly, wd, E, U, S, py, P, Z, gy, R, A, L, F, Ww, Q, fl, pp, qy, O) (nI p) := by
  have I1 := zi_P (x := P p + 1) I (by rw [hS]; decide)
  obtain ⟨i1, i2, i3, i4, i5, i6⟩ := id I1
  have od := i3.1
  have ha4 := hD.2.2.2.2.1
  have hb4 := hD.2.2.2.2.2
  have eia : 4 * nI p + nI a = nI (4 * p + a) := by rw [zi_m4, nI_add]
  have eib : 4 * nI p + nI b = nI (4 * p + b) := by rw [zi_m4, nI_add]
  have cgX : ∀ {q r}, zf_F (fun d => q ≤ d ∧ dc (4 * p + d) = 0) 4 r → zf_F (fun d => q ≤ d ∧ D (4 * p + d) = 0) 4 r := fun h => zf_cg (fun i hi => by rw [(zo_D0 od (show 4 * p + i < 20 by omega)).1]) h
  have cgY : ∀ {q r}, zf_F (fun d => q ≤ d ∧ dc (4 * p + d) = 0) 4 r → zf_F (fun d => q ≤ d ∧ A (4 * p + d) = 0) 4 r := fun h => zf_cg (fun i hi => by rw [(zo_D0 od (show 4 * p + i < 20 by omega)).2]) h
  obtain ⟨r1, hr1⟩ := zf_ex (fun d => 0 ≤ d ∧ dc (4 * p + d) = 0) 4
  obtain ⟨rk, hrk⟩ := zf_ex (fun j => ¬ (zh_o dc (9 + j) ∨ zh_o dc (11 + j))) 2
  -- one pair of values for both
  have key : ∃ r2 : Int32, (r2 = -1 ∨ ∃ x y, r1 = nI x ∧ r2 = nI y ∧ x < y ∧ y < 4 ∧ dc (4 * p + x) = 0 ∧ dc (4 * p + y) = 0) ∧
      (∀ post' : Int32 → SX → Prop, (∃ n, wX_makePipe_31 post' (nI p) (nI a) (nI b) r1 r2 fu nk lv qa qz (ec + 1) pn st kb ch kw K lx bo lk oc eN eV U F Ww Q os ps pc pw rd wr S pr (upd P p (P p + 1)) Z gx R L D bh O n 0) → wpX_makePipe post' (fu, nk, lv, qa, qz, ec + 1, pn, st, kb, ch, kw, K, lx, bo, lk, oc, eN, eV, U, F, Ww, Q, os, ps, pc, pw, rd, wr, S, pr, upd P p (P p + 1), Z, gx, R, L, D, bh, O) (nI p) (nI a) (nI b)) ∧
      ∀ post' : SY → Prop, wY_pipeNew_26 post' (nI p) (nI a) (nI b) r1 r2 qn (ec + 1) pn 1 K ly wd E U S py P Z gy R A L F Ww Q fl pp qy O → wpY_pipeNew post' (qn, ec + 1, pn, 1, K, ly, wd, E, U, S, py, P, Z, gy, R, A, L, F, Ww, Q, fl, pp, qy, O) (nI p) (nI a) (nI b) := by
    have hr1' := hr1
    rcases hr1' with ⟨e, _⟩ | ⟨x, hx, e, ⟨_, hx0⟩, _⟩
    · refine ⟨-1, Or.inl rfl, fun post' h' => ?_, fun post' h' => ?_⟩
      · unfold wpX_makePipe
        exact xr_emptyDescriptor (a := 0) hp (by decide) (cgX hr1) (br_f (by rw [e]; decide) h')
      · unfold wpY_pipeNew
        exact yr_newDescriptor (a := 0) hp (by decide) (cgY hr1) (br_f (by rw [e]; decide) h')
    · obtain ⟨r2, hr2⟩ := zf_ex (fun d => x + 1 ≤ d ∧ dc (4 * p + d) = 0) 4
      refine ⟨r2, ?_, fun post' h' => ?_, fun post' h' => ?_⟩
      · rcases hr2 with ⟨e2, _⟩ | ⟨y, hy, e2, ⟨hy1, hy0⟩, _⟩
        · exact Or.inl e2
        · exact Or.inr ⟨x, y, e, e2, by omega, hy, hx0, hy0⟩
      · unfold wpX_makePipe
        refine xr_emptyDescriptor (a := 0) hp (by decide) (cgX hr1) (br_t (by rw [e]; exact nI_pos' (by omega)) ?_)
        rw [e, nI_1] at *
        exact xr_emptyDescriptor (a := x + 1) hp (by omega) (cgX hr2) h'
      · unfold wpY_pipeNew
        refine yr_newDescriptor (a := 0) hp (by decide) (cgY hr1) (br_t (by rw [e]; exact nI_pos' (by omega)) ?_)
        rw [e, nI_1] at *
        exact yr_newDescriptor (a := x + 1) hp (by omega) (cgY hr2) h'
  obtain ⟨r2, hr2, hX, hY⟩ := key
  by_cases hok : r2 ≠ -1 ∧ rk ≠ -1
  · obtain ⟨ok2, okk⟩ := hok
    rcases hr2 with e | ⟨x, y, e1, e2, hxy, hy4, hx0, hy0⟩
    · exact absurd e ok2
    have hrk' := hrk
    rcases hrk' with ⟨e, _⟩ | ⟨k, hk, ek, hkn, _⟩
    · exact absurd e okk
    have eix : 4 * nI p + nI x = nI (4 * p + x) := by rw [zi_m4, nI_add]
    have eiy : 4 * nI p + nI y = nI (4 * p + y) := by rw [zi_m4, nI_add]
    obtain ⟨g1, g2⟩ := zx_p1 k hk
    refine ⟨1, (fu, nk, lv, qa, qz, ec + 1, pn, st, kb, ch, kw, K, lx, bo, lk, oc, eN, eV, U, F, Ww, Q, os, upd ps k 0, upd pc k 0, pw, upd rd k 1, upd wr k 1, S, pr, upd P p (P p + 1), Z, gx, upd (upd R (4 * p + a) (nI x)) (4 * p + b) (nI y), L, upd (upd D (4 * p + x) (nI (16 + 2 * k))) (4 * p + y) (nI (17 + 2 * k)), bh, O),
      (qn, ec + 1, pn, 1, K, ly, wd, E, U, S, py, upd P p (P p + 1), Z, gy, upd (upd R (4 * p + a) (nI x)) (4 * p + b) (nI y), upd (upd A (4 * p + x) (nI (101 + k))) (4 * p + y) (nI (201 + k)), L, F, Ww, Q, upd fl k 0, pp, qy, O), zz_Qmk (zi_B (zi_pipe I1 hp (Or.inl hS) hxy hy4 hk hx0 hy0 hkn) hB) (Or.inl ⟨rfl, hS, by rw [hD.1]; decide⟩),
      fun post h => xe_17 (g := 1) hp hD (fun post' h' => hX post' (xo_mp31 i3.2.1 hrk (fun k' hk' => ?_))) (fun z => absurd z (by decide)) (fun _ => h),
      fun post h => ye_c17 hp hz eZ eP hs hw hD (fun post' h' => yc_17 (fun post' h' => hY post' (yo_pn26 od hrk ?_)) h') rfl h⟩
    · rcases hk' with ⟨q, _⟩ | ⟨q, q2⟩
      · exact absurd q okk
      · have := zi_inj (by omega) (by omega) (ek.symm.trans q)
        subst this
        unfold wX_makePipe_52
        rw [e1, e2, eix, eiy, eia, eib, g1, g2, zb_nar8 (n := 16 + 2 * k) (by omega), zb_nar8 (n := 17 + 2 * k) (by omega), zb_0, zb_1, nI_clamp (n := 4 * p + x) (by omega), nI_clamp (n := 4 * p + y) (by omega), nI_clamp (n := k) (by omega), nI_clamp (n := 4 * p + a) (by omega), nI_clamp (n := 4 * p + b) (by omega)]
        exact br_f (nI_pos (by omega)) (br_f (fun q => absurd (zi_inj (b := 2) (by omega) (by decide) q) (by omega)) ⟨vp_in_nI (by omega) (by decide), nm_e ⟨vp_in_nI (by omega) (by decide), nm_e ⟨vp_in_nI hk (by decide), nm_e ⟨vp_in_nI hk (by decide), nm_e ⟨vp_in_nI hk (by decide), nm_e ⟨vp_in_nI hk (by decide), nm_e ⟨vp_in_nI (by omega) (by decide), nm_e ⟨vp_in_nI (by omega) (by decide), nm_e h'⟩⟩⟩⟩⟩⟩⟩⟩)
    · unfold wY_pipeNew_75
      rw [ek, e1, e2, eix, eiy, eia, eib, zi_101a, zi_201a, nI_clamp (n := 4 * p + x) (by omega), nI_clamp (n := 4 * p + y) (by omega), nI_clamp (n := k) (by omega), nI_clamp (n := 4 * p + a) (by omega), nI_clamp (n := 4 * p + b) (by omega)]
      exact br_f (nI_pos (by omega)) (br_t (nI_pos' (by omega)) ⟨vp_in_nI hk (by decide), nm_e ⟨vp_in_nI (by omega) (by decide), nm_e ⟨vp_in_nI (by omega) (by decide), nm_e ⟨vp_in_nI (by omega) (by decide), nm_e ⟨vp_in_nI (by omega) (by decide), nm_e h'⟩⟩⟩⟩⟩)
  · refine ⟨1, (fu, nk, lv, qa, qz, ec + 1, pn, st, kb, ch, kw, K, lx, bo, lk, oc, eN, eV, U, F, Ww, Q, os, ps, pc, pw, rd, wr, S, pr, upd P p (P p + 1), Z, gx, upd R (4 * p + 3) (-1), L, D, bh, O), (qn, ec + 1, pn, 1, K, ly, wd, E, U, S, py, upd P p (P p + 1), Z, gy, upd R (4 * p + 3) (-1), A, L, F, Ww, Q, fl, pp, qy, O), zz_Qmk (zi_B I1 hB) (Or.inl ⟨rfl, hS, by rw [hD.1]; decide⟩),
      fun post h => xe_17 (g := 0) hp hD (fun post' h' => hX post' (xo_mp31 i3.2.1 hrk (fun k' hk' => ?_))) (fun _ => h) (fun z => absurd rfl z),
      fun post h => ye_c17 hp hz eZ eP hs hw hD (fun post' h' => yc_17 (fun post' h' => hY post' (yo_pn26 od hrk ?_)) h') rfl h⟩
    · unfold wX_makePipe_52
      by_cases c2 : r2 < 0
      · exact br_t c2 h'
      · refine br_f c2 (br_t ?_ h')
        rcases hk' with ⟨_, q⟩ | ⟨q, q2⟩
        · rw [q]; rfl
        · refine absurd ⟨fun y => c2 (by rw [y]; decide), fun y => ?_⟩ hok
          exact zi_m1ne (n := k') (by omega) (q.symm.trans y)
    · unfold wY_pipeNew_75
      by_cases c2 : r2 < 0
      · exact br_t c2 (yo_fail hp h')
      · refine br_f c2 (br_f (fun q => ?_) (yo_fail hp h'))
        refine hok ⟨fun y => c2 (by rw [y]; decide), fun y => ?_⟩
        rw [y] at q
        exact absurd q (by decide)
end
section
/-! opening, on both sides -/
section
variable {B cur : Nat} {C : Nat → Int32} {ln bl dc : Nat → Nat} {ql : List Nat} {fu : Int64} {nk lv qa qz : Int32} {ec : Int64} {pn : Int32} {st kb ch kw K lx bo lk oc eN eV U F Ww Q os ps pc pw rd wr S pr P Z gx R L D bh O : Nat → Int32} {qn go : Int32} {ly wd E py gy A fl pp qy : Nat → Int32} {Py : Nat → Int32}
theorem zi_open {p d o n q : Nat} (I : zz_I B cur C ln bl dc ql fu nk lv qa qz pn st kb ch kw K lx bo lk oc eN eV U F Q os ps pc pw rd wr S pr P Z gx L D bh qn ly wd E py gy A fl pp qy) (hp : p < 5) (hal : S p = 1 ∨ S p = 2) (hd : d < 4) (ho : o < 8) (hn1 : 1 ≤ n) (hn : n < 10) (hK : K n = 1) (hq : q ≤ 20) (h0 : dc (4 * p + d) = 0) (hfree : ¬ zh_o dc (1 + o)) :
    zz_I B cur C ln bl (zu dc (4 * p + d) (1 + o)) ql fu nk lv qa qz pn st kb ch kw K lx bo lk (upd oc n (nI (zc (fun o => F o = nI n ∧ zh_o dc (1 + o)) 8 + 1))) eN eV U (upd F o (nI n)) (upd Q o (nI q)) (upd os o 1) ps pc pw rd wr S pr P Z gx L (upd D (4 * p + d) (nI (1 + o))) bh qn ly wd E py gy (upd A (4 * p + d) (nI (1 + o))) fl pp qy := by
  obtain ⟨i1, i2, ⟨o1, o2, o3, o4, o5, o6⟩, i4, i5, i6⟩ := I
  have key : ∀ c, c ≠ 0 → (zh_o (zu dc (4 * p + d) (1 + o)) c ↔ zh_o dc c ∨ c = 1 + o) := by
    intro c hc
    rw [zo_h1 (by omega) hc h0]
    exact ⟨fun y => y.imp id Eq.symm, fun y => y.imp id Eq.symm⟩
  have cnt : ∀ c, c ≠ 0 → zc (fun j => zu dc (4 * p + d) (1 + o) j = c) 20 = zc (fun j => dc j = c) 20 + (if 1 + o = c then 1 else 0) := fun c hc => zo_up (by omega) h0 hc
  have hs : ∀ o', o' ≠ o → (zh_o (zu dc (4 * p + d) (1 + o)) (1 + o') ↔ zh_o dc (1 + o')) := by
    intro o' ne
    rw [key _ (by omega)]
    exact ⟨fun y => y.elim id (fun y => by omega), Or.inl⟩
  have hso : zh_o (zu dc (4 * p + d) (1 + o)) (1 + o) := (key _ (by omega)).mpr (Or.inr rfl)
  refine ⟨i1, i2, ⟨?_, ⟨?_, ?_⟩, ?_, ?_, ?_, zo_DD o6 hal hd⟩, ?_, i5, i6⟩
  · have := zo_OD (k0 := 4 * p + d) (c := 1 + o) o1 (by omega)
    rw [zx_o ho, zy_o ho] at this
    exact this
  · intro o' ho'
    rw [cnt _ (by omega)]
    by_cases c : o' = o
    · subst c; rw [pk_us, if_pos rfl, zo_pos hfree]; rfl
    · rw [pk_un c, if_neg (by omega), Nat.add_zero]; exact o2.1 o' ho'
  · intro j hj
    rw [cnt _ (by omega), cnt _ (by omega), if_neg (by omega), if_neg (by omega)]
    exact o2.2 j hj
  · intro o' ho' y
    by_cases c : o' = o
    · subst c; rw [pk_us, pk_us]; exact ⟨⟨n, hn1, hn, rfl, hK⟩, q, hq, rfl⟩
    · rw [pk_un c, pk_un c]; exact o3 o' ho' ((hs o' c).mp y)
  · intro x hx hKx
    by_cases c : x = n
    · subst c
      rw [pk_us]
      refine congrArg nI (zc_inc (a := o) (fun y => hfree y.2) ⟨pk_us, hso⟩ ho (fun o' ho' ne => ?_)).symm
      rw [pk_un ne, hs o' ne]
    · rw [pk_un c, o4 x hx hKx]
      refine congrArg nI (zc_eq fun o' ho' => ?_)
      by_cases co : o' = o
      · subst co
        rw [pk_us]
        exact ⟨fun y => absurd y.2 hfree, fun y => absurd (zi_inj (by omega) (by omega) y.1).symm c⟩
      · rw [pk_un co, hs o' co]
  · intro x hx hKx
    rcases o5 x hx hKx with y | ⟨o', ho', e, y⟩
    · exact Or.inl y
    · have co : o' ≠ o := fun e2 => by rw [e2] at y; exact hfree y
      exact Or.inr ⟨o', ho', by rw [pk_un co]; exact e, (hs o' co).mpr y⟩
  · intro j hj y
    rw [key _ (by omega), key _ (by omega)] at y
    exact i4 j hj (y.imp (fun y => y.elim id (fun y => by omega)) (fun y => y.elim id (fun y => by omega)))
theorem zi_trunc {n : Nat} (I : zz_I B cur C ln bl dc ql fu nk lv qa qz pn st kb ch kw K lx bo lk oc eN eV U F Q os ps pc pw rd wr S pr P Z gx L D bh qn ly wd E py gy A fl pp qy) (hn : n < 10) (hK : K n = 1) : ∃ (fu' : Int64) (kb' C' : Nat → Int32), zz_I B cur C' (zu ln n 0) bl dc ql fu' nk lv qa qz pn st kb' ch kw K (upd lx n 0) bo lk oc eN eV U F Q os ps pc pw rd wr S pr P Z gx L D bh qn (upd ly n 0) wd E py gy A fl pp qy ∧ ∀ post : SX → Prop, post (fu', nk, lv, qa, qz, ec, pn, st, kb', ch, kw, K, upd lx n 0, bo, lk, oc, eN, eV, U, F, Ww, Q, os, ps, pc, pw, rd, wr, S, pr, P, Z, gx, R, L, D, bh, O) → wpX_empty post (fu, nk, lv, qa, qz, ec, pn, st, kb, ch, kw, K, lx, bo, lk, oc, eN, eV, U, F, Ww, Q, os, ps, pc, pw, rd, wr, S, pr, P, Z, gx, R, L, D, bh, O) (nI n) := by
  obtain ⟨i1, ⟨b1, b2, b3⟩, i3, i4, i5, i6⟩ := I
  obtain ⟨fu', kb', C', g1, g2, g3, gX⟩ := xs_empty (fu := fu) (nk := nk) (lv := lv) (qa := qa) (qz := qz) (ec := ec) (pn := pn) (st := st) (kb := kb) (ch := ch) (kw := kw) (K := K) (lx := lx) (bo := bo) (lk := lk) (oc := oc) (eN := eN) (eV := eV) (U := U) (F := F) (Ww := Ww) (Q := Q) (os := os) (ps := ps) (pc := pc) (pw := pw) (rd := rd) (wr := wr) (S := S) (pr := pr) (P := P) (Z := Z) (gx := gx) (R := R) (L := L) (D := D) (bh := bh) (O := O) (n := n) b1 b2 hn hK
  refine ⟨fu', kb', C', ⟨zt_lx i1 (fun x hx h2 => pk_un (fun e => by rw [e, hK] at h2; exact absurd h2 (by decide))), ⟨g1, g2, zs_FYe b3 (fun m hm hKm => (b2.1 m hm hKm).1) (fun m hm => pk_un hm) (fun _ => pk_us) g3⟩, i3, i4, i5, i6⟩, gX⟩
/-- the stores of an opening, the file being there -/
theorem zj_o92 {p d o n h a : Nat} (I : zz_I B cur C ln bl dc ql fu nk lv qa qz pn st kb ch kw K lx bo lk oc eN eV U F Q os ps pc pw rd wr S pr P Z gx L D bh qn ly wd E py gy A fl pp qy) (hp : p < 5) (hal : S p = 1 ∨ S p = 2) (hd : d < 4) (ho : o < 8) (ha : a < 4) (hn1 : 1 ≤ n) (hn : n < 10) (hK : K n = 1) (hh : h < 4) (h0 : dc (4 * p + d) = 0) (hfree : ¬ zh_o dc (1 + o)) :
    ∃ (oc' os' F' Ww' Q' D' A' : Nat → Int32) (dc' : Nat → Nat), zz_I B cur C ln bl dc' ql fu nk lv qa qz pn st kb ch kw K lx bo lk oc' eN eV U F' Q' os' ps pc pw rd wr S pr P Z gx L D' bh qn ly wd E py gy A' fl pp qy ∧
      (∀ post : Int32 → SX → Prop, post 1 (fu, nk, lv, qa, qz, ec, pn, st, kb, ch, kw, K, lx, bo, lk, oc', eN, eV, U, F', Ww', Q', os', ps, pc, pw, rd, wr, S, pr, P, Z, gx, upd R (4 * p + a) (nI d), L, D', bh, O) → wX_open_92 post (nI p) (nI a) (nI h) (nI d) (nI o) (nI n) fu nk lv qa qz ec pn st kb ch kw K lx bo lk oc eN eV U F Ww Q os ps pc pw rd wr S pr P Z gx R L D bh O) ∧
      ∀ post : SY → Prop, post (qn, ec, pn, go, K, ly, wd, E, U, S, py, Py, Z, gy, upd R (4 * p + a) (nI d), A', L, F', Ww', Q', fl, pp, qy, O) → wY_open_145 post (nI p) (nI a) (nI h) (nI n) (nI d) (nI o) qn ec pn go K ly wd E U S py Py Z gy R A L F Ww Q fl pp qy O := by
  have eia : 4 * nI p + nI a = nI (4 * p + a) := by rw [zi_m4, nI_add]
  have eid : 4 * nI p + nI d = nI (4 * p + d) := by rw [zi_m4, nI_add]
  obtain ⟨_, ⟨_, b2, b3⟩, ⟨_, _, _, o4, _⟩, _⟩ := id I
  obtain ⟨hl, el⟩ := b2.1 n hn hK
  have ey := (b3 n hn hK).1
  have eoc := o4 n hn (by rw [hK]; decide)
  have b8 := zc_le (fun o => F o = nI n ∧ zh_o dc (1 + o)) 8
  have I' := zi_open (q := if h = 3 then ln n else 0) I hp hal hd ho hn1 hn hK (by by_cases c : h = 3 <;> simp [c, hl]) h0 hfree
  refine ⟨_, _, _, upd Ww o (if h = 0 then 0 else 1), _, _, _, _, I', fun post hpost => ?_, fun post hpost => ?_⟩
  · have h142 : ∀ v : Int32, v = nI (if h = 3 then ln n else 0) → wX_open_142 post (nI p) (nI a) (nI d) (nI o) (nI n) v (nI o) fu nk lv qa qz ec pn st kb ch kw K lx bo lk oc eN eV U (upd F o (nI n)) (upd Ww o (if h = 0 then 0 else 1)) Q os ps pc pw rd wr S pr P Z gx R L D bh O := by
      intro v ev
      have hq : (if h = 3 then ln n else 0) < 128 := by by_cases c : h = 3 <;> simp [c]; omega
      unfold wX_open_142
      rw [ev, zb_nar hq, zb_1, zcl (f := oc) (by omega), eoc, nI_1, zb_nar8 (by omega), eid, eia, zi_1a, zb_nar8 (n := 1 + o) (by omega), nI_clamp (n := o) (by omega), nI_clamp (n := n) (by omega), nI_clamp (n := 4 * p + d) (by omega), nI_clamp (n := 4 * p + a) (by omega)]
      exact ⟨vp_in_nI ho (by decide), nm_e ⟨vp_in_nI ho (by decide), nm_e ⟨vp_in_nI hn (by decide), vp_in_nI hn (by decide), nm_e ⟨vp_in_nI (by omega) (by decide), nm_e ⟨vp_in_nI (by omega) (by decide), nm_e hpost⟩⟩⟩⟩⟩
    have h118 : ∀ v : Int32, v = (if h = 0 then 0 else 1) → wX_open_118 post (nI p) (nI a) (nI h) (nI d) (nI o) (nI n) v (nI o) fu nk lv qa qz ec pn st kb ch kw K lx bo lk oc eN eV U (upd F o (nI n)) Ww Q os ps pc pw rd wr S pr P Z gx R L D bh O := by
      intro v ev
      have en : vp_nar .boolean v = v := by
        rw [ev]; by_cases c : h = 0
        · rw [if_pos c]; exact zb_b0
        · rw [if_neg c]; exact zb_b1
      unfold wX_open_118
      rw [en, ev, nI_clamp (n := o) (by omega), zcl (f := lx) (by omega), el]
      refine ⟨vp_in_nI ho (by decide), nm_e ?_⟩
      by_cases c : h = 3
      · exact br_t (by rw [c]; rfl) ⟨vp_in_nI hn (by decide), h142 _ (by rw [if_pos c])⟩
      · exact br_f (fun z => c (zi_inj (b := 3) (by omega) (by decide) z)) (h142 _ (by rw [if_neg c]; rfl))
    unfold wX_open_92
    rw [zb_nar8 (n := n) (by omega), nI_clamp (n := o) (by omega)]
    refine ⟨vp_in_nI ho (by decide), nm_e ?_⟩
    by_cases c : h = 0
    · exact br_t (by rw [c]; decide) (h118 _ (by rw [if_pos c]))
    · exact br_f (nI_nle (by omega) (by omega)) (h118 _ (by rw [if_neg c]))
  · have h192 : ∀ v : Int32, v = nI (if h = 3 then ln n else 0) → wY_open_192 post (nI p) (nI a) (nI d) (nI o) v (nI o) qn ec pn go K ly wd E U S py Py Z gy R A L (upd F o (nI n)) (upd Ww o (if h = 0 then 0 else 1)) Q fl pp qy O := by
      intro v ev
      unfold wY_open_192
      rw [ev, eid, eia, zi_1a, nI_clamp (n := o) (by omega), nI_clamp (n := 4 * p + d) (by omega), nI_clamp (n := 4 * p + a) (by omega)]
      exact ⟨vp_in_nI ho (by decide), nm_e ⟨vp_in_nI (by omega) (by decide), nm_e ⟨vp_in_nI (by omega) (by decide), nm_e hpost⟩⟩⟩
    have h169 : ∀ v : Int32, v = (if h = 0 then 0 else 1) → wY_open_169 post (nI p) (nI a) (nI h) (nI n) (nI d) (nI o) v (nI o) qn ec pn go K ly wd E U S py Py Z gy R A L (upd F o (nI n)) Ww Q fl pp qy O := by
      intro v ev
      unfold wY_open_169
      rw [ev, nI_clamp (n := o) (by omega), zcl (f := ly) (by omega), ey]
      refine ⟨vp_in_nI ho (by decide), nm_e ?_⟩
      by_cases c : h = 3
      · exact br_t (by rw [c]; rfl) ⟨vp_in_nI hn (by decide), h192 _ (by rw [if_pos c])⟩
      · exact br_f (fun z => c (zi_inj (b := 3) (by omega) (by decide) z)) (h192 _ (by rw [if_neg c]; rfl))
    unfold wY_open_145
    rw [nI_clamp (n := o) (by omega)]
    refine ⟨vp_in_nI ho (by decide), nm_e ?_⟩
    by_cases c : h = 0
    · exact br_t (by rw [c]; rfl) (h169 _ (by rw [if_pos c]))
    · exact br_f (nI_ne0 (by omega) (by omega)) (h169 _ (by rw [if_neg c]))
/-- with the emptying ahead of it -/
theorem zj_otail {p d o n h a : Nat} (I : zz_I B cur C ln bl dc ql fu nk lv qa qz pn st kb ch kw K lx bo lk oc eN eV U F Q os ps pc pw rd wr S pr P Z gx L D bh qn ly wd E py gy A fl pp qy) (hp : p < 5) (hal : S p = 1 ∨ S p = 2) (hd : d < 4) (ho : o < 8) (ha : a < 4) (hn1 : 1 ≤ n) (hn : n < 10) (hK : K n = 1) (hh : h < 4) (h0 : dc (4 * p + d) = 0) (hfree : ¬ zh_o dc (1 + o)) :
    ∃ (fu' : Int64) (kb' lx' oc' os' F' Ww' Q' D' ly' A' C' : Nat → Int32) (ln' dc' : Nat → Nat), zz_I B cur C' ln' bl dc' ql fu' nk lv qa qz pn st kb' ch kw K lx' bo lk oc' eN eV U F' Q' os' ps pc pw rd wr S pr P Z gx L D' bh qn ly' wd E py gy A' fl pp qy ∧
      (∀ post : Int32 → SX → Prop, post 1 (fu', nk, lv, qa, qz, ec, pn, st, kb', ch, kw, K, lx', bo, lk, oc', eN, eV, U, F', Ww', Q', os', ps, pc, pw, rd, wr, S, pr, P, Z, gx, upd R (4 * p + a) (nI d), L, D', bh, O) → wX_open_73 post (nI p) (nI a) (nI h) (nI d) (nI o) (nI n) fu nk lv qa qz ec pn st kb ch kw K lx bo lk oc eN eV U F Ww Q os ps pc pw rd wr S pr P Z gx R L D bh O) ∧
      ∀ post : SY → Prop, post (qn, ec, pn, go, K, ly', wd, E, U, S, py, Py, Z, gy, upd R (4 * p + a) (nI d), A', L, F', Ww', Q', fl, pp, qy, O) → wY_open_132 post (nI p) (nI a) (nI h) (nI n) (nI d) (nI o) qn ec pn go K ly wd E U S py Py Z gy R A L F Ww Q fl pp qy O := by
  by_cases c : h = 2
  · obtain ⟨fu', kb', C', I', gX⟩ := zi_trunc (ec := ec) (R := R) (O := O) (Ww := Ww) I hn hK
    obtain ⟨oc', os', F', Ww', Q', D', A', dc', I2, hX, hY⟩ := zj_o92 (ec := ec) (R := R) (O := O) (Ww := Ww) (go := go) (Py := Py) (a := a) I' hp hal hd ho ha hn1 hn hK hh h0 hfree
    refine ⟨fu', kb', _, oc', os', F', Ww', Q', D', _, A', C', _, dc', I2, fun post hpost => ?_, fun post hpost => ?_⟩
    · exact br_t (nI_pos' (by omega)) (br_t (by rw [c]; rfl) (gX _ (hX post hpost)))
    · unfold wY_open_132
      rw [nI_clamp (n := n) (by omega)]
      exact br_t (by rw [c]; rfl) ⟨vp_in_nI hn (by decide), nm_e (hY post hpost)⟩
  · obtain ⟨oc', os', F', Ww', Q', D', A', dc', I2, hX, hY⟩ := zj_o92 (ec := ec) (R := R) (O := O) (Ww := Ww) (go := go) (Py := Py) (a := a) I hp hal hd ho ha hn1 hn hK hh h0 hfree
    have c' : ¬ nI h = 2 := fun z => c (zi_inj (b := 2) (by omega) (by decide) z)
    exact ⟨fu, kb, lx, oc', os', F', Ww', Q', D', ly, A', C, ln, dc', I2, fun post hpost => br_t (nI_pos' (by omega)) (br_f c' (hX post hpost)), fun post hpost => br_f c' (hY post hpost)⟩
end
end
section
theorem zj_13 {B p z s a b : Nat} {w : Int32} {C : Nat → Int32} {ln bl dc : Nat → Nat} {ql : List Nat} {fu : Int64} {nk lv qa qz : Int32} {ec : Int64} {pn : Int32} {st kb ch kw K lx bo lk oc eN eV U F Ww Q os ps pc pw rd wr S pr P Z gx R L D bh O : Nat → Int32} {qn go : Int32} {ly wd E py gy A fl pp qy : Nat → Int32} (I : zz_I B p C ln bl dc ql fu nk lv qa qz pn st kb ch kw K lx bo lk oc eN eV U F Q os ps pc pw rd wr S pr P Z gx L D bh qn ly wd E py gy A fl pp qy) (hB : B + 1 < 1000000) (hp : p < 5) (hS : S p = 1) (hz : z ≤ 20) (eZ : Z p = nI z) (eP : P p = nI s) (hs : s < z) (hw : gy (20 * p + s) = w) (hD : zw_D w 13 a b) : ∃ (r : Int32) (u' : SX) (v' : SY), zz_Q (B + 1) p w r u' v' ∧ (∀ post : SX → Prop, post u' → wpX_execute post (fu, nk, lv, qa, qz, ec + 1, pn, st, kb, ch, kw, K, lx, bo, lk, oc, eN, eV, U, F, Ww, Q, os, ps, pc, pw, rd, wr, S, pr, P, Z, gx, R, L, D, bh, O) (nI p) w) ∧ ∀ post : Int32 → SY → Prop, post r v' → wpY_execute post (qn, ec, pn, go, K, ly, wd, E, U, S, py, P, Z, gy, R, A, L, F, Ww, Q, fl, pp, qy, O) (nI p) := by
  have I1 := zi_P (x := P p + 1) I (by rw [hS]; decide)
  obtain ⟨⟨t1, t2, t3, t4, t5, t6, t7⟩, i2, i3, i4, i5, i6⟩ := id I1
  have od := i3.1
  obtain ⟨d, hd, eL, hKd⟩ := t5 p hp (Or.inl hS)
  obtain ⟨r, hr⟩ := zn_ex E d (R (4 * p + a))
  obtain ⟨f, hf⟩ := zf_ex (fun n => K n = 0) 10
  obtain ⟨l, hl, el, hDD⟩ := t6 d hd hKd
  have ecnt := hDD.2.2.2
  have hK0 : K 0 ≠ 0 := by rw [t1.2]; decide
  have ha4 := hD.2.2.2.2.1
  have eia : 4 * nI p + nI a = nI (4 * p + a) := by rw [zi_m4, nI_add]
  obtain ⟨h, hh, eh⟩ := pk_andE (w >>> ((9 : Int32) &&& 31)) (m := 3) 2 (by decide)
  have hh4 : h < 4 := hh
  obtain ⟨q1, hq1⟩ := zf_ex (fun d => 0 ≤ d ∧ dc (4 * p + d) = 0) 4
  obtain ⟨q2, hq2⟩ := zf_ex (fun o => ¬ zh_o dc (1 + o)) 8
  have hq1X : zf_F (fun d => 0 ≤ d ∧ D (4 * p + d) = 0) 4 q1 := zf_cg (fun i hi => by rw [(zo_D0 od (show 4 * p + i < 20 by omega)).1]) hq1
  have hq1Y : zf_F (fun d => 0 ≤ d ∧ A (4 * p + d) = 0) 4 q1 := zf_cg (fun i hi => by rw [(zo_D0 od (show 4 * p + i < 20 by omega)).2]) hq1
  have hq2X : zf_F (fun o => os o = 0) 8 q2 := zf_cg (fun i hi => by
    rw [i3.2.1.1 i hi, zh_pos]
    have b := zc_le (fun k => dc k = 1 + i) 20
    exact ⟨fun y => by rw [show zc (fun k => dc k = 1 + i) 20 = 0 by omega]; rfl, fun y => by have := zi_inj (b := 0) (by omega) (by decide) y; omega⟩) hq2
  -- the component: to the two answers
  have hXp : ∀ post' : Int32 → SX → Prop, ((q1 < 0 → post' 0 (fu, nk, lv, qa, qz, ec + 1, pn, st, kb, ch, kw, K, lx, bo, lk, oc, eN, eV, U, F, Ww, Q, os, ps, pc, pw, rd, wr, S, pr, upd P p (P p + 1), Z, gx, R, L, D, bh, O)) ∧ (¬ q1 < 0 → ((0 ≤ q2 → wpX_namedFile (fun r_81 => (((0 ≤ r_81 → (wX_open_73 post' (nI p) (nI a) (nI h) q1 q2 r_81 fu nk lv qa qz (ec + 1) pn st kb ch kw K lx bo lk oc eN eV U F Ww Q os ps pc pw rd wr S pr (upd P p (P p + 1)) Z gx R L D bh O)) ∧ (¬ 0 ≤ r_81 → (((nI h = 2 → (vp_in (nI p) 5 ∧ (wpX_find (fun r_182 => (((0 ≤ r_182 → (wX_open_73 post' (nI p) (nI a) (nI h) q1 q2 r_81 fu nk lv qa qz (ec + 1) pn st kb ch kw K lx bo lk oc eN eV U F Ww Q os ps pc pw rd wr S pr (upd P p (P p + 1)) Z gx R L D bh O)) ∧ (¬ 0 ≤ r_182 → (vp_in (nI p) 5 ∧ (wpX_enterNew (fun r_223 u => match u with | (fu2, nk2, lv2, qa2, qz2, ec2, pn2, st2, kb2, ch2, kw2, K2, lx2, bo2, lk2, oc2, eN2, eV2, U2, F2, Ww2, Q2, os2, ps2, pc2, pw2, rd2, wr2, S2, pr2, P2, Z2, gx2, R2, L2, D2, bh2, O2) => (wX_open_73 post' (nI p) (nI a) (nI h) q1 q2 r_223 fu2 nk2 lv2 qa2 qz2 ec2 pn2 st2 kb2 ch2 kw2 K2 lx2 bo2 lk2 oc2 eN2 eV2 U2 F2 Ww2 Q2 os2 ps2 pc2 pw2 rd2 wr2 S2 pr2 P2 Z2 gx2 R2 L2 D2 bh2 O2)) (fu, nk, lv, qa, qz, ec + 1, pn, st, kb, ch, kw, K, lx, bo, lk, oc, eN, eV, U, F, Ww, Q, os, ps, pc, pw, rd, wr, S, pr, upd P p (P p + 1), Z, gx, R, L, D, bh, O) (L p) (R (4 * p + a)) 1)))))) (fu, nk, lv, qa, qz, ec + 1, pn, st, kb, ch, kw, K, lx, bo, lk, oc, eN, eV, U, F, Ww, Q, os, ps, pc, pw, rd, wr, S, pr, upd P p (P p + 1), Z, gx, R, L, D, bh, O) (L p) (R (4 * p + a))))) ∧ (¬ nI h = 2 → (wX_open_73 post' (nI p) (nI a) (nI h) q1 q2 r_81 fu nk lv qa qz (ec + 1) pn st kb ch kw K lx bo lk oc eN eV U F Ww Q os ps pc pw rd wr S pr (upd P p (P p + 1)) Z gx R L D bh O)))))))) (fu, nk, lv, qa, qz, ec + 1, pn, st, kb, ch, kw, K, lx, bo, lk, oc, eN, eV, U, F, Ww, Q, os, ps, pc, pw, rd, wr, S, pr, upd P p (P p + 1), Z, gx, R, L, D, bh, O) (nI p) (R (4 * p + a))) ∧ (¬ 0 ≤ q2 → post' 0 (fu, nk, lv, qa, qz, ec + 1, pn, st, kb, ch, kw, K, lx, bo, lk, oc, eN, eV, U, F, Ww, Q, os, ps, pc, pw, rd, wr, S, pr, upd P p (P p + 1), Z, gx, R, L, D, bh, O))))) → wpX_open post' (fu, nk, lv, qa, qz, ec + 1, pn, st, kb, ch, kw, K, lx, bo, lk, oc, eN, eV, U, F, Ww, Q, os, ps, pc, pw, rd, wr, S, pr, upd P p (P p + 1), Z, gx, R, L, D, bh, O) (nI p) (nI a) (R (4 * p + a)) ((w >>> ((9 : Int32) &&& 31)) &&& 3) := by
    intro post' h'
    rw [eh]
    unfold wpX_open
    refine xr_emptyDescriptor (a := 0) hp (by decide) hq1X (xr_freeOpening hq2X ?_)
    rw [zcl (f := L) (by omega)]
    exact h'
  have hYp : ∀ post' : SY → Prop, ((r < 0 → ((nI h = 2 → wpY_canEnter (fun r_153 => (((r_153 = 0 → (wY_open_88 post' (nI p) (nI a) (nI h) (R (4 * p + a)) r q1 q2 qn (ec + 1) pn 1 K ly wd E U S py P Z gy R A L F Ww Q fl pp qy O)) ∧ (¬ r_153 = 0 → (wY_open_89 post' (nI p) (nI a) (nI h) (R (4 * p + a)) r q1 q2 1 qn (ec + 1) pn 1 K ly wd E U S py P Z gy R A L F Ww Q fl pp qy O))))) (qn, ec + 1, pn, 1, K, ly, wd, E, U, S, py, P, Z, gy, R, A, L, F, Ww, Q, fl, pp, qy, O) (nI d) (R (4 * p + a))) ∧ (¬ nI h = 2 → wY_open_88 post' (nI p) (nI a) (nI h) (R (4 * p + a)) r q1 q2 qn (ec + 1) pn 1 K ly wd E U S py P Z gy R A L F Ww Q fl pp qy O))) ∧
      (¬ r < 0 → (vp_in r 10 ∧ ((K r.toNatClampNeg = 1 → wY_open_89 post' (nI p) (nI a) (nI h) (R (4 * p + a)) r q1 q2 1 qn (ec + 1) pn 1 K ly wd E U S py P Z gy R A L F Ww Q fl pp qy O) ∧ (¬ K r.toNatClampNeg = 1 → wY_open_89 post' (nI p) (nI a) (nI h) (R (4 * p + a)) r q1 q2 0 qn (ec + 1) pn 1 K ly wd E U S py P Z gy R A L F Ww Q fl pp qy O))))) → wpY_open post' (qn, ec + 1, pn, 1, K, ly, wd, E, U, S, py, P, Z, gy, R, A, L, F, Ww, Q, fl, pp, qy, O) (nI p) (nI a) ((w >>> ((9 : Int32) &&& 31)) &&& 3) := by
    intro post' h'
    rw [eh]
    refine ⟨by rw [eia]; exact vp_in_nI (by omega) (by decide), ?_⟩
    rw [eia, zcl (f := R) (by omega), zcl (f := L) (by omega), eL]
    refine nm_e ⟨vp_in_nI hp (by decide), yr_named hd hr (yr_newDescriptor (a := 0) hp (by decide) hq1Y (yr_smallestOpening od hq2 ?_))⟩
    exact ⟨fun q => ⟨fun e => ⟨vp_in_nI hp (by decide), (h'.1 q).1 e⟩, (h'.1 q).2⟩, h'.2⟩
  have fin : ∀ (hXf : ∀ post' : Int32 → SX → Prop, post' 0 (fu, nk, lv, qa, qz, ec + 1, pn, st, kb, ch, kw, K, lx, bo, lk, oc, eN, eV, U, F, Ww, Q, os, ps, pc, pw, rd, wr, S, pr, upd P p (P p + 1), Z, gx, R, L, D, bh, O) → wpX_open post' (fu, nk, lv, qa, qz, ec + 1, pn, st, kb, ch, kw, K, lx, bo, lk, oc, eN, eV, U, F, Ww, Q, os, ps, pc, pw, rd, wr, S, pr, upd P p (P p + 1), Z, gx, R, L, D, bh, O) (nI p) (nI a) (R (4 * p + a)) ((w >>> ((9 : Int32) &&& 31)) &&& 3)) (hYf : ∀ post' : SY → Prop, post' (qn, ec + 1, pn, 1, K, ly, wd, E, U, S, py, P, Z, gy, upd R (4 * p + 3) (-1), A, L, F, Ww, Q, fl, pp, qy, O) → wpY_open post' (qn, ec + 1, pn, 1, K, ly, wd, E, U, S, py, P, Z, gy, R, A, L, F, Ww, Q, fl, pp, qy, O) (nI p) (nI a) ((w >>> ((9 : Int32) &&& 31)) &&& 3)), ∃ (r : Int32) (u' : SX) (v' : SY), zz_Q (B + 1) p w r u' v' ∧ (∀ post : SX → Prop, post u' → wpX_execute post (fu, nk, lv, qa, qz, ec + 1, pn, st, kb, ch, kw, K, lx, bo, lk, oc, eN, eV, U, F, Ww, Q, os, ps, pc, pw, rd, wr, S, pr, P, Z, gx, R, L, D, bh, O) (nI p) w) ∧ ∀ post : Int32 → SY → Prop, post r v' → wpY_execute post (qn, ec, pn, go, K, ly, wd, E, U, S, py, P, Z, gy, R, A, L, F, Ww, Q, fl, pp, qy, O) (nI p) := fun hXf hYf =>
    ⟨1, (fu, nk, lv, qa, qz, ec + 1, pn, st, kb, ch, kw, K, lx, bo, lk, oc, eN, eV, U, F, Ww, Q, os, ps, pc, pw, rd, wr, S, pr, upd P p (P p + 1), Z, gx, upd R (4 * p + 3) (-1), L, D, bh, O), (qn, ec + 1, pn, 1, K, ly, wd, E, U, S, py, upd P p (P p + 1), Z, gy, upd R (4 * p + 3) (-1), A, L, F, Ww, Q, fl, pp, qy, O), zz_Qmk (zi_B I1 hB) (Or.inl ⟨rfl, hS, by rw [hD.1]; decide⟩),
      fun post h => xe_13 (g := 0) hp hD hXf (fun _ => h) (fun z => absurd rfl z),
      fun post h => ye_c13 hp hz eZ eP hs hw hD (fun post' h' => yc_13 hYf h') rfl h⟩
  have h73n : ∀ post' : Int32 → SX → Prop, post' 0 (fu, nk, lv, qa, qz, ec + 1, pn, st, kb, ch, kw, K, lx, bo, lk, oc, eN, eV, U, F, Ww, Q, os, ps, pc, pw, rd, wr, S, pr, upd P p (P p + 1), Z, gx, R, L, D, bh, O) → wX_open_73 post' (nI p) (nI a) (nI h) q1 q2 (-1) fu nk lv qa qz (ec + 1) pn st kb ch kw K lx bo lk oc eN eV U F Ww Q os ps pc pw rd wr S pr (upd P p (P p + 1)) Z gx R L D bh O := fun post' h' => br_f (by decide) h'
  have h89 : ∀ (post' : SY → Prop) (x5 : Int32), post' (qn, ec + 1, pn, 1, K, ly, wd, E, U, S, py, P, Z, gy, upd R (4 * p + 3) (-1), A, L, F, Ww, Q, fl, pp, qy, O) → wY_open_89 post' (nI p) (nI a) (nI h) (R (4 * p + a)) x5 q1 q2 0 qn (ec + 1) pn 1 K ly wd E U S py P Z gy R A L F Ww Q fl pp qy O := fun post' x5 h' => br_t rfl (yo_fail hp h')
  have h88 : ∀ (post' : SY → Prop) (x5 : Int32), post' (qn, ec + 1, pn, 1, K, ly, wd, E, U, S, py, P, Z, gy, upd R (4 * p + 3) (-1), A, L, F, Ww, Q, fl, pp, qy, O) → wY_open_88 post' (nI p) (nI a) (nI h) (R (4 * p + a)) x5 q1 q2 qn (ec + 1) pn 1 K ly wd E U S py P Z gy R A L F Ww Q fl pp qy O := fun post' x5 h' => br_t rfl (yo_fail hp h')
  by_cases hroom : 0 ≤ q1 ∧ 0 ≤ q2
  · have hq1' := hq1
    have hq2' := hq2
    rcases hq1' with ⟨e, _⟩ | ⟨d1, hd1, e1, ⟨_, hd0⟩, _⟩
    · rw [e] at hroom; exact absurd hroom.1 (by decide)
    rcases hq2' with ⟨e, _⟩ | ⟨o, ho, e2, hfree, _⟩
    · rw [e] at hroom; exact absurd hroom.2 (by decide)
    have n1lt : ¬ q1 < 0 := by rw [e1]; exact nI_pos (by omega)
    rcases zn_cs t3 hd hr with er | ⟨n, m, nn1, hn, hm, em, eE, er, hKn⟩
    · have hXnf : ∀ post' : Int32 → Prop, post' (-1) → wpX_namedFile post' (fu, nk, lv, qa, qz, ec + 1, pn, st, kb, ch, kw, K, lx, bo, lk, oc, eN, eV, U, F, Ww, Q, os, ps, pc, pw, rd, wr, S, pr, upd P p (P p + 1), Z, gx, R, L, D, bh, O) (nI p) (R (4 * p + a)) := fun post' h' => xr_namedFile hp eL hd hKd t6 hr (Or.inl ⟨rfl, Or.inl er⟩) h'
      have rlt : r < 0 := by rw [er]; decide
      by_cases c2 : h = 2
      · have hXfd : ∀ post' : Int32 → Prop, post' (-1) → wpX_find post' (fu, nk, lv, qa, qz, ec + 1, pn, st, kb, ch, kw, K, lx, bo, lk, oc, eN, eV, U, F, Ww, Q, os, ps, pc, pw, rd, wr, S, pr, upd P p (P p + 1), Z, gx, R, L, D, bh, O) (L p) (R (4 * p + a)) := fun post' h' => by rw [eL]; exact xr_find hd hKd t6 hr (er ▸ h')
        by_cases hno : f = -1 ∨ ¬ za_r 15 (R (4 * p + a)) ∨ l = 6
        · refine fin (fun post' h' => hXp post' (br_f n1lt (br_t hroom.2 (hXnf _ (br_f (by decide) (br_t (by rw [c2]; rfl) ⟨vp_in_nI hp (by decide), hXfd _ (br_f (by decide) ⟨vp_in_nI hp (by decide), ?_⟩)⟩)))))) (fun post' h' => hYp post' (br_t rlt (br_t (by rw [c2]; rfl) ?_)))
          · rw [eL]
            exact xd_enterNo hd hl el hK0 hf hno (h73n post' h')
          · refine yr_canEnter hd t3 hf (fun m hm em hE hnf hc6 => ?_) (fun _ => br_t rfl (h88 post' _ h'))
            rcases hno with q | q | q
            · exact absurd q hnf
            · exact absurd ⟨m, hm, em⟩ q
            · rw [ecnt] at hc6; omega
        · have hf' := hf
          rcases hf' with ⟨q, _⟩ | ⟨n, hn, ef, hKn, _⟩
          · exact absurd (Or.inl q) hno
          subst ef
          have hza : za_r 15 (R (4 * p + a)) := Classical.byContradiction fun q => hno (Or.inr (Or.inl q))
          have hl6 : l < 6 := by
            rcases Nat.lt_or_ge l 6 with q | q
            · exact q
            · exact absurd (Or.inr (Or.inr (by omega))) hno
          obtain ⟨m, hm, em⟩ := hza
          have hE : E (15 * d + m) = -1 := by
            rcases hr with ⟨m', hm', em', q⟩ | ⟨q, _⟩
            · have := zi_inj (by omega) (by omega) (em.symm.trans em')
              subst this; exact q.symm.trans er
            · exact absurd ⟨m, hm, em⟩ q
          have hnd : d ≠ n := fun e => by rw [e, hKn] at hKd; exact absurd hKd (by decide)
          have hn1 : 1 ≤ n := by
            rcases Nat.eq_zero_or_pos n with q | q
            · rw [q] at hKn; exact absurd hKn hK0
            · exact q
          have hEn : ∀ k, k < 15 → E (15 * n + k) = -1 := fun k hk => zt_nE t3 hn (by rw [hKn]; decide) hk
          have I2 := zi_new (kd := 1) I1 hd hKd hl6 el hm hn hKn hE (Or.inl rfl)
          obtain ⟨fu', kb', lx', oc', os', F', Ww', Q', D', ly', A', C', ln', dc', I3, hX3, hY3⟩ := zj_otail (ec := ec + 1) (R := R) (O := O) (Ww := Ww) (go := 1) (Py := P) (a := a) (h := h) I2 hp (Or.inl hS) hd1 ho ha4 hn1 hn pk_us hh4 hd0 hfree
          refine ⟨1, (fu', nk, lv, qa, qz, ec + 1, pn, st, kb', ch, kw, upd K n (nI 1), lx', bo, upd (upd lk n 0) n (nI 1), oc', upd eN (6 * d + l) (nI m), upd eV (6 * d + l) (nI n), upd U n (nI d), F', Ww', Q', os', ps, pc, pw, rd, wr, S, pr, upd P p (P p + 1), Z, gx, upd R (4 * p + a) (nI d1), L, D', bh, O),
            (qn, ec + 1, pn, 1, upd K n (nI 1), ly', wd, upd E (15 * d + m) (nI n), upd U n (nI d), S, py, upd P p (P p + 1), Z, gy, upd R (4 * p + a) (nI d1), A', L, F', Ww', Q', fl, pp, qy, O), zz_Qmk (zi_B I3 hB) (Or.inl ⟨rfl, hS, by rw [hD.1]; decide⟩),
            fun post h9 => xe_13 (g := 1) hp hD (fun post' h' => hXp post' (br_f n1lt (br_t hroom.2 (hXnf _ (br_f (by decide) (br_t (by rw [c2]; rfl) ⟨vp_in_nI hp (by decide), hXfd _ (br_f (by decide) ⟨vp_in_nI hp (by decide), ?_⟩)⟩)))))) (fun z => absurd z (by decide)) (fun _ => h9),
            fun post h9 => ye_c13 hp hz eZ eP hs hw hD (fun post' h' => yc_13 (fun post' h' => hYp post' (br_t rlt (br_t (by rw [c2]; rfl) ?_))) h') rfl h9⟩
          · rw [eL, em, e1, e2]
            exact xd_enterNew (kd := 1) hd hl6 el hm hn hnd (Or.inl rfl) hK0 hf (hX3 post' h')
          · rw [em]
            refine yr_canEnter hd t3 hf (fun m' hm' em' _ _ _ => br_f (by decide) ?_) (fun q => ?_)
            · unfold wY_open_89
              rw [zcl (f := L) (by omega), eL, e1, e2]
              exact br_f (by decide) (br_f (nI_pos (by omega)) (br_t (nI_pos' (by omega)) (br_f (by rw [er]; decide) ⟨vp_in_nI hp (by decide), yo_enterNew (kd := 1) hd hm hn hf hEn (hY3 post' h')⟩)))
            · rcases q with q | ⟨m', hm', em', q⟩ | q | q
              · exact absurd ⟨m, hm, rfl⟩ q
              · have := zi_inj (by omega) (by omega) em'
                subst this; exact absurd hE q
              · exact absurd q (zi_m1ne (by omega))
              · rw [ecnt] at q; omega
      · have c2' : ¬ nI h = 2 := fun q => c2 (zi_inj (b := 2) (by omega) (by decide) q)
        exact fin (fun post' h' => hXp post' (br_f n1lt (br_t hroom.2 (hXnf _ (br_f (by decide) (br_f c2' (h73n post' h'))))))) (fun post' h' => hYp post' (br_t rlt (br_f c2' (h88 post' _ h'))))
    · have rnlt : ¬ r < 0 := by rw [er]; exact nI_pos (by omega)
      have rvp : vp_in r 10 := by rw [er]; exact vp_in_nI hn (by decide)
      by_cases hK1 : K n = 1
      · obtain ⟨fu', kb', lx', oc', os', F', Ww', Q', D', ly', A', C', ln', dc', I3, hX3, hY3⟩ := zj_otail (ec := ec + 1) (R := R) (O := O) (Ww := Ww) (go := 1) (Py := P) (a := a) (h := h) I1 hp (Or.inl hS) hd1 ho ha4 nn1 hn hK1 hh4 hd0 hfree
        refine ⟨1, (fu', nk, lv, qa, qz, ec + 1, pn, st, kb', ch, kw, K, lx', bo, lk, oc', eN, eV, U, F', Ww', Q', os', ps, pc, pw, rd, wr, S, pr, upd P p (P p + 1), Z, gx, upd R (4 * p + a) (nI d1), L, D', bh, O), (qn, ec + 1, pn, 1, K, ly', wd, E, U, S, py, upd P p (P p + 1), Z, gy, upd R (4 * p + a) (nI d1), A', L, F', Ww', Q', fl, pp, qy, O), zz_Qmk (zi_B I3 hB) (Or.inl ⟨rfl, hS, by rw [hD.1]; decide⟩),
          fun post h9 => xe_13 (g := 1) hp hD (fun post' h' => hXp post' (br_f n1lt (br_t hroom.2 (xr_namedFile hp eL hd hKd t6 hr (v := nI n) (Or.inr ⟨n, hn, er, hK1, rfl⟩) (br_t (nI_pos' (by omega)) ?_))))) (fun z => absurd z (by decide)) (fun _ => h9),
          fun post h9 => ye_c13 hp hz eZ eP hs hw hD (fun post' h' => yc_13 (fun post' h' => hYp post' (br_f rnlt ⟨rvp, br_t (by rw [er, zcl (f := K) (by omega)]; exact hK1) ?_⟩)) h') rfl h9⟩
        · rw [e1, e2]; exact hX3 post' h'
        · rw [e1, e2, er]
          exact br_f (by decide) (br_f (nI_pos (by omega)) (br_t (nI_pos' (by omega)) (br_t (nI_pos' (by omega)) (hY3 post' h'))))
      · refine fin (fun post' h' => hXp post' (br_f n1lt (br_t hroom.2 (xr_namedFile hp eL hd hKd t6 hr (v := -1) (Or.inl ⟨rfl, Or.inr ⟨n, hn, er, hK1⟩⟩) (br_f (by decide) ?_))))) (fun post' h' => hYp post' (br_f rnlt ⟨rvp, br_f (by rw [er, zcl (f := K) (by omega)]; exact hK1) (h89 post' _ h')⟩))
        refine ⟨fun _ => ⟨vp_in_nI hp (by decide), ?_⟩, fun _ => h73n post' h'⟩
        rw [eL]
        exact xr_find hd hKd t6 hr (br_t (by rw [er]; exact nI_pos' (by omega)) (h73n post' h'))
  · have h891 : ∀ (post' : SY → Prop) (x5 : Int32), post' (qn, ec + 1, pn, 1, K, ly, wd, E, U, S, py, P, Z, gy, upd R (4 * p + 3) (-1), A, L, F, Ww, Q, fl, pp, qy, O) → wY_open_89 post' (nI p) (nI a) (nI h) (R (4 * p + a)) x5 q1 q2 1 qn (ec + 1) pn 1 K ly wd E U S py P Z gy R A L F Ww Q fl pp qy O := by
      intro post' x5 h'
      refine br_f (by decide) ?_
      by_cases c : q1 < 0
      · exact br_t c (yo_fail hp h')
      · exact br_f c (br_f (fun q => hroom ⟨Int32.not_lt.mp c, q⟩) (yo_fail hp h'))
    refine fin (fun post' h' => hXp post' ?_) (fun post' h' => hYp post' ?_)
    · by_cases c : q1 < 0
      · exact br_t c h'
      · exact br_f c (br_f (fun q => hroom ⟨Int32.not_lt.mp c, q⟩) h')
    · rcases zn_cs t3 hd hr with er | ⟨n, m, nn1, hn, hm, em, eE, er, hKn⟩
      · refine br_t (by rw [er]; decide) ⟨fun _ => yr_canEnter hd t3 hf (fun _ _ _ _ _ _ => br_f (by decide) (h891 post' _ h')) (fun _ => br_t rfl (h88 post' _ h')), fun _ => h88 post' _ h'⟩
      · exact br_f (by rw [er]; exact nI_pos (by omega)) ⟨by rw [er]; exact vp_in_nI hn (by decide), br_c (fun _ => h891 post' _ h') (fun _ => h89 post' _ h')⟩
end
section
/-! reading, on both sides -/
section
variable {qn : Int32} {ec : Int64} {pn go : Int32} {K ly wd E U S py Py Z gy R A L F Ww Q fl pp qy O : Nat → Int32}
theorem yo_rp49 {post : SY → Prop} {k i n : Nat} (hk : k < 2) (hi : i < 3) (h : wY_readPipe_49 post (nI k) qn ec pn go n (nI (4 * k + (i + 1))) K ly wd E U S py Py Z gy R A L F Ww Q fl (upd pp (4 * k + i) (pp (4 * k + (i + 1)))) qy O) : wY_readPipe_49 post (nI k) qn ec pn go (n + 1) (nI (4 * k + i)) K ly wd E U S py Py Z gy R A L F Ww Q fl pp qy O := by
  have e3 : 4 * nI k + 3 = nI (4 * k + 3) := by rw [zi_m4, zi_a3]
  refine br_f (by rw [e3]; exact nI_ge (by omega) (by omega)) ?_
  rw [nI_1, zcl (f := pp) (by omega), nI_clamp (n := 4 * k + i) (by omega)]
  exact ⟨vp_in_nI (by omega) (by decide), vp_in_nI (by omega) (by decide), nm_e (nm_e h)⟩
theorem yo_rp49e {post : SY → Prop} {k n c : Nat} (hk : k < 2) (ef : fl k = nI (c + 1)) (h : post (qn, ec, pn, go, K, ly, wd, E, U, S, py, Py, Z, gy, R, A, L, F, Ww, Q, upd fl k (nI c), pp, qy, O)) : wY_readPipe_49 post (nI k) qn ec pn go (n + 1) (nI (4 * k + 3)) K ly wd E U S py Py Z gy R A L F Ww Q fl pp qy O := by
  have e3 : 4 * nI k + 3 = nI (4 * k + 3) := by rw [zi_m4, zi_a3]
  refine br_t (by rw [e3]; exact nI_le (Nat.le_refl _) (by omega)) ⟨vp_in_nI hk (by decide), vp_in_nI hk (by decide), ?_⟩
  rw [zcl (f := fl) (by omega), ef, nI_pred, nI_clamp (n := k) (by omega)]
  exact nm_e h
end
/-- a word taken out of a pipe -/
theorem zi_take {B j s0 c0 : Nat} {cur : Nat} {C : Nat → Int32} {ln bl dc : Nat → Nat} {ql : List Nat} {fu : Int64} {nk lv qa qz pn : Int32} {st kb ch kw K lx bo lk oc eN eV U F Q os ps pc pw rd wr S pr P Z gx L D bh : Nat → Int32} {qn : Int32} {ly wd E py gy A fl pp qy : Nat → Int32} {pp' : Nat → Int32} (I : zz_I B cur C ln bl dc ql fu nk lv qa qz pn st kb ch kw K lx bo lk oc eN eV U F Q os ps pc pw rd wr S pr P Z gx L D bh qn ly wd E py gy A fl pp qy) (hj : j < 2) (hs0 : s0 < 4) (hc0 : c0 < 4) (es : ps j = nI s0) (epc : pc j = nI (c0 + 1)) (ef : fl j = nI (c0 + 1)) (hw : ∀ i, i < c0 + 1 → pw (4 * j + (s0 + i) % 4) = pp (4 * j + i))
    (h1 : ∀ i, i < 3 → pp' (4 * j + i) = pp (4 * j + (i + 1))) (h2 : ∀ x, x / 4 ≠ j → pp' x = pp x) : zz_I B cur C ln bl dc ql fu nk lv qa qz pn st kb ch kw K lx bo lk oc eN eV U F Q os (upd ps j (nI ((s0 + 1) % 4))) (upd pc j (nI c0)) pw rd wr S pr P Z gx L D bh qn ly wd E py gy A (upd fl j (nI c0)) pp' qy := by
  obtain ⟨i1, i2, i3, i4, i5, i6⟩ := I
  refine ⟨i1, i2, i3, ?_, i5, i6⟩
  intro j' hj' z
  by_cases c : j' = j
  · subst c
    refine ⟨(s0 + 1) % 4, c0, by omega, by omega, pk_us, pk_us, pk_us, fun i hi => ?_⟩
    rw [h1 i (by omega), ← hw (i + 1) (by omega)]
    exact congrArg pw (by omega)
  · obtain ⟨s1, c1, a1, a2, a3, a4, a5, a6⟩ := i4 j' hj' z
    refine ⟨s1, c1, a1, a2, by rw [pk_un c]; exact a3, by rw [pk_un c]; exact a4, by rw [pk_un c]; exact a5, fun i hi => ?_⟩
    rw [h2 _ (by omega)]; exact a6 i hi
theorem zx_and3 {n : Nat} (h : n < 2 ^ 31) : nI n &&& 3 = nI (n % 4) := pk_andN (by omega) (m := 3) 2 (by decide)
theorem zj_15 {B p z s a b : Nat} {w : Int32} {C : Nat → Int32} {ln bl dc : Nat → Nat} {ql : List Nat} {fu : Int64} {nk lv qa qz : Int32} {ec : Int64} {pn : Int32} {st kb ch kw K lx bo lk oc eN eV U F Ww Q os ps pc pw rd wr S pr P Z gx R L D bh O : Nat → Int32} {qn go : Int32} {ly wd E py gy A fl pp qy : Nat → Int32} (I : zz_I B p C ln bl dc ql fu nk lv qa qz pn st kb ch kw K lx bo lk oc eN eV U F Q os ps pc pw rd wr S pr P Z gx L D bh qn ly wd E py gy A fl pp qy) (hB : B + 1 < 1000000) (hp : p < 5) (hS : S p = 1) (hz : z ≤ 20) (eZ : Z p = nI z) (eP : P p = nI s) (hs : s < z) (hw : gy (20 * p + s) = w) (hD : zw_D w 15 a b) : ∃ (r : Int32) (u' : SX) (v' : SY), zz_Q (B + 1) p w r u' v' ∧ (∀ post : SX → Prop, post u' → wpX_execute post (fu, nk, lv, qa, qz, ec + 1, pn, st, kb, ch, kw, K, lx, bo, lk, oc, eN, eV, U, F, Ww, Q, os, ps, pc, pw, rd, wr, S, pr, P, Z, gx, R, L, D, bh, O) (nI p) w) ∧ ∀ post : Int32 → SY → Prop, post r v' → wpY_execute post (qn, ec, pn, go, K, ly, wd, E, U, S, py, P, Z, gy, R, A, L, F, Ww, Q, fl, pp, qy, O) (nI p) := by
  have I1 := zi_P (x := P p + 1) I (by rw [hS]; decide)
  obtain ⟨i1, i2, i3, i4, i5, i6⟩ := id I1
  have od := i3.1
  have ha4 := hD.2.2.2.2.1
  have hb4 := hD.2.2.2.2.2
  have eia : 4 * nI p + nI a = nI (4 * p + a) := by rw [zi_m4, nI_add]
  have ei3 : 4 * nI p + 3 = nI (4 * p + 3) := by rw [zi_m4, zi_a3]
  obtain ⟨c, hc⟩ := za_ex dc p (R (4 * p + b))
  have hc12 := za_12 od hp hc
  have zb := zy_le hc12
  have h48 : ∀ post' : SX → Prop, post' (fu, nk, lv, qa, qz, ec + 1, pn, st, kb, ch, kw, K, lx, bo, lk, oc, eN, eV, U, F, Ww, Q, os, ps, pc, pw, rd, wr, S, pr, upd P p (P p + 1), Z, gx, upd R (4 * p + 3) (-1), L, D, bh, O) → wX_read_48 post' (nI p) fu nk lv qa qz (ec + 1) pn st kb ch kw K lx bo lk oc eN eV U F Ww Q os ps pc pw rd wr S pr (upd P p (P p + 1)) Z gx R L D bh O := by
    intro post' h'
    unfold wX_read_48
    rw [ei3, nI_clamp (by omega)]
    exact ⟨vp_in_nI (by omega) (by decide), nm_e h'⟩
  have fin : ∀ (hXf : ∀ post' : SX → Prop, post' (fu, nk, lv, qa, qz, ec + 1, pn, st, kb, ch, kw, K, lx, bo, lk, oc, eN, eV, U, F, Ww, Q, os, ps, pc, pw, rd, wr, S, pr, upd P p (P p + 1), Z, gx, upd R (4 * p + 3) (-1), L, D, bh, O) → wpX_read post' (fu, nk, lv, qa, qz, ec + 1, pn, st, kb, ch, kw, K, lx, bo, lk, oc, eN, eV, U, F, Ww, Q, os, ps, pc, pw, rd, wr, S, pr, upd P p (P p + 1), Z, gx, R, L, D, bh, O) (nI p) (nI a) (R (4 * p + b))) (hYf : ∀ post' : SY → Prop, post' (qn, ec + 1, pn, 1, K, ly, wd, E, U, S, py, P, Z, gy, upd R (4 * p + 3) (-1), A, L, F, Ww, Q, fl, pp, qy, O) → wpY_read post' (qn, ec + 1, pn, 1, K, ly, wd, E, U, S, py, P, Z, gy, R, A, L, F, Ww, Q, fl, pp, qy, O) (nI p) (nI a) (nI b)), ∃ (r : Int32) (u' : SX) (v' : SY), zz_Q (B + 1) p w r u' v' ∧ (∀ post : SX → Prop, post u' → wpX_execute post (fu, nk, lv, qa, qz, ec + 1, pn, st, kb, ch, kw, K, lx, bo, lk, oc, eN, eV, U, F, Ww, Q, os, ps, pc, pw, rd, wr, S, pr, P, Z, gx, R, L, D, bh, O) (nI p) w) ∧ ∀ post : Int32 → SY → Prop, post r v' → wpY_execute post (qn, ec, pn, go, K, ly, wd, E, U, S, py, P, Z, gy, R, A, L, F, Ww, Q, fl, pp, qy, O) (nI p) := fun hXf hYf =>
    ⟨1, (fu, nk, lv, qa, qz, ec + 1, pn, st, kb, ch, kw, K, lx, bo, lk, oc, eN, eV, U, F, Ww, Q, os, ps, pc, pw, rd, wr, S, pr, upd P p (P p + 1), Z, gx, upd R (4 * p + 3) (-1), L, D, bh, O), (qn, ec + 1, pn, 1, K, ly, wd, E, U, S, py, upd P p (P p + 1), Z, gy, upd R (4 * p + 3) (-1), A, L, F, Ww, Q, fl, pp, qy, O), zz_Qmk (zi_B I1 hB) (Or.inl ⟨rfl, hS, by rw [hD.1]; decide⟩), fun post h => xe_15 hp hD hXf h,
      fun post h => ye_c15 hp hz eZ eP hs hw hD (fun post' h' => yc_15 hYf h') rfl h⟩
  have hheld : c ≠ 0 → zh_o dc c := by
    intro c0
    rcases hc with ⟨j, hj, _, q⟩ | ⟨_, q⟩
    · exact ⟨4 * p + j, by omega, q.symm⟩
    · exact absurd q c0
  rcases zx_cs hc12 with e | ⟨o, ho, e⟩ | ⟨j, hj, e⟩ | ⟨j, hj, e⟩
  · subst e
    refine fin (fun post' h' => ?_) (fun post' h' => ?_)
    · unfold wpX_read
      exact xr_endAt hp od hc (br_t rfl (h48 post' h'))
    · unfold wpY_read
      exact yr_endOf hp hb4 od hc (yr_inN (v := zyn 0) (a := 101) (b := 102) (by omega) (by decide) (by decide) (fun q _ => absurd q (by decide)) (fun _ => br_t rfl (yr_inN (v := zyn 0) (a := 1) (b := 8) (by omega) (by decide) (by decide) (fun q _ => absurd q (by decide)) (fun _ => br_t rfl (yo_fail hp h')))))
  · -- an opening
    subst e
    obtain ⟨⟨n, n1, hn, eF, hK⟩, q, hq, eQ⟩ := i3.2.2.1 o ho (hheld (by omega))
    obtain ⟨hl, el⟩ := i2.2.1.1 n hn hK
    obtain ⟨ey, hwd⟩ := i2.2.2 n hn hK
    have hX0 : ∀ post' : SX → Prop, wX_read_29 post' (nI p) (nI a) (nI (1 + o)) fu nk lv qa qz (ec + 1) pn st kb ch kw K lx bo lk oc eN eV U F Ww Q os ps pc pw rd wr S pr (upd P p (P p + 1)) Z gx R L D bh O → wpX_read post' (fu, nk, lv, qa, qz, ec + 1, pn, st, kb, ch, kw, K, lx, bo, lk, oc, eN, eV, U, F, Ww, Q, os, ps, pc, pw, rd, wr, S, pr, upd P p (P p + 1), Z, gx, R, L, D, bh, O) (nI p) (nI a) (R (4 * p + b)) := by
      intro post' h'
      unfold wpX_read
      refine xr_endAt hp od hc (br_f (zx_nz hc12 (by omega)) ?_)
      rw [zx_o ho]
      exact br_t (nI_lt (b := 16) (by omega) (by decide)) h'
    by_cases cw : Ww o = 0
    · have hX1 : ∀ post' : SX → Prop, ((lx n ≤ nI q → wX_read_117 post' (nI p) (nI a) (nI o) 0 fu nk lv qa qz (ec + 1) pn st kb ch kw K lx bo lk oc eN eV U F Ww Q os ps pc pw rd wr S pr (upd P p (P p + 1)) Z gx R L D bh O) ∧ (¬ lx n ≤ nI q → wX_read_117 post' (nI p) (nI a) (nI o) 1 fu nk lv qa qz (ec + 1) pn st kb ch kw K lx bo lk oc eN eV U F Ww Q os ps pc pw rd wr S pr (upd P p (P p + 1)) Z gx R L D bh O)) → wpX_read post' (fu, nk, lv, qa, qz, ec + 1, pn, st, kb, ch, kw, K, lx, bo, lk, oc, eN, eV, U, F, Ww, Q, os, ps, pc, pw, rd, wr, S, pr, upd P p (P p + 1), Z, gx, R, L, D, bh, O) (nI p) (nI a) (R (4 * p + b)) := by
        intro post' h'
        refine hX0 post' ?_
        unfold wX_read_29
        rw [zx_opn o ho, zcl (f := Ww) (by omega)]
        refine br_f (nI_ge (b := 16) (by omega) (by decide)) ⟨vp_in_nI ho (by decide), br_t cw ?_⟩
        unfold wX_read_60
        rw [zx_opn o ho]
        refine br_t (nI_lt (b := 16) (by omega) (by decide)) (nm_e ⟨vp_in_nI ho (by decide), vp_in_nI ho (by decide), ?_⟩)
        rw [zcl (f := F) (by omega), eF, zcl (f := lx) (by omega), zcl (f := Q) (by omega), eQ]
        exact ⟨vp_in_nI hn (by decide), h'⟩
      have hYp : ∀ post' : SY → Prop, (q < ln n → post' (qn, ec + 1, pn, 1, K, ly, wd, E, U, S, py, P, Z, gy, upd (upd R (4 * p + 3) 1) (4 * p + a) (wd (20 * n + q)), A, L, F, Ww, upd Q o (nI (q + 1)), fl, pp, qy, O)) → (¬ q < ln n → post' (qn, ec + 1, pn, 1, K, ly, wd, E, U, S, py, P, Z, gy, upd R (4 * p + 3) 0, A, L, F, Ww, Q, fl, pp, qy, O)) → wpY_read post' (qn, ec + 1, pn, 1, K, ly, wd, E, U, S, py, P, Z, gy, R, A, L, F, Ww, Q, fl, pp, qy, O) (nI p) (nI a) (nI b) := by
        intro post' h1 h0
        unfold wpY_read
        refine yr_endOf hp hb4 od hc ?_
        rw [zy_o ho]
        refine yr_inN (v := 1 + o) (a := 101) (b := 102) (by omega) (by decide) (by decide) (fun y _ => by omega) (fun _ => br_t rfl (yr_inN (v := 1 + o) (a := 1) (b := 8) (by omega) (by decide) (by decide) (fun _ _ => br_f (by decide) ?_) (fun y => absurd ⟨by omega, by omega⟩ y)))
        rw [zx_opn o ho, zcl (f := Ww) (by omega)]
        refine ⟨vp_in_nI ho (by decide), br_t cw (nm_e ⟨vp_in_nI ho (by decide), vp_in_nI ho (by decide), ?_⟩)⟩
        rw [zcl (f := F) (by omega), eF, zcl (f := ly) (by omega), ey, zcl (f := Q) (by omega), eQ]
        refine ⟨vp_in_nI hn (by decide), ?_⟩
        by_cases cq : q < ln n
        · refine br_t (nI_lt cq (by omega)) (yo_done hp ⟨vp_in_nI ho (by decide), vp_in_nI ho (by decide), ?_⟩)
          rw [zcl (f := F) (by omega), eF, zcl (f := Q) (by omega), eQ, zi_m20, nI_add, zcl (f := wd) (by omega), eia, nI_clamp (n := 4 * p + a) (by omega), nI_clamp (n := o) (by omega), nI_1]
          exact ⟨vp_in_nI (by omega) (by decide), vp_in_nI (by omega) (by decide), nm_e ⟨vp_in_nI ho (by decide), vp_in_nI ho (by decide), nm_e (h1 cq)⟩⟩
        · rw [ei3, nI_clamp (n := 4 * p + 3) (by omega)]
          exact br_f (nI_nlt (by omega) (by omega)) ⟨vp_in_nI (by omega) (by decide), nm_e (h0 cq)⟩
      by_cases cq : q < ln n
      · have hv : zr_V K ln (5 * n + q / 4) := by
          have e5 : (5 * n + q / 4) / 5 = n := by omega
          refine ⟨by rw [e5]; exact hK, ?_⟩
          rw [e5]; omega
        obtain ⟨b1, b2, b3⟩ := i2.2.1.2.1 _ (by omega) hv
        obtain ⟨nk', st', kb', ch', kw', HS', hXw⟩ := xs_wordAt (fu := fu) (nk := nk) (lv := lv) (qa := qa) (qz := qz) (ec := ec + 1) (pn := pn) (st := st) (kb := kb) (ch := ch) (kw := kw) (K := K) (lx := lx) (bo := bo) (lk := lk) (oc := oc) (eN := eN) (eV := eV) (U := U) (F := F) (Ww := Ww) (Q := Q) (os := os) (ps := ps) (pc := pc) (pw := pw) (rd := rd) (wr := wr) (S := S) (pr := pr) (P := upd P p (P p + 1)) (Z := Z) (gx := gx) (R := upd R (4 * p + 3) 1) (L := L) (D := D) (bh := bh) (O := O) (n := n) (i := q) i2.1 hn (by omega) b1 b3 b2
        have I' : zz_I B p C ln bl dc ql fu nk' lv qa qz pn st' kb' ch' kw' K lx bo lk oc eN eV U F (upd Q o (nI (q + 1))) os ps pc pw rd wr S pr (upd P p (P p + 1)) Z gx L D bh qn ly wd E py gy A fl pp qy := by
          refine ⟨i1, ⟨HS', i2.2⟩, ⟨i3.1, i3.2.1, ?_, i3.2.2.2⟩, i4, i5, i6⟩
          intro o' ho' z'
          obtain ⟨y1, y2⟩ := i3.2.2.1 o' ho' z'
          refine ⟨y1, ?_⟩
          by_cases co : o' = o
          · subst co; exact ⟨q + 1, by omega, pk_us⟩
          · rw [pk_un co]; exact y2
        refine ⟨1, (fu, nk', lv, qa, qz, ec + 1, pn, st', kb', ch', kw', K, lx, bo, lk, oc, eN, eV, U, F, Ww, upd Q o (nI (q + 1)), os, ps, pc, pw, rd, wr, S, pr, upd P p (P p + 1), Z, gx, upd (upd R (4 * p + 3) 1) (4 * p + a) (wd (20 * n + q)), L, D, bh, O), (qn, ec + 1, pn, 1, K, ly, wd, E, U, S, py, upd P p (P p + 1), Z, gy, upd (upd R (4 * p + 3) 1) (4 * p + a) (wd (20 * n + q)), A, L, F, Ww, upd Q o (nI (q + 1)), fl, pp, qy, O), zz_Qmk (zi_B I' hB) (Or.inl ⟨rfl, hS, by rw [hD.1]; decide⟩),
          fun post h => xe_15 hp hD (fun post' h' => hX1 post' (br_f (by rw [el]; exact nI_ge cq (by omega)) ?_)) h,
          fun post h => ye_c15 hp hz eZ eP hs hw hD (fun post' h' => yc_15 (fun post' h' => hYp post' (fun _ => h') (fun y => absurd cq y)) h') rfl h⟩
        unfold wX_read_117
        refine br_f (by decide) ?_
        unfold wX_read_138
        rw [ei3, nI_clamp (n := 4 * p + 3) (by omega), zcl (f := F) (by omega), eF, zcl (f := Q) (by omega), eQ]
        refine ⟨vp_in_nI (by omega) (by decide), nm_e (br_f (by decide) ⟨vp_in_nI ho (by decide), vp_in_nI ho (by decide), hXw _ ⟨by rw [eia]; exact vp_in_nI (by omega) (by decide), ?_⟩⟩)⟩
        rw [← hwd q cq, eia, nI_clamp (n := 4 * p + a) (by omega), nI_clamp (n := o) (by omega), eQ, nI_1, zb_nar8 (by omega)]
        exact nm_e ⟨vp_in_nI ho (by decide), vp_in_nI ho (by decide), nm_e h'⟩
      · refine ⟨1, (fu, nk, lv, qa, qz, ec + 1, pn, st, kb, ch, kw, K, lx, bo, lk, oc, eN, eV, U, F, Ww, Q, os, ps, pc, pw, rd, wr, S, pr, upd P p (P p + 1), Z, gx, upd R (4 * p + 3) 0, L, D, bh, O), (qn, ec + 1, pn, 1, K, ly, wd, E, U, S, py, upd P p (P p + 1), Z, gy, upd R (4 * p + 3) 0, A, L, F, Ww, Q, fl, pp, qy, O), zz_Qmk (zi_B I1 hB) (Or.inl ⟨rfl, hS, by rw [hD.1]; decide⟩),
          fun post h => xe_15 hp hD (fun post' h' => hX1 post' (br_t (by rw [el]; exact nI_le (by omega) (by omega)) ?_)) h,
          fun post h => ye_c15 hp hz eZ eP hs hw hD (fun post' h' => yc_15 (fun post' h' => hYp post' (fun y => absurd y cq) (fun _ => h')) h') rfl h⟩
        unfold wX_read_117
        refine br_t rfl ?_
        unfold wX_read_138
        rw [ei3, nI_clamp (n := 4 * p + 3) (by omega)]
        exact ⟨vp_in_nI (by omega) (by decide), nm_e (br_t rfl h')⟩
    · refine fin (fun post' h' => hX0 post' ?_) (fun post' h' => ?_)
      · unfold wX_read_29
        rw [zx_opn o ho, zcl (f := Ww) (by omega)]
        exact br_f (nI_ge (b := 16) (by omega) (by decide)) ⟨vp_in_nI ho (by decide), br_f cw (h48 post' h')⟩
      · unfold wpY_read
        refine yr_endOf hp hb4 od hc ?_
        rw [zy_o ho]
        refine yr_inN (v := 1 + o) (a := 101) (b := 102) (by omega) (by decide) (by decide) (fun y _ => by omega) (fun _ => br_t rfl (yr_inN (v := 1 + o) (a := 1) (b := 8) (by omega) (by decide) (by decide) (fun _ _ => br_f (by decide) ?_) (fun y => absurd ⟨by omega, by omega⟩ y)))
        rw [zx_opn o ho, zcl (f := Ww) (by omega)]
        exact ⟨vp_in_nI ho (by decide), br_f cw (yo_fail hp h')⟩
  · -- a reading end
    subst e
    obtain ⟨s0, c0, hs0, hc0, es, epc, efl, hpw⟩ := i4 j hj (Or.inl (hheld (by omega)))
    have hX0 : ∀ post' : SX → Prop, wpX_readPipe (fun u => post' u) (fu, nk, lv, qa, qz, ec + 1, pn, st, kb, ch, kw, K, lx, bo, lk, oc, eN, eV, U, F, Ww, Q, os, ps, pc, pw, rd, wr, S, pr, upd P p (P p + 1), Z, gx, R, L, D, bh, O) (nI p) (nI a) (nI j) → wpX_read post' (fu, nk, lv, qa, qz, ec + 1, pn, st, kb, ch, kw, K, lx, bo, lk, oc, eN, eV, U, F, Ww, Q, os, ps, pc, pw, rd, wr, S, pr, upd P p (P p + 1), Z, gx, R, L, D, bh, O) (nI p) (nI a) (R (4 * p + b)) := by
      intro post' h'
      unfold wpX_read
      refine xr_endAt hp od hc (br_f (zx_nz hc12 (by omega)) ?_)
      rw [zx_r hj]
      refine br_f (nI_nlt (b := 16) (by omega) (by omega)) (xr_isRd0 hj (br_f (by decide) (br_t (nI_le (a := 16) (by omega) (by omega)) ?_)))
      exact br_f (nI_nlt (b := 16) (by omega) (by omega)) (xr_pipe0 hj h')
    have hY0 : ∀ post' : SY → Prop, wpY_readPipe (fun u => post' u) (qn, ec + 1, pn, 1, K, ly, wd, E, U, S, py, P, Z, gy, R, A, L, F, Ww, Q, fl, pp, qy, O) (nI p) (nI a) (nI j) → wpY_read post' (qn, ec + 1, pn, 1, K, ly, wd, E, U, S, py, P, Z, gy, R, A, L, F, Ww, Q, fl, pp, qy, O) (nI p) (nI a) (nI b) := by
      intro post' h'
      unfold wpY_read
      refine yr_endOf hp hb4 od hc ?_
      rw [zy_r hj]
      refine yr_inN (v := 101 + j) (a := 101) (b := 102) (by omega) (by decide) (by decide) (fun _ _ => br_f (by decide) ?_) (fun y => absurd ⟨by omega, by omega⟩ y)
      rw [(zy_pr j hj).2.2.2.2.1]
      exact h'
    cases c0 with
    | zero =>
      refine ⟨1, (fu, nk, lv, qa, qz, ec + 1, pn, st, kb, ch, kw, K, lx, bo, lk, oc, eN, eV, U, F, Ww, Q, os, ps, pc, pw, rd, wr, S, pr, upd P p (P p + 1), Z, gx, upd R (4 * p + 3) 0, L, D, bh, O), (qn, ec + 1, pn, 1, K, ly, wd, E, U, S, py, upd P p (P p + 1), Z, gy, upd R (4 * p + 3) 0, A, L, F, Ww, Q, fl, pp, qy, O), zz_Qmk (zi_B I1 hB) (Or.inl ⟨rfl, hS, by rw [hD.1]; decide⟩),
        fun post h => xe_15 hp hD (fun post' h' => hX0 post' ⟨vp_in_nI hj (by decide), ?_⟩) h,
        fun post h => ye_c15 hp hz eZ eP hs hw hD (fun post' h' => yc_15 (fun post' h' => hY0 post' ⟨vp_in_nI hj (by decide), ?_⟩) h') rfl h⟩
      · rw [zcl (f := pc) (by omega), epc]
        refine br_t (by decide) ?_
        unfold wX_readPipe_23
        rw [ei3, nI_clamp (n := 4 * p + 3) (by omega), zcl (f := pc) (by omega), epc]
        exact ⟨vp_in_nI (by omega) (by decide), nm_e ⟨vp_in_nI hj (by decide), br_t rfl h'⟩⟩
      · rw [zcl (f := fl) (by omega), efl, ei3, nI_clamp (n := 4 * p + 3) (by omega)]
        exact br_t rfl ⟨vp_in_nI (by omega) (by decide), nm_e h'⟩
    | succ c0 =>
      have I' := zi_take (pp' := upd (upd (upd pp (4 * j + 0) (pp (4 * j + (0 + 1)))) (4 * j + 1) (upd pp (4 * j + 0) (pp (4 * j + (0 + 1))) (4 * j + (1 + 1)))) (4 * j + 2) (upd (upd pp (4 * j + 0) (pp (4 * j + (0 + 1)))) (4 * j + 1) (upd pp (4 * j + 0) (pp (4 * j + (0 + 1))) (4 * j + (1 + 1))) (4 * j + (2 + 1)))) I1 hj hs0 (by omega) es epc efl hpw (by
          intro i hi
          rcases (show i = 0 ∨ i = 1 ∨ i = 2 by omega) with e | e | e <;> subst e
          · rw [pk_un (by omega), pk_un (by omega), pk_us]
          · rw [pk_un (by omega), pk_us, pk_un (by omega)]
          · rw [pk_us, pk_un (by omega), pk_un (by omega)]) (by
          intro x hx
          rw [pk_un (by omega), pk_un (by omega), pk_un (by omega)])
      have ew : pw (4 * j + s0) = pp (4 * j) := by
        have := hpw 0 (by omega)
        rw [show (s0 + 0) % 4 = s0 by omega] at this
        exact this
      refine ⟨1, (fu, nk, lv, qa, qz, ec + 1, pn, st, kb, ch, kw, K, lx, bo, lk, oc, eN, eV, U, F, Ww, Q, os, upd ps j (nI ((s0 + 1) % 4)), upd pc j (nI c0), pw, rd, wr, S, pr, upd P p (P p + 1), Z, gx, upd (upd R (4 * p + 3) 1) (4 * p + a) (pp (4 * j)), L, D, bh, O),
        (qn, ec + 1, pn, 1, K, ly, wd, E, U, S, py, upd P p (P p + 1), Z, gy, upd (upd R (4 * p + 3) 1) (4 * p + a) (pp (4 * j)), A, L, F, Ww, Q, upd fl j (nI c0), upd (upd (upd pp (4 * j + 0) (pp (4 * j + (0 + 1)))) (4 * j + 1) (upd pp (4 * j + 0) (pp (4 * j + (0 + 1))) (4 * j + (1 + 1)))) (4 * j + 2) (upd (upd pp (4 * j + 0) (pp (4 * j + (0 + 1)))) (4 * j + 1) (upd pp (4 * j + 0) (pp (4 * j + (0 + 1))) (4 * j + (1 + 1))) (4 * j + (2 + 1))), qy, O), zz_Qmk (zi_B I' hB) (Or.inl ⟨rfl, hS, by rw [hD.1]; decide⟩),
        fun post h => xe_15 hp hD (fun post' h' => hX0 post' ⟨vp_in_nI hj (by decide), ?_⟩) h,
        fun post h => ye_c15 hp hz eZ eP hs hw hD (fun post' h' => yc_15 (fun post' h' => hY0 post' ⟨vp_in_nI hj (by decide), ?_⟩) h') rfl h⟩
      · rw [zcl (f := pc) (by omega), epc]
        refine br_f (nI_nle (by omega) (by omega)) ?_
        unfold wX_readPipe_23
        rw [ei3, nI_clamp (n := 4 * p + 3) (by omega), zcl (f := pc) (by omega), epc, zcl (f := ps) (by omega), es, zi_m4, nI_add, zcl (f := pw) (by omega), ew, eia, nI_clamp (n := 4 * p + a) (by omega), nI_1, zx_and3 (by omega), zb_nar8 (by omega), nI_clamp (n := j) (by omega), nI_pred, zb_nar8 (by omega)]
        exact ⟨vp_in_nI (by omega) (by decide), nm_e ⟨vp_in_nI hj (by decide), br_f (nI_ne0 (by omega) (by omega)) ⟨vp_in_nI hj (by decide), vp_in_nI (by omega) (by decide), vp_in_nI (by omega) (by decide), nm_e ⟨vp_in_nI hj (by decide), vp_in_nI hj (by decide), nm_e ⟨vp_in_nI hj (by decide), vp_in_nI hj (by decide), nm_e h'⟩⟩⟩⟩⟩
      · rw [zcl (f := fl) (by omega), efl]
        refine br_f (nI_ne0 (by omega) (by omega)) (yo_done hp ⟨by rw [zi_m4]; exact vp_in_nI (by omega) (by decide), ?_⟩)
        rw [zi_m4 j, zcl (f := pp) (by omega), eia, nI_clamp (n := 4 * p + a) (by omega)]
        refine ⟨vp_in_nI (by omega) (by decide), nm_e (nm_r (e' := nI (4 * j + 0)) rfl ⟨4, ?_⟩)⟩
        exact yo_rp49 (i := 0) hj (by decide) (yo_rp49 (i := 1) hj (by decide) (yo_rp49 (i := 2) hj (by decide) (yo_rp49e hj efl h')))
  · subst e
    refine fin (fun post' h' => ?_) (fun post' h' => ?_)
    · unfold wpX_read
      refine xr_endAt hp od hc (br_f (zx_nz hc12 (by omega)) ?_)
      rw [zx_w hj]
      exact br_f (nI_nlt (b := 16) (by omega) (by omega)) (xr_isRd1 hj (br_t rfl (h48 post' h')))
    · unfold wpY_read
      refine yr_endOf hp hb4 od hc ?_
      rw [zy_w hj]
      exact yr_inN (v := 201 + j) (a := 101) (b := 102) (by omega) (by decide) (by decide) (fun _ y => by omega) (fun _ => br_t rfl (yr_inN (v := 201 + j) (a := 1) (b := 8) (by omega) (by decide) (by decide) (fun _ y => by omega) (fun _ => br_t rfl (yo_fail hp h'))))
end
section
/-! writing, on both sides -/
theorem zi_give {B j s0 c0 : Nat} {cur : Nat} {C : Nat → Int32} {ln bl dc : Nat → Nat} {ql : List Nat} {fu : Int64} {nk lv qa qz pn : Int32} {st kb ch kw K lx bo lk oc eN eV U F Q os ps pc pw rd wr S pr P Z gx L D bh : Nat → Int32} {qn : Int32} {ly wd E py gy A fl pp qy : Nat → Int32} {v : Int32} (I : zz_I B cur C ln bl dc ql fu nk lv qa qz pn st kb ch kw K lx bo lk oc eN eV U F Q os ps pc pw rd wr S pr P Z gx L D bh qn ly wd E py gy A fl pp qy) (hj : j < 2) (hs0 : s0 < 4) (hc0 : c0 < 4) (es : ps j = nI s0) (hw : ∀ i, i < c0 → pw (4 * j + (s0 + i) % 4) = pp (4 * j + i)) :
    zz_I B cur C ln bl dc ql fu nk lv qa qz pn st kb ch kw K lx bo lk oc eN eV U F Q os ps (upd pc j (nI (c0 + 1))) (upd pw (4 * j + (s0 + c0) % 4) v) rd wr S pr P Z gx L D bh qn ly wd E py gy A (upd fl j (nI (c0 + 1))) (upd pp (4 * j + c0) v) qy := by
  obtain ⟨i1, i2, i3, i4, i5, i6⟩ := I
  refine ⟨i1, i2, i3, ?_, i5, i6⟩
  intro j' hj' z
  by_cases c : j' = j
  · subst c
    refine ⟨s0, c0 + 1, hs0, by omega, es, pk_us, pk_us, fun i hi => ?_⟩
    by_cases ci : i = c0
    · subst ci; rw [pk_us, pk_us]
    · rw [pk_un (by omega), pk_un (by omega)]; exact hw i (by omega)
  · obtain ⟨s1, c1, a1, a2, a3, a4, a5, a6⟩ := i4 j' hj' z
    refine ⟨s1, c1, a1, a2, a3, by rw [pk_un c]; exact a4, by rw [pk_un c]; exact a5, fun i hi => ?_⟩
    rw [pk_un (by omega), pk_un (by omega)]; exact a6 i hi
theorem zj_16 {B p z s a b : Nat} {w : Int32} {C : Nat → Int32} {ln bl dc : Nat → Nat} {ql : List Nat} {fu : Int64} {nk lv qa qz : Int32} {ec : Int64} {pn : Int32} {st kb ch kw K lx bo lk oc eN eV U F Ww Q os ps pc pw rd wr S pr P Z gx R L D bh O : Nat → Int32} {qn go : Int32} {ly wd E py gy A fl pp qy : Nat → Int32} (I : zz_I B p C ln bl dc ql fu nk lv qa qz pn st kb ch kw K lx bo lk oc eN eV U F Q os ps pc pw rd wr S pr P Z gx L D bh qn ly wd E py gy A fl pp qy) (hB : B + 1 < 1000000) (hp : p < 5) (hS : S p = 1) (hz : z ≤ 20) (eZ : Z p = nI z) (eP : P p = nI s) (hs : s < z) (hw : gy (20 * p + s) = w) (hD : zw_D w 16 a b) {c : Nat} (hc : za_c dc p (R (4 * p + b)) c) (hnw : ¬ zw_W S pr dc pc p w c) : ∃ (r : Int32) (u' : SX) (v' : SY), zz_Q (B + 1) p w r u' v' ∧ (∀ post : SX → Prop, post u' → wpX_execute post (fu, nk, lv, qa, qz, ec + 1, pn, st, kb, ch, kw, K, lx, bo, lk, oc, eN, eV, U, F, Ww, Q, os, ps, pc, pw, rd, wr, S, pr, P, Z, gx, R, L, D, bh, O) (nI p) w) ∧ ∀ post : Int32 → SY → Prop, post r v' → wpY_execute post (qn, ec, pn, go, K, ly, wd, E, U, S, py, P, Z, gy, R, A, L, F, Ww, Q, fl, pp, qy, O) (nI p) := by
  have I1 := zi_P (x := P p + 1) I (by rw [hS]; decide)
  obtain ⟨i1, i2, i3, i4, i5, i6⟩ := id I1
  have od := i3.1
  have ha4 := hD.2.2.2.2.1
  have hb4 := hD.2.2.2.2.2
  have eia : 4 * nI p + nI a = nI (4 * p + a) := by rw [zi_m4, nI_add]
  have ei3 : 4 * nI p + 3 = nI (4 * p + 3) := by rw [zi_m4, zi_a3]
  have hc12 := za_12 od hp hc
  have zb := zy_le hc12
  have h77 : ∀ post' : SX → Prop, post' (fu, nk, lv, qa, qz, ec + 1, pn, st, kb, ch, kw, K, lx, bo, lk, oc, eN, eV, U, F, Ww, Q, os, ps, pc, pw, rd, wr, S, pr, upd P p (P p + 1), Z, gx, upd R (4 * p + 3) (-1), L, D, bh, O) → wX_write_77 post' (nI p) 0 fu nk lv qa qz (ec + 1) pn st kb ch kw K lx bo lk oc eN eV U F Ww Q os ps pc pw rd wr S pr (upd P p (P p + 1)) Z gx R L D bh O := by
    intro post' h'
    unfold wX_write_77
    rw [ei3, nI_clamp (by omega)]
    exact br_t rfl ⟨vp_in_nI (by omega) (by decide), nm_e h'⟩
  have fin : ∀ (hXf : ∀ post' : SX → Prop, post' (fu, nk, lv, qa, qz, ec + 1, pn, st, kb, ch, kw, K, lx, bo, lk, oc, eN, eV, U, F, Ww, Q, os, ps, pc, pw, rd, wr, S, pr, upd P p (P p + 1), Z, gx, upd R (4 * p + 3) (-1), L, D, bh, O) → wpX_write post' (fu, nk, lv, qa, qz, ec + 1, pn, st, kb, ch, kw, K, lx, bo, lk, oc, eN, eV, U, F, Ww, Q, os, ps, pc, pw, rd, wr, S, pr, upd P p (P p + 1), Z, gx, R, L, D, bh, O) (nI p) (R (4 * p + a)) (R (4 * p + b))) (hYf : ∀ post' : SY → Prop, post' (qn, ec + 1, pn, 1, K, ly, wd, E, U, S, py, P, Z, gy, upd R (4 * p + 3) (-1), A, L, F, Ww, Q, fl, pp, qy, O) → wpY_write post' (qn, ec + 1, pn, 1, K, ly, wd, E, U, S, py, P, Z, gy, R, A, L, F, Ww, Q, fl, pp, qy, O) (nI p) (nI a) (nI b)), ∃ (r : Int32) (u' : SX) (v' : SY), zz_Q (B + 1) p w r u' v' ∧ (∀ post : SX → Prop, post u' → wpX_execute post (fu, nk, lv, qa, qz, ec + 1, pn, st, kb, ch, kw, K, lx, bo, lk, oc, eN, eV, U, F, Ww, Q, os, ps, pc, pw, rd, wr, S, pr, P, Z, gx, R, L, D, bh, O) (nI p) w) ∧ ∀ post : Int32 → SY → Prop, post r v' → wpY_execute post (qn, ec, pn, go, K, ly, wd, E, U, S, py, P, Z, gy, R, A, L, F, Ww, Q, fl, pp, qy, O) (nI p) := fun hXf hYf =>
    ⟨1, (fu, nk, lv, qa, qz, ec + 1, pn, st, kb, ch, kw, K, lx, bo, lk, oc, eN, eV, U, F, Ww, Q, os, ps, pc, pw, rd, wr, S, pr, upd P p (P p + 1), Z, gx, upd R (4 * p + 3) (-1), L, D, bh, O), (qn, ec + 1, pn, 1, K, ly, wd, E, U, S, py, upd P p (P p + 1), Z, gy, upd R (4 * p + 3) (-1), A, L, F, Ww, Q, fl, pp, qy, O), zz_Qmk (zi_B I1 hB) (Or.inl ⟨rfl, hS, by rw [hD.1]; decide⟩), fun post h => xe_16 hp hD hXf h,
      fun post h => ye_c16 hp hz eZ eP hs hw hD (fun post' h' => yc_16 hYf h') rfl h⟩
  have hheld : c ≠ 0 → zh_o dc c := by
    intro c0
    rcases hc with ⟨j, hj, _, q⟩ | ⟨_, q⟩
    · exact ⟨4 * p + j, by omega, q.symm⟩
    · exact absurd q c0
  have hY0 : ∀ post' : SY → Prop, (zyn c < 201 → wpY_in (fun r_54 => (((r_54 = 0 → (wY_write_130 post' (nI p) (nI (zyn c)) (R (4 * p + a)) 0 qn (ec + 1) pn 1 K ly wd E U S py P Z gy R A L F Ww Q fl pp qy O)) ∧ (¬ r_54 = 0 → (wY_write_130 post' (nI p) (nI (zyn c)) (R (4 * p + a)) (nI (zyn c) - 1) qn (ec + 1) pn 1 K ly wd E U S py P Z gy R A L F Ww Q fl pp qy O))))) (qn, ec + 1, pn, 1, K, ly, wd, E, U, S, py, P, Z, gy, R, A, L, F, Ww, Q, fl, pp, qy, O) (nI (zyn c)) 1 8) → zyn c < 201 → wpY_write post' (qn, ec + 1, pn, 1, K, ly, wd, E, U, S, py, P, Z, gy, R, A, L, F, Ww, Q, fl, pp, qy, O) (nI p) (nI a) (nI b) := by
    intro post' h' hlt
    unfold wpY_write
    refine yr_endOf hp hb4 od hc ⟨by rw [eia]; exact vp_in_nI (by omega) (by decide), ?_⟩
    rw [eia, zcl (f := R) (i := 4 * p + a) (by omega)]
    exact nm_e (yr_inN (v := zyn c) (a := 201) (b := 202) (by omega) (by decide) (by decide) (fun y _ => by omega) (fun _ => br_t rfl (h' hlt)))
  have h130f : ∀ (post' : SY → Prop) (z0 o : Nat), zyn c < 1 ∨ 8 < zyn c → o < 8 → post' (qn, ec + 1, pn, 1, K, ly, wd, E, U, S, py, P, Z, gy, upd R (4 * p + 3) (-1), A, L, F, Ww, Q, fl, pp, qy, O) → wY_write_130 post' (nI p) (nI (zyn c)) (R (4 * p + a)) (nI o) qn (ec + 1) pn 1 K ly wd E U S py P Z gy R A L F Ww Q fl pp qy O := by
    intro post' _ o hno ho h'
    unfold wY_write_130
    exact ⟨vp_in_nI ho (by decide), nm_e (yr_inN (v := zyn c) (a := 1) (b := 8) (by omega) (by decide) (by decide) (fun y1 y2 => by omega) (fun _ => br_t rfl (yo_fail hp h')))⟩
  rcases zx_cs hc12 with e | ⟨o, ho, e⟩ | ⟨j, hj, e⟩ | ⟨j, hj, e⟩
  · subst e
    refine fin (fun post' h' => ?_) (fun post' h' => hY0 post' (fun _ => ?_) (by decide))
    · unfold wpX_write
      refine xr_endAt hp od hc (br_t rfl ?_)
      exact br_t rfl (br_t rfl (h77 post' h'))
    · exact yr_inN (v := zyn 0) (a := 1) (b := 8) (by omega) (by decide) (by decide) (fun y _ => absurd y (by decide)) (fun _ => br_t rfl (h130f post' 0 0 (Or.inl (by decide)) (by decide) h'))
  · -- an opening
    subst e
    obtain ⟨⟨n, n1, hn, eF, hK⟩, q, hq, eQ⟩ := i3.2.2.1 o ho (hheld (by omega))
    obtain ⟨hl, el⟩ := i2.2.1.1 n hn hK
    obtain ⟨ey, hwd⟩ := i2.2.2 n hn hK
    have hX0 : ∀ post' : SX → Prop, wpX_writeFile (fun r_48 u => match u with | (fu2, nk2, lv2, qa2, qz2, ec2, pn2, st2, kb2, ch2, kw2, K2, lx2, bo2, lk2, oc2, eN2, eV2, U2, F2, Ww2, Q2, os2, ps2, pc2, pw2, rd2, wr2, S2, pr2, P2, Z2, gx2, R2, L2, D2, bh2, O2) => (wX_write_77 post' (nI p) r_48 fu2 nk2 lv2 qa2 qz2 ec2 pn2 st2 kb2 ch2 kw2 K2 lx2 bo2 lk2 oc2 eN2 eV2 U2 F2 Ww2 Q2 os2 ps2 pc2 pw2 rd2 wr2 S2 pr2 P2 Z2 gx2 R2 L2 D2 bh2 O2)) (fu, nk, lv, qa, qz, ec + 1, pn, st, kb, ch, kw, K, lx, bo, lk, oc, eN, eV, U, F, Ww, Q, os, ps, pc, pw, rd, wr, S, pr, upd P p (P p + 1), Z, gx, R, L, D, bh, O) (nI o) (R (4 * p + a)) → wpX_write post' (fu, nk, lv, qa, qz, ec + 1, pn, st, kb, ch, kw, K, lx, bo, lk, oc, eN, eV, U, F, Ww, Q, os, ps, pc, pw, rd, wr, S, pr, upd P p (P p + 1), Z, gx, R, L, D, bh, O) (nI p) (R (4 * p + a)) (R (4 * p + b)) := by
      intro post' h'
      unfold wpX_write
      refine xr_endAt hp od hc (br_f (zx_nz hc12 (by omega)) ?_)
      rw [zx_o ho]
      refine br_f (by decide) (br_t (nI_lt (b := 16) (by omega) (by decide)) (br_f (by decide) ?_))
      rw [zx_opn o ho]
      exact h'
    have hYp : ∀ post' : SY → Prop, ((Ww o = 0 ∨ ln n < q ∨ q = 20) → post' (qn, ec + 1, pn, 1, K, ly, wd, E, U, S, py, P, Z, gy, upd R (4 * p + 3) (-1), A, L, F, Ww, Q, fl, pp, qy, O)) → (Ww o ≠ 0 → q ≤ ln n → q < 20 → post' (qn, ec + 1, pn, 1, K, if q = ln n then upd ly n (nI (q + 1)) else ly, upd wd (20 * n + q) (R (4 * p + a)), E, U, S, py, P, Z, gy, upd R (4 * p + 3) 1, A, L, F, Ww, upd Q o (nI (q + 1)), fl, pp, qy, O)) → wpY_write post' (qn, ec + 1, pn, 1, K, ly, wd, E, U, S, py, P, Z, gy, R, A, L, F, Ww, Q, fl, pp, qy, O) (nI p) (nI a) (nI b) := by
      intro post' h0 h1
      refine hY0 post' (fun _ => ?_) (by rw [zy_o ho]; omega)
      rw [zy_o ho, zx_opn o ho]
      refine yr_inN (v := 1 + o) (a := 1) (b := 8) (by omega) (by decide) (by decide) (fun _ _ => br_f (by decide) ?_) (fun y => absurd ⟨by omega, by omega⟩ y)
      unfold wY_write_130
      refine ⟨vp_in_nI ho (by decide), nm_r (e' := nI n) ((zcl (by omega)).trans eF) (yr_inN (v := 1 + o) (a := 1) (b := 8) (by omega) (by decide) (by decide) (fun _ _ => br_f (by decide) ⟨vp_in_nI ho (by decide), ?_⟩) (fun y => absurd ⟨by omega, by omega⟩ y))⟩
      rw [zcl (f := Ww) (by omega), zcl (f := Q) (by omega), eQ, zcl (f := ly) (by omega), ey]
      by_cases cw : Ww o = 0
      · exact br_t cw (yo_fail hp (h0 (Or.inl cw)))
      · refine br_f cw ⟨vp_in_nI ho (by decide), vp_in_nI hn (by decide), ?_⟩
        by_cases cq : ln n < q
        · exact br_t (nI_lt cq (by omega)) (yo_fail hp (h0 (Or.inr (Or.inl cq))))
        · refine br_f (nI_nlt (by omega) (by omega)) ⟨vp_in_nI ho (by decide), ?_⟩
          by_cases c20 : q = 20
          · exact br_t (by rw [c20]; rfl) (yo_fail hp (h0 (Or.inr (Or.inr c20))))
          · have h1' := h1 cw (by omega) (by omega)
            refine br_f (fun y => c20 (zi_inj (b := 20) (by omega) (by decide) y)) ⟨vp_in_nI ho (by decide), ?_⟩
            rw [zi_m20, nI_add, nI_clamp (n := 20 * n + q) (by omega), nI_1, nI_clamp (n := n) (by omega)]
            refine ⟨vp_in_nI (by omega) (by decide), nm_e ⟨vp_in_nI ho (by decide), vp_in_nI hn (by decide), ?_⟩⟩
            by_cases ce : q = ln n
            · rw [if_pos ce] at h1'
              refine br_t (by rw [ce]) ⟨vp_in_nI hn (by decide), vp_in_nI hn (by decide), nm_e ?_⟩
              unfold wY_write_246
              rw [zcl (f := Q) (by omega), eQ, nI_1, nI_clamp (n := o) (by omega), ← ce]
              exact ⟨vp_in_nI ho (by decide), vp_in_nI ho (by decide), nm_e (yo_done hp h1')⟩
            · rw [if_neg ce] at h1'
              refine br_f (fun y => ce (zi_inj (by omega) (by omega) y)) ?_
              unfold wY_write_246
              rw [zcl (f := Q) (by omega), eQ, nI_1, nI_clamp (n := o) (by omega)]
              exact ⟨vp_in_nI ho (by decide), vp_in_nI ho (by decide), nm_e (yo_done hp h1')⟩
    by_cases hbad : Ww o = 0 ∨ ln n < q ∨ q = 20
    · refine fin (fun post' h' => hX0 post' ⟨vp_in_nI ho (by decide), ?_⟩) (fun post' h' => hYp post' (fun _ => h') (fun y1 y2 y3 => ?_))
      · rw [zcl (f := F) (by omega), eF, zcl (f := Q) (by omega), eQ, zcl (f := Ww) (by omega)]
        refine nm_e ⟨vp_in_nI ho (by decide), nm_e ⟨vp_in_nI ho (by decide), ?_⟩⟩
        by_cases cw : Ww o = 0
        · exact br_t cw (h77 post' h')
        · refine br_f cw ⟨vp_in_nI hn (by decide), ?_⟩
          rw [zcl (f := lx) (by omega), el]
          by_cases cq : ln n < q
          · exact br_t (nI_lt cq (by omega)) (h77 post' h')
          · refine br_f (nI_nlt (by omega) (by omega)) (br_f ?_ (h77 post' h'))
            rcases hbad with y | y | y
            · exact absurd y cw
            · exact absurd y cq
            · rw [y]; decide
      · rcases hbad with y | y | y
        · exact absurd y y1
        · omega
        · omega
    · have cw : Ww o ≠ 0 := fun y => hbad (Or.inl y)
      have cq : q ≤ ln n := by
        rcases Nat.lt_or_ge (ln n) q with y | y
        · exact absurd (Or.inr (Or.inl y)) hbad
        · exact y
      have c20 : q < 20 := by
        rcases Nat.lt_or_ge q 20 with y | y
        · exact y
        · exact absurd (Or.inr (Or.inr (by omega))) hbad
      obtain ⟨fu', nk', st', kb', ch', kw', C', ln', bl', bo', HB', hXw⟩ := xs_putWord (fu := fu) (nk := nk) (lv := lv) (qa := qa) (qz := qz) (ec := ec + 1) (pn := pn) (st := st) (kb := kb) (ch := ch) (kw := kw) (K := K) (lx := lx) (bo := bo) (lk := lk) (oc := oc) (eN := eN) (eV := eV) (U := U) (F := F) (Ww := Ww) (Q := Q) (os := os) (ps := ps) (pc := pc) (pw := pw) (rd := rd) (wr := wr) (S := S) (pr := pr) (P := upd P p (P p + 1)) (Z := Z) (gx := gx) (R := R) (L := L) (D := D) (bh := bh) (O := O) (n := n) (i := q) (w := R (4 * p + a)) i2 i1.1.2 hn hK cq c20
      have I' : zz_I B p C' ln' bl' dc ql fu' nk' lv qa qz pn st' kb' ch' kw' K (if q = ln n then upd lx n (nI (q + 1)) else lx) bo' lk oc eN eV U F (upd Q o (nI (q + 1))) os ps pc pw rd wr S pr (upd P p (P p + 1)) Z gx L D bh qn (if q = ln n then upd ly n (nI (q + 1)) else ly) (upd wd (20 * n + q) (R (4 * p + a))) E py gy A fl pp qy := by
        refine ⟨zt_lx i1 (fun d hd hKd => ?_), HB', ⟨i3.1, i3.2.1, ?_, i3.2.2.2⟩, i4, i5, i6⟩
        · by_cases ce : q = ln n
          · rw [if_pos ce, pk_un (fun y => by rw [y, hK] at hKd; exact absurd hKd (by decide))]
          · rw [if_neg ce]
        · intro o' ho' z'
          obtain ⟨y1, y2⟩ := i3.2.2.1 o' ho' z'
          refine ⟨y1, ?_⟩
          by_cases co : o' = o
          · subst co; exact ⟨q + 1, by omega, pk_us⟩
          · rw [pk_un co]; exact y2
      refine ⟨1, (fu', nk', lv, qa, qz, ec + 1, pn, st', kb', ch', kw', K, if q = ln n then upd lx n (nI (q + 1)) else lx, bo', lk, oc, eN, eV, U, F, Ww, upd Q o (nI (q + 1)), os, ps, pc, pw, rd, wr, S, pr, upd P p (P p + 1), Z, gx, upd R (4 * p + 3) 1, L, D, bh, O), (qn, ec + 1, pn, 1, K, if q = ln n then upd ly n (nI (q + 1)) else ly, upd wd (20 * n + q) (R (4 * p + a)), E, U, S, py, upd P p (P p + 1), Z, gy, upd R (4 * p + 3) 1, A, L, F, Ww, upd Q o (nI (q + 1)), fl, pp, qy, O), zz_Qmk (zi_B I' hB) (Or.inl ⟨rfl, hS, by rw [hD.1]; decide⟩),
        fun post h => xe_16 hp hD (fun post' h' => hX0 post' ⟨vp_in_nI ho (by decide), ?_⟩) h,
        fun post h => ye_c16 hp hz eZ eP hs hw hD (fun post' h' => yc_16 (fun post' h' => hYp post' (fun y => absurd y hbad) (fun _ _ _ => h')) h') rfl h⟩
      rw [zcl (f := F) (by omega), eF, zcl (f := Q) (by omega), eQ, zcl (f := Ww) (by omega)]
      refine nm_e ⟨vp_in_nI ho (by decide), nm_e ⟨vp_in_nI ho (by decide), br_f cw ⟨vp_in_nI hn (by decide), ?_⟩⟩⟩
      rw [zcl (f := lx) (by omega), el]
      refine br_f (nI_nlt (by omega) (by omega)) (br_t (nI_lt (b := 20) c20 (by decide)) (hXw _ ⟨vp_in_nI ho (by decide), vp_in_nI ho (by decide), ?_⟩))
      rw [zcl (f := Q) (by omega), eQ, nI_1, zb_nar8 (by omega), nI_clamp (n := o) (by omega)]
      refine nm_e ?_
      show wX_write_77 post' (nI p) 1 _ _ _ _ _ _ _ _ _ _ _ _ _ _ _ _ _ _ _ _ _ _ _ _ _ _ _ _ _ _ _ _ _ _ _ _ _ _
      unfold wX_write_77
      rw [ei3, nI_clamp (n := 4 * p + 3) (by omega)]
      exact br_f (by decide) ⟨vp_in_nI (by omega) (by decide), nm_e h'⟩
  · subst e
    refine fin (fun post' h' => ?_) (fun post' h' => hY0 post' (fun _ => ?_) (by rw [zy_r hj]; omega))
    · unfold wpX_write
      refine xr_endAt hp od hc (br_f (zx_nz hc12 (by omega)) ?_)
      rw [zx_r hj]
      exact br_f (by decide) (br_f (nI_nlt (b := 16) (by omega) (by omega)) (xr_isRd0 hj (br_f (by decide) (br_t rfl (h77 post' h')))))
    · refine yr_inN (v := zyn (9 + j)) (a := 1) (b := 8) (by omega) (by decide) (by decide) (fun _ y => by rw [zy_r hj] at y; omega) (fun _ => br_t rfl (h130f post' 0 0 (Or.inr (by rw [zy_r hj]; omega)) (by decide) h'))
  · -- a writing end
    subst e
    obtain ⟨s0, c0, hs0, hc0, es, epc, efl, hpw⟩ := i4 j hj (Or.inr (hheld (by omega)))
    have erd := (i3.2.1.2 j hj).1
    have hX0 : ∀ post' : SX → Prop, wpX_writePipe (fun u => post' u) (fu, nk, lv, qa, qz, ec + 1, pn, st, kb, ch, kw, K, lx, bo, lk, oc, eN, eV, U, F, Ww, Q, os, ps, pc, pw, rd, wr, S, pr, upd P p (P p + 1), Z, gx, R, L, D, bh, O) (nI p) (R (4 * p + a)) (nI j) → wpX_write post' (fu, nk, lv, qa, qz, ec + 1, pn, st, kb, ch, kw, K, lx, bo, lk, oc, eN, eV, U, F, Ww, Q, os, ps, pc, pw, rd, wr, S, pr, upd P p (P p + 1), Z, gx, R, L, D, bh, O) (nI p) (R (4 * p + a)) (R (4 * p + b)) := by
      intro post' h'
      unfold wpX_write
      refine xr_endAt hp od hc (br_f (zx_nz hc12 (by omega)) ?_)
      rw [zx_w hj]
      exact br_f (by decide) (br_f (nI_nlt (b := 16) (by omega) (by omega)) (xr_isRd1 hj (br_t rfl (xr_pipe1 hj h'))))
    have hYp : ∀ post' : SY → Prop, (¬ zh_o dc (9 + j) → wpY_end (fun u => match u with | (qn2, ec2, pn2, go2, K2, ly2, wd2, E2, U2, S2, py2, Py2, Z2, gy2, R2, A2, L2, F2, Ww2, Q2, fl2, pp2, qy2, O2) => (post' (qn2, ec2, pn2, 0, K2, ly2, wd2, E2, U2, S2, py2, Py2, Z2, gy2, R2, A2, L2, F2, Ww2, Q2, fl2, pp2, qy2, O2))) (qn, ec + 1, pn, 1, K, ly, wd, E, U, S, py, P, Z, gy, R, A, L, F, Ww, Q, fl, pp, qy, O) (nI p) (-2)) → (zh_o dc (9 + j) → c0 < 4 → post' (qn, ec + 1, pn, 1, K, ly, wd, E, U, S, py, P, Z, gy, upd R (4 * p + 3) 1, A, L, F, Ww, Q, upd fl j (nI (c0 + 1)), upd pp (4 * j + c0) (R (4 * p + a)), qy, O)) → (zh_o dc (9 + j) → c0 < 4) → wpY_write post' (qn, ec + 1, pn, 1, K, ly, wd, E, U, S, py, P, Z, gy, R, A, L, F, Ww, Q, fl, pp, qy, O) (nI p) (nI a) (nI b) := by
      intro post' h0 h1 hlt
      unfold wpY_write
      refine yr_endOf hp hb4 od hc ⟨by rw [eia]; exact vp_in_nI (by omega) (by decide), ?_⟩
      rw [eia, zcl (f := R) (i := 4 * p + a) (by omega), zy_w hj]
      refine nm_e (yr_inN (v := 201 + j) (a := 201) (b := 202) (by omega) (by decide) (by decide) (fun _ _ => br_f (by decide) ?_) (fun y => absurd ⟨by omega, by omega⟩ y))
      obtain ⟨_, _, _, g4, _, g6⟩ := zy_pr j hj
      rw [g4, g6, ← zy_r hj]
      refine yr_has od (by omega) (fun y => br_f (by decide) ⟨vp_in_nI hj (by decide), ?_⟩) (fun y => br_t rfl (h0 y))
      have hl4 := hlt y
      rw [zcl (f := fl) (by omega), efl, zi_m4, nI_add, nI_clamp (n := 4 * j + c0) (by omega), nI_clamp (n := j) (by omega), nI_1]
      exact ⟨vp_in_nI (by omega) (by decide), nm_e ⟨vp_in_nI hj (by decide), vp_in_nI hj (by decide), nm_e (yo_done hp (h1 y hl4))⟩⟩
    by_cases hrd : zh_o dc (9 + j)
    · have hc4 : c0 < 4 := by
        rcases Nat.lt_or_ge c0 4 with y | y
        · exact y
        · refine absurd (Or.inr (Or.inr ⟨hD.1, j, hj, rfl, ?_, hrd⟩)) hnw
          rw [epc, show c0 = 4 by omega]; rfl
      have I' := zi_give (v := R (4 * p + a)) I1 hj hs0 hc4 es hpw
      refine ⟨1, (fu, nk, lv, qa, qz, ec + 1, pn, st, kb, ch, kw, K, lx, bo, lk, oc, eN, eV, U, F, Ww, Q, os, ps, upd pc j (nI (c0 + 1)), upd pw (4 * j + (s0 + c0) % 4) (R (4 * p + a)), rd, wr, S, pr, upd P p (P p + 1), Z, gx, upd R (4 * p + 3) 1, L, D, bh, O), (qn, ec + 1, pn, 1, K, ly, wd, E, U, S, py, upd P p (P p + 1), Z, gy, upd R (4 * p + 3) 1, A, L, F, Ww, Q, upd fl j (nI (c0 + 1)), upd pp (4 * j + c0) (R (4 * p + a)), qy, O), zz_Qmk (zi_B I' hB) (Or.inl ⟨rfl, hS, by rw [hD.1]; decide⟩),
        fun post h => xe_16 hp hD (fun post' h' => hX0 post' ⟨vp_in_nI hj (by decide), ?_⟩) h,
        fun post h => ye_c16 hp hz eZ eP hs hw hD (fun post' h' => yc_16 (fun post' h' => hYp post' (fun y => absurd hrd y) (fun _ _ => h') (fun _ => hc4)) h') rfl h⟩
      have b20 := zc_le (fun k => dc k = 9 + j) 20
      rw [zcl (f := rd) (by omega), erd]
      refine br_f (nI_ne0 (zh_pos.mp hrd) (by omega)) ⟨vp_in_nI hj (by decide), vp_in_nI hj (by decide), ?_⟩
      rw [zcl (f := ps) (by omega), es, zcl (f := pc) (by omega), epc, nI_add, zx_and3 (by omega), zi_m4, nI_add, nI_clamp (n := 4 * j + (s0 + c0) % 4) (by omega), nI_1, zb_nar8 (by omega), nI_clamp (n := j) (by omega), ei3, nI_clamp (n := 4 * p + 3) (by omega)]
      exact ⟨vp_in_nI (by omega) (by decide), nm_e ⟨vp_in_nI hj (by decide), vp_in_nI hj (by decide), nm_e ⟨vp_in_nI (by omega) (by decide), nm_e h'⟩⟩⟩
    · obtain ⟨fu', qa', qz', qn', kb', K', lx', oc', os', pc', rd', wr', S', pr', D', bh', py', A', qy', C', ln', dc', ql', I', hS', _, hX, hY⟩ := zj_end (res := -2) (Py := P) (ec := ec + 1) (R := R) (O := O) (Ww := Ww) (go := 1) I1 hp (Or.inl hS)
      rw [zi_utw] at I' hX
      refine ⟨0, (fu', nk, lv, qa', qz', ec + 1, pn, st, kb', ch, kw, K', lx', bo, lk, oc', eN, eV, U, F, Ww, Q, os', ps, pc', pw, rd', wr', S', pr', upd P p (-2), Z, gx, R, L, D', bh', O), (qn', ec + 1, pn, 0, K', ly, wd, E, U, S', py', upd P p (-2), Z, gy, R, A', L, F, Ww, Q, fl, pp, qy', O), zz_Qmk (zi_B I' hB) (Or.inr ⟨rfl, Or.inl (by rcases hS' with e | e <;> rw [e] <;> decide)⟩),
        fun post h => xe_16 hp hD (fun post' h' => hX0 post' ⟨vp_in_nI hj (by decide), ?_⟩) h,
        fun post h => ye_c16e hp hz eZ eP hs hw hD (fun post' h' => yc_16 (fun post' h' => hYp post' (fun _ => hY _ h') (fun y => absurd y hrd) (fun y => absurd y hrd)) h') rfl h⟩
      rw [zcl (f := rd) (by omega), erd, zo_pos hrd]
      exact br_t rfl (hX _ h')
end
section
/-! forking, on both sides -/
theorem zo_dup {dc : Nat → Nat} {D A os rd wr K F Q oc E S ps pc pw fl pp os' rd' wr' : Nat → Int32} {q i c : Nat} (HO : zg_O dc D A os rd wr K F Q oc E S) (HP : zg_P dc ps pc pw fl pp) (hq : q < 5) (hi : i < 4) (hal : S q = 1 ∨ S q = 2) (h0 : dc (4 * q + i) = 0) (hc : c ≤ 12) (hh : c ≠ 0 → zh_o dc c) (HS : zr_OS (zu dc (4 * q + i) c) os' rd' wr') :
    zg_O (zu dc (4 * q + i) c) (upd D (4 * q + i) (nI (zxn c))) (upd A (4 * q + i) (nI (zyn c))) os' rd' wr' K F Q oc E S ∧ zg_P (zu dc (4 * q + i) c) ps pc pw fl pp := by
  obtain ⟨o1, o2, o3, o4, o5, o6⟩ := HO
  have key : ∀ x, x ≠ 0 → (zh_o (zu dc (4 * q + i) c) x ↔ zh_o dc x) := by
    intro x hx
    rw [zo_h1 (by omega) hx h0]
    exact ⟨fun z => z.elim id (fun e => by rw [← e]; exact hh (fun y => hx (by omega))), Or.inl⟩
  refine ⟨⟨zo_OD o1 hc, HS, zo_OF o3 (fun o ho => (key _ (by omega)).mp), zo_OC o4 (fun o ho => key _ (by omega)), zo_NZ o5 (fun o ho => (key _ (by omega)).mpr), zo_DD o6 hal hi⟩, zp_mono HP (fun j hj z => ⟨?_, rfl⟩)⟩
  rw [key _ (by omega), key _ (by omega)] at z
  exact z
section
variable {fu : Int64} {nk lv qa qz : Int32} {ec : Int64} {pn : Int32} {st kb ch kw K lx bo lk oc eN eV U F Ww Q os ps pc pw rd wr S pr P Z gx R L D bh O : Nat → Int32} {dc : Nat → Nat}
theorem xo_f76 {p a c : Nat} (hp : p < 5) (hc : c < 5) (hpc : c ≠ p) : ∀ (t i : Nat) (gx : Nat → Int32), i + t = 20 → ∃ gx' : Nat → Int32, (∀ k, i ≤ k → k < 20 → gx' (20 * c + k) = gx (20 * p + k)) ∧ (∀ j, ¬ (20 * c + i ≤ j ∧ j < 20 * c + 20) → gx' j = gx j) ∧
    ∀ post : SX → Prop, (∃ n, wX_fork_116 post (nI p) (nI a) (nI c) n 0 fu nk lv qa qz ec pn st kb ch kw K lx bo lk oc eN eV U F Ww Q os ps pc pw rd wr S pr P Z gx' R L D bh O) → wX_fork_76 post (nI p) (nI a) (nI c) fu nk lv qa qz ec pn (t + 1) (nI i) st kb ch kw K lx bo lk oc eN eV U F Ww Q os ps pc pw rd wr S pr P Z gx R L D bh O := by
  intro t
  induction t with
  | zero =>
    intro i gx hi
    have e : i = 20 := by omega
    subst e
    exact ⟨gx, fun k a b => by omega, fun _ _ => rfl, fun post h => br_t (nI_le (a := 20) (b := 20) (by decide) (by decide)) h⟩
  | succ t ih =>
    intro i gx hi
    obtain ⟨gx', g1, g2, gX⟩ := ih (i + 1) (upd gx (20 * c + i) (gx (20 * p + i))) (by omega)
    refine ⟨gx', fun k a b => ?_, fun j hj => ?_, fun post h => ?_⟩
    · by_cases e : k = i
      · subst e; rw [g2 _ (by omega), pk_us]
      · rw [g1 k (by omega) b, pk_un (by omega)]
    · rw [g2 j (by omega), pk_un (by omega)]
    · refine br_f (nI_ge (b := 20) (by omega) (by decide)) ?_
      rw [zi_m20, zi_m20, nI_add, nI_add, zcl (f := gx) (by omega), nI_clamp (by omega)]
      exact ⟨vp_in_nI (by omega) (by decide), vp_in_nI (by omega) (by decide), nm_e (nm_r (nI_1 i) (gX post h))⟩
theorem xo_f116 {post : SX → Prop} {p a c i n k : Nat} {os' rd' wr' : Nat → Int32} (hp : p < 5) (hc : c < 5) (hi : i < 4) (eD : D (4 * p + i) = nI (zxn k)) (hk : k ≤ 12)
    (hX : ∀ post' : SX → Prop, post' (fu, nk, lv, qa, qz, ec, pn, st, kb, ch, kw, K, lx, bo, lk, oc, eN, eV, U, F, Ww, Q, os', ps, pc, pw, rd', wr', S, pr, P, Z, gx, upd R (4 * c + i) (R (4 * p + i)), L, upd D (4 * c + i) (nI (zxn k)), bh, O) → wpX_countEnd post' (fu, nk, lv, qa, qz, ec, pn, st, kb, ch, kw, K, lx, bo, lk, oc, eN, eV, U, F, Ww, Q, os, ps, pc, pw, rd, wr, S, pr, P, Z, gx, upd R (4 * c + i) (R (4 * p + i)), L, upd D (4 * c + i) (nI (zxn k)), bh, O) (nI (zxn k)) 1)
    (h : wX_fork_116 post (nI p) (nI a) (nI c) n (nI (i + 1)) fu nk lv qa qz ec pn st kb ch kw K lx bo lk oc eN eV U F Ww Q os' ps pc pw rd' wr' S pr P Z gx (upd R (4 * c + i) (R (4 * p + i))) L (upd D (4 * c + i) (nI (zxn k))) bh O) : wX_fork_116 post (nI p) (nI a) (nI c) (n + 1) (nI i) fu nk lv qa qz ec pn st kb ch kw K lx bo lk oc eN eV U F Ww Q os ps pc pw rd wr S pr P Z gx R L D bh O := by
  have b := zx_le hk
  refine br_f (nI_ge (b := 4) hi (by decide)) ?_
  rw [zi_m4, zi_m4, nI_add, nI_add, zcl (f := R) (by omega), zcl (f := D) (by omega), eD, zb_nar (by omega), nI_clamp (n := 4 * c + i) (by omega)]
  refine ⟨vp_in_nI (by omega) (by decide), vp_in_nI (by omega) (by decide), nm_e ⟨vp_in_nI (by omega) (by decide), vp_in_nI (by omega) (by decide), nm_e ⟨vp_in_nI (by omega) (by decide), ?_⟩⟩⟩
  rw [pk_us]
  exact hX _ (nm_r (nI_1 i) h)
end
section
variable {qn : Int32} {ec : Int64} {pn go : Int32} {K ly wd E U S py Py Z gy R A L F Ww Q fl pp qy O : Nat → Int32} {ql : List Nat}
theorem yo_f59 {p c : Nat} (hp : p < 5) (hc : c < 5) (hpc : c ≠ p) : ∀ (t i : Nat) (gy : Nat → Int32), i + t = 20 → ∃ gy' : Nat → Int32, (∀ k, i ≤ k → k < 20 → gy' (20 * c + k) = gy (20 * p + k)) ∧ (∀ j, ¬ (20 * c + i ≤ j ∧ j < 20 * c + 20) → gy' j = gy j) ∧
    ∀ post : Int32 → SY → Prop, (∃ n, wY_fork_95 post (nI p) (nI c) qn ec pn go n 0 K ly wd E U S py Py Z gy' R A L F Ww Q fl pp qy O) → wY_fork_59 post (nI p) (nI c) qn ec pn go (t + 1) (nI i) K ly wd E U S py Py Z gy R A L F Ww Q fl pp qy O := by
  intro t
  induction t with
  | zero =>
    intro i gy hi
    have e : i = 20 := by omega
    subst e
    exact ⟨gy, fun k a b => by omega, fun _ _ => rfl, fun post h => br_t (nI_le (a := 20) (b := 20) (by decide) (by decide)) h⟩
  | succ t ih =>
    intro i gy hi
    obtain ⟨gy', g1, g2, gX⟩ := ih (i + 1) (upd gy (20 * c + i) (gy (20 * p + i))) (by omega)
    refine ⟨gy', fun k a b => ?_, fun j hj => ?_, fun post h => ?_⟩
    · by_cases e : k = i
      · subst e; rw [g2 _ (by omega), pk_us]
      · rw [g1 k (by omega) b, pk_un (by omega)]
    · rw [g2 j (by omega), pk_un (by omega)]
    · refine br_f (nI_ge (b := 20) (by omega) (by decide)) ?_
      rw [zi_m20, zi_m20, nI_add, nI_add, zcl (f := gy) (by omega), nI_clamp (by omega)]
      exact ⟨vp_in_nI (by omega) (by decide), vp_in_nI (by omega) (by decide), nm_e (nm_r (nI_1 i) (gX post h))⟩
theorem yo_f95 {post : Int32 → SY → Prop} {p c i n : Nat} (hp : p < 5) (hc : c < 5) (hi : i < 4) (h : wY_fork_95 post (nI p) (nI c) qn ec pn go n (nI (i + 1)) K ly wd E U S py Py Z gy (upd R (4 * c + i) (R (4 * p + i))) (upd A (4 * c + i) (A (4 * p + i))) L F Ww Q fl pp qy O) : wY_fork_95 post (nI p) (nI c) qn ec pn go (n + 1) (nI i) K ly wd E U S py Py Z gy R A L F Ww Q fl pp qy O := by
  refine br_f (nI_ge (b := 4) hi (by decide)) ?_
  rw [zi_m4, zi_m4, nI_add, nI_add, zcl (f := R) (by omega), zcl (f := A) (by omega), nI_clamp (n := 4 * c + i) (by omega)]
  exact ⟨vp_in_nI (by omega) (by decide), vp_in_nI (by omega) (by decide), nm_e ⟨vp_in_nI (by omega) (by decide), vp_in_nI (by omega) (by decide), nm_e (nm_r (nI_1 i) h)⟩⟩
end
end
section
section
variable {fu : Int64} {nk lv qa qz : Int32} {ec : Int64} {pn : Int32} {st kb ch kw K lx bo lk oc eN eV U F Ww Q os ps pc pw rd wr S pr P Z gx R L D bh O : Nat → Int32} {dc : Nat → Nat} {A E fl pp : Nat → Int32}
theorem xo_fstep {p c i : Nat} (HO : zg_O dc D A os rd wr K F Q oc E S) (HP : zg_P dc ps pc pw fl pp) (hp : p < 5) (hc : c < 5) (hpc : c ≠ p) (hi : i < 4) (hal : S c = 1 ∨ S c = 2) (h0 : dc (4 * c + i) = 0) :
    ∃ os' rd' wr' : Nat → Int32, zg_O (zu dc (4 * c + i) (dc (4 * p + i))) (upd D (4 * c + i) (nI (zxn (dc (4 * p + i))))) (upd A (4 * c + i) (A (4 * p + i))) os' rd' wr' K F Q oc E S ∧ zg_P (zu dc (4 * c + i) (dc (4 * p + i))) ps pc pw fl pp ∧
      D (4 * p + i) = nI (zxn (dc (4 * p + i))) ∧ dc (4 * p + i) ≤ 12 ∧
      ∀ post' : SX → Prop, post' (fu, nk, lv, qa, qz, ec, pn, st, kb, ch, kw, K, lx, bo, lk, oc, eN, eV, U, F, Ww, Q, os', ps, pc, pw, rd', wr', S, pr, P, Z, gx, R, L, upd D (4 * c + i) (nI (zxn (dc (4 * p + i)))), bh, O) → wpX_countEnd post' (fu, nk, lv, qa, qz, ec, pn, st, kb, ch, kw, K, lx, bo, lk, oc, eN, eV, U, F, Ww, Q, os, ps, pc, pw, rd, wr, S, pr, P, Z, gx, R, L, upd D (4 * c + i) (nI (zxn (dc (4 * p + i)))), bh, O) (nI (zxn (dc (4 * p + i)))) 1 := by
  obtain ⟨h12, eD, eA⟩ := HO.1 (4 * p + i) (by omega)
  obtain ⟨os', rd', wr', HS', hX⟩ := xo_cntU (fu := fu) (nk := nk) (lv := lv) (qa := qa) (qz := qz) (ec := ec) (pn := pn) (st := st) (kb := kb) (ch := ch) (kw := kw) (K := K) (lx := lx) (bo := bo) (lk := lk) (oc := oc) (eN := eN) (eV := eV) (U := U) (F := F) (Ww := Ww) (Q := Q) (os := os) (ps := ps) (pc := pc) (pw := pw) (rd := rd) (wr := wr) (S := S) (pr := pr) (P := P) (Z := Z) (gx := gx) (R := R) (L := L) (D := upd D (4 * c + i) (nI (zxn (dc (4 * p + i))))) (bh := bh) (O := O) (k0 := 4 * c + i) (c := dc (4 * p + i)) HO.2.1 (by omega) h0 h12
  obtain ⟨O', P'⟩ := zo_dup HO HP hc hi hal h0 h12 (fun _ => ⟨4 * p + i, by omega, rfl⟩) HS'
  rw [← eA] at O'
  exact ⟨os', rd', wr', O', P', eD, h12, hX⟩
end
theorem zj_10 {B p z s a b : Nat} {w : Int32} {C : Nat → Int32} {ln bl dc : Nat → Nat} {ql : List Nat} {fu : Int64} {nk lv qa qz : Int32} {ec : Int64} {pn : Int32} {st kb ch kw K lx bo lk oc eN eV U F Ww Q os ps pc pw rd wr S pr P Z gx R L D bh O : Nat → Int32} {qn go : Int32} {ly wd E py gy A fl pp qy : Nat → Int32} (I : zz_I B p C ln bl dc ql fu nk lv qa qz pn st kb ch kw K lx bo lk oc eN eV U F Q os ps pc pw rd wr S pr P Z gx L D bh qn ly wd E py gy A fl pp qy) (hB : B + 1 < 1000000) (hp : p < 5) (hS : S p = 1) (hz : z ≤ 20) (eZ : Z p = nI z) (eP : P p = nI s) (hs : s < z) (hw : gy (20 * p + s) = w) (hD : zw_D w 10 a b) : ∃ (r : Int32) (u' : SX) (v' : SY), zz_Q (B + 1) p w r u' v' ∧ (∀ post : SX → Prop, post u' → wpX_execute post (fu, nk, lv, qa, qz, ec + 1, pn, st, kb, ch, kw, K, lx, bo, lk, oc, eN, eV, U, F, Ww, Q, os, ps, pc, pw, rd, wr, S, pr, P, Z, gx, R, L, D, bh, O) (nI p) w) ∧ ∀ post : Int32 → SY → Prop, post r v' → wpY_execute post (qn, ec, pn, go, K, ly, wd, E, U, S, py, P, Z, gy, R, A, L, F, Ww, Q, fl, pp, qy, O) (nI p) := by
  have I1 := zi_P (x := P p + 1) I (by rw [hS]; decide)
  obtain ⟨⟨t1, t2, t3, t4, t5, t6, t7⟩, i2, i3, i4, ⟨⟨q1, q2, q3, q4, q5, q6, q7⟩, q8⟩, j1, j2, j3, j4, j5⟩ := id I1
  have ha4 := hD.2.2.2.2.1
  have hb4 := hD.2.2.2.2.2
  have eia : 4 * nI p + nI a = nI (4 * p + a) := by rw [zi_m4, nI_add]
  obtain ⟨r, hr⟩ := zf_ex (fun n => S n = 0) 5
  have hr' := hr
  rcases hr' with ⟨er, _⟩ | ⟨c, hc, er, hc0, _⟩
  · subst er
    refine ⟨1, (fu, nk, lv, qa, qz, ec + 1, pn, st, kb, ch, kw, K, lx, bo, lk, oc, eN, eV, U, F, Ww, Q, os, ps, pc, pw, rd, wr, S, pr, upd P p (P p + 1), Z, gx, upd R (4 * p + a) (-2), L, D, bh, O), (qn, ec + 1, pn, 1, K, ly, wd, E, U, S, py, upd P p (P p + 1), Z, gy, upd R (4 * p + a) (-2), A, L, F, Ww, Q, fl, pp, qy, O), zz_Qmk (zi_B I1 hB) (Or.inl ⟨rfl, hS, by rw [hD.1]; decide⟩),
      fun post h => xe_10 hp hD (fun post' h' => ?_) h,
      fun post h => ye_s10 hp hz eZ eP hs hw hD (fun post' h' => ys_10a hp ha4 hb4 (fun post' h' => ?_) h') rfl h⟩
    · unfold wpX_fork
      refine xr_freeProcess hr (br_f (by decide) ?_)
      rw [eia, nI_clamp (by omega)]
      exact ⟨vp_in_nI (by omega) (by decide), nm_e h'⟩
    · unfold wpY_fork
      exact yr_smallestProcess hr (br_f (by decide) h')
  · subst er
    have hcp : c ≠ p := fun e => by rw [e, hS] at hc0; exact absurd hc0 (by decide)
    have eic : 4 * nI c + nI a = nI (4 * c + a) := by rw [zi_m4, nI_add]
    obtain ⟨d, hd, eL, hKd⟩ := t5 p hp (Or.inl hS)
    obtain ⟨z', hz', eZ', hgg⟩ := j3 p hp (Or.inl hS)
    have hzz := zi_inj (by omega) (by omega) (eZ'.symm.trans eZ)
    subst hzz
    have hcq : c ∉ ql := fun y => by
      have := ((q8 c hc).mp y).1
      rw [hc0] at this; exact absurd this (by decide)
    have hlen := zq_len q1 q2
    have hSc : upd S c 1 c = 1 := pk_us
    have hSn : ∀ q, q ≠ c → upd S c 1 q = S q := fun q h => pk_un h
    -- descriptors
    have hdc0 : ∀ i, i < 4 → dc (4 * c + i) = 0 := fun i hi => i3.2.2.2.2.2 c hc (by rw [hc0]; decide) (by rw [hc0]; decide) i hi
    have O0 : zg_O dc D A os rd wr K F Q oc E (upd S c 1) := by
      obtain ⟨o1, o2, o3, o4, o5, o6⟩ := i3
      refine ⟨o1, o2, o3, o4, o5, ?_⟩
      intro q hq h1 h2 i hi
      have hqc : q ≠ c := fun e => by rw [e] at h1; exact h1 pk_us
      rw [hSn q hqc] at h1 h2
      exact o6 q hq h1 h2 i hi
    obtain ⟨gx', g1, g2, gX⟩ := xo_f76 (fu := fu) (nk := nk) (lv := lv) (qa := qa) (qz := qz) (ec := ec + 1) (pn := pn) (st := st) (kb := kb) (ch := ch) (kw := kw) (K := K) (lx := lx) (bo := bo) (lk := lk) (oc := oc) (eN := eN) (eV := eV) (U := U) (F := F) (Ww := Ww) (Q := Q) (os := os) (ps := ps) (pc := pc) (pw := pw) (rd := rd) (wr := wr) (S := upd S c 1) (pr := upd pr c (nI p)) (P := upd (upd P p (P p + 1)) c (P p + 1)) (Z := upd Z c (Z p)) (R := R) (L := upd L c (L p)) (D := D) (bh := bh) (O := O) (a := a) hp hc hcp 20 0 gx (by decide)
    obtain ⟨gy', y1, y2, yX⟩ := yo_f59 (qn := qn) (ec := ec + 1) (pn := pn) (go := 1) (K := K) (ly := ly) (wd := wd) (E := E) (U := U) (S := S) (py := upd py c (nI p)) (Py := upd P c (P p + 1)) (Z := upd Z c (Z p)) (R := R) (A := A) (L := upd L c (L p)) (F := F) (Ww := Ww) (Q := Q) (fl := fl) (pp := pp) (qy := qy) (O := O) hp hc hcp 20 0 gy (by decide)
    obtain ⟨os1, rd1, wr1, O1, P1, eD1, h121, hX1⟩ := xo_fstep (fu := fu) (nk := nk) (lv := lv) (qa := qa) (qz := qz) (ec := ec + 1) (pn := pn) (st := st) (kb := kb) (ch := ch) (kw := kw) (K := K) (lx := lx) (bo := bo) (lk := lk) (oc := oc) (eN := eN) (eV := eV) (U := U) (F := F) (Ww := Ww) (Q := Q) (os := os) (ps := ps) (pc := pc) (pw := pw) (rd := rd) (wr := wr) (S := upd S c 1) (pr := upd pr c (nI p)) (P := upd (upd P p (P p + 1)) c (P p + 1)) (Z := upd Z c (Z p)) (gx := gx') (R := upd R (4 * c + 0) (R (4 * p + 0))) (L := upd L c (L p)) (D := D) (bh := bh) (O := O) (i := 0) O0 i4 hp hc hcp (by decide) (Or.inl hSc) (hdc0 0 (by decide))
    obtain ⟨os2, rd2, wr2, O2, P2, eD2, h122, hX2⟩ := xo_fstep (fu := fu) (nk := nk) (lv := lv) (qa := qa) (qz := qz) (ec := ec + 1) (pn := pn) (st := st) (kb := kb) (ch := ch) (kw := kw) (K := K) (lx := lx) (bo := bo) (lk := lk) (oc := oc) (eN := eN) (eV := eV) (U := U) (F := F) (Ww := Ww) (Q := Q) (os := os1) (ps := ps) (pc := pc) (pw := pw) (rd := rd1) (wr := wr1) (S := upd S c 1) (pr := upd pr c (nI p)) (P := upd (upd P p (P p + 1)) c (P p + 1)) (Z := upd Z c (Z p)) (gx := gx') (R := upd (upd R (4 * c + 0) (R (4 * p + 0))) (4 * c + 1) (upd R (4 * c + 0) (R (4 * p + 0)) (4 * p + 1))) (L := upd L c (L p)) (D := upd D (4 * c + 0) (nI (zxn (dc (4 * p + 0))))) (bh := bh) (O := O) (i := 1) O1 P1 hp hc hcp (by decide) (Or.inl hSc) (by rw [zu_n (by omega)]; exact hdc0 1 (by decide))
    obtain ⟨os3, rd3, wr3, O3, P3, eD3, h123, hX3⟩ := xo_fstep (fu := fu) (nk := nk) (lv := lv) (qa := qa) (qz := qz) (ec := ec + 1) (pn := pn) (st := st) (kb := kb) (ch := ch) (kw := kw) (K := K) (lx := lx) (bo := bo) (lk := lk) (oc := oc) (eN := eN) (eV := eV) (U := U) (F := F) (Ww := Ww) (Q := Q) (os := os2) (ps := ps) (pc := pc) (pw := pw) (rd := rd2) (wr := wr2) (S := upd S c 1) (pr := upd pr c (nI p)) (P := upd (upd P p (P p + 1)) c (P p + 1)) (Z := upd Z c (Z p)) (gx := gx') (R := upd (upd (upd R (4 * c + 0) (R (4 * p + 0))) (4 * c + 1) (upd R (4 * c + 0) (R (4 * p + 0)) (4 * p + 1))) (4 * c + 2) (upd (upd R (4 * c + 0) (R (4 * p + 0))) (4 * c + 1) (upd R (4 * c + 0) (R (4 * p + 0)) (4 * p + 1)) (4 * p + 2))) (L := upd L c (L p)) (D := upd (upd D (4 * c + 0) (nI (zxn (dc (4 * p + 0))))) (4 * c + 1) (nI (zxn (zu dc (4 * c + 0) (dc (4 * p + 0)) (4 * p + 1))))) (bh := bh) (O := O) (i := 2) O2 P2 hp hc hcp (by decide) (Or.inl hSc) (by rw [zu_n (by omega), zu_n (by omega)]; exact hdc0 2 (by decide))
    obtain ⟨os4, rd4, wr4, O4, P4, eD4, h124, hX4⟩ := xo_fstep (fu := fu) (nk := nk) (lv := lv) (qa := qa) (qz := qz) (ec := ec + 1) (pn := pn) (st := st) (kb := kb) (ch := ch) (kw := kw) (K := K) (lx := lx) (bo := bo) (lk := lk) (oc := oc) (eN := eN) (eV := eV) (U := U) (F := F) (Ww := Ww) (Q := Q) (os := os3) (ps := ps) (pc := pc) (pw := pw) (rd := rd3) (wr := wr3) (S := upd S c 1) (pr := upd pr c (nI p)) (P := upd (upd P p (P p + 1)) c (P p + 1)) (Z := upd Z c (Z p)) (gx := gx') (R := upd (upd (upd (upd R (4 * c + 0) (R (4 * p + 0))) (4 * c + 1) (upd R (4 * c + 0) (R (4 * p + 0)) (4 * p + 1))) (4 * c + 2) (upd (upd R (4 * c + 0) (R (4 * p + 0))) (4 * c + 1) (upd R (4 * c + 0) (R (4 * p + 0)) (4 * p + 1)) (4 * p + 2))) (4 * c + 3) (upd (upd (upd R (4 * c + 0) (R (4 * p + 0))) (4 * c + 1) (upd R (4 * c + 0) (R (4 * p + 0)) (4 * p + 1))) (4 * c + 2) (upd (upd R (4 * c + 0) (R (4 * p + 0))) (4 * c + 1) (upd R (4 * c + 0) (R (4 * p + 0)) (4 * p + 1)) (4 * p + 2)) (4 * p + 3))) (L := upd L c (L p)) (D := upd (upd (upd D (4 * c + 0) (nI (zxn (dc (4 * p + 0))))) (4 * c + 1) (nI (zxn (zu dc (4 * c + 0) (dc (4 * p + 0)) (4 * p + 1))))) (4 * c + 2) (nI (zxn (zu (zu dc (4 * c + 0) (dc (4 * p + 0))) (4 * c + 1) (zu dc (4 * c + 0) (dc (4 * p + 0)) (4 * p + 1)) (4 * p + 2))))) (bh := bh) (O := O) (i := 3) O3 P3 hp hc hcp (by decide) (Or.inl hSc) (by rw [zu_n (by omega), zu_n (by omega), zu_n (by omega)]; exact hdc0 3 (by decide))
    -- names for what stands at the end
    generalize eRR : upd (upd (upd (upd R (4 * c + 0) (R (4 * p + 0))) (4 * c + 1) (upd R (4 * c + 0) (R (4 * p + 0)) (4 * p + 1))) (4 * c + 2) (upd (upd R (4 * c + 0) (R (4 * p + 0))) (4 * c + 1) (upd R (4 * c + 0) (R (4 * p + 0)) (4 * p + 1)) (4 * p + 2))) (4 * c + 3) (upd (upd (upd R (4 * c + 0) (R (4 * p + 0))) (4 * c + 1) (upd R (4 * c + 0) (R (4 * p + 0)) (4 * p + 1))) (4 * c + 2) (upd (upd R (4 * c + 0) (R (4 * p + 0))) (4 * c + 1) (upd R (4 * c + 0) (R (4 * p + 0)) (4 * p + 1)) (4 * p + 2)) (4 * p + 3)) = RR at hX4
    obtain ⟨qa', bh', ea', hc', hXq⟩ := xq_enqueue (fu := fu) (nk := nk) (lv := lv) (qa := qa) (qz := qz) (ec := ec + 1) (pn := pn) (st := st) (kb := kb) (ch := ch) (kw := kw) (K := K) (lx := lx) (bo := bo) (lk := lk) (oc := oc) (eN := eN) (eV := eV) (U := U) (F := F) (Ww := Ww) (Q := Q) (os := os4) (ps := ps) (pc := pc) (pw := pw) (rd := rd4) (wr := wr4) (S := upd S c 1) (pr := upd pr c (nI p)) (P := upd (upd P p (P p + 1)) c (P p + 1)) (Z := upd Z c (Z p)) (gx := gx') (R := upd (upd RR (4 * c + a) (-1)) (4 * p + a) (nI c)) (L := upd L c (L p)) (D := upd (upd (upd (upd D (4 * c + 0) (nI (zxn (dc (4 * p + 0))))) (4 * c + 1) (nI (zxn (zu dc (4 * c + 0) (dc (4 * p + 0)) (4 * p + 1))))) (4 * c + 2) (nI (zxn (zu (zu dc (4 * c + 0) (dc (4 * p + 0))) (4 * c + 1) (zu dc (4 * c + 0) (dc (4 * p + 0)) (4 * p + 1)) (4 * p + 2))))) (4 * c + 3) (nI (zxn (zu (zu (zu dc (4 * c + 0) (dc (4 * p + 0))) (4 * c + 1) (zu dc (4 * c + 0) (dc (4 * p + 0)) (4 * p + 1))) (4 * c + 2) (zu (zu dc (4 * c + 0) (dc (4 * p + 0))) (4 * c + 1) (zu dc (4 * c + 0) (dc (4 * p + 0)) (4 * p + 1)) (4 * p + 2)) (4 * p + 3))))) (bh := bh) (O := O) hc q1 q2 q3 q4 q5 hcq
    generalize eDD : upd (upd (upd (upd D (4 * c + 0) (nI (zxn (dc (4 * p + 0))))) (4 * c + 1) (nI (zxn (zu dc (4 * c + 0) (dc (4 * p + 0)) (4 * p + 1))))) (4 * c + 2) (nI (zxn (zu (zu dc (4 * c + 0) (dc (4 * p + 0))) (4 * c + 1) (zu dc (4 * c + 0) (dc (4 * p + 0)) (4 * p + 1)) (4 * p + 2))))) (4 * c + 3) (nI (zxn (zu (zu (zu dc (4 * c + 0) (dc (4 * p + 0))) (4 * c + 1) (zu dc (4 * c + 0) (dc (4 * p + 0)) (4 * p + 1))) (4 * c + 2) (zu (zu dc (4 * c + 0) (dc (4 * p + 0))) (4 * c + 1) (zu dc (4 * c + 0) (dc (4 * p + 0)) (4 * p + 1)) (4 * p + 2)) (4 * p + 3)))) = DD at hXq O4 hX4
    generalize eAA : upd (upd (upd (upd A (4 * c + 0) (A (4 * p + 0))) (4 * c + 1) (upd A (4 * c + 0) (A (4 * p + 0)) (4 * p + 1))) (4 * c + 2) (upd (upd A (4 * c + 0) (A (4 * p + 0))) (4 * c + 1) (upd A (4 * c + 0) (A (4 * p + 0)) (4 * p + 1)) (4 * p + 2))) (4 * c + 3) (upd (upd (upd A (4 * c + 0) (A (4 * p + 0))) (4 * c + 1) (upd A (4 * c + 0) (A (4 * p + 0)) (4 * p + 1))) (4 * c + 2) (upd (upd A (4 * c + 0) (A (4 * p + 0))) (4 * c + 1) (upd A (4 * c + 0) (A (4 * p + 0)) (4 * p + 1)) (4 * p + 2)) (4 * p + 3)) = AA at O4
    generalize edc : zu (zu (zu (zu dc (4 * c + 0) (dc (4 * p + 0))) (4 * c + 1) (zu dc (4 * c + 0) (dc (4 * p + 0)) (4 * p + 1))) (4 * c + 2) (zu (zu dc (4 * c + 0) (dc (4 * p + 0))) (4 * c + 1) (zu dc (4 * c + 0) (dc (4 * p + 0)) (4 * p + 1)) (4 * p + 2))) (4 * c + 3) (zu (zu (zu dc (4 * c + 0) (dc (4 * p + 0))) (4 * c + 1) (zu dc (4 * c + 0) (dc (4 * p + 0)) (4 * p + 1))) (4 * c + 2) (zu (zu dc (4 * c + 0) (dc (4 * p + 0))) (4 * c + 1) (zu dc (4 * c + 0) (dc (4 * p + 0)) (4 * p + 1)) (4 * p + 2)) (4 * p + 3)) = dcc at O4 P4
    have I' : zz_I (B + 1) p C ln bl dcc (ql ++ [c]) fu nk lv qa' (nI c) pn st kb ch kw K lx bo lk oc eN eV U F Q os4 ps pc pw rd4 wr4 (upd S c 1) (upd pr c (nI p)) (upd (upd P p (P p + 1)) c (P p + 1)) (upd Z c (Z p)) gx' (upd L c (L p)) DD bh' (nI (ql.length + 1)) ly wd E (upd py c (nI p)) gy' AA fl pp (upd qy ql.length (nI c)) := by
      refine ⟨⟨t1, t2, t3, t4, ?_, t6, t7⟩, i2, O4, P4, ⟨⟨?_, ?_, ea', (zq_la c ql).symm, hc', ?_, ?_⟩, ?_⟩, ?_, ?_, ?_, ?_, hB, ?_⟩
      · intro q hq h
        by_cases e : q = c
        · subst e; exact ⟨d, hd, by rw [pk_us]; exact eL, hKd⟩
        · rw [hSn q e] at h; rw [pk_un e]; exact t5 q hq h
      · intro q hq
        rcases List.mem_append.mp hq with y | y
        · exact q1 q y
        · rw [List.mem_singleton.mp y]; exact hc
      · rw [List.nodup_append]
        exact ⟨q2, by simp, fun x hx y hy e => hcq (by rw [List.mem_singleton.mp hy] at e; rw [← e]; exact hx)⟩
      · rw [List.length_append]; rfl
      · rw [zq_ya]
        exact ⟨zq_yu (Or.inr (by omega)) q7, by rw [Nat.zero_add]; exact pk_us, trivial⟩
      · intro q hq
        rw [List.mem_append, List.mem_singleton, q8 q hq]
        by_cases e : q = c
        · subst e; rw [pk_us]; exact ⟨fun _ => ⟨rfl, hcp⟩, fun _ => Or.inr rfl⟩
        · rw [hSn q e]; exact ⟨fun y => y.elim id (fun y => absurd y e), Or.inl⟩
      · intro q hq
        by_cases e : q = c
        · subst e; rw [pk_us]; exact Or.inr (Or.inl rfl)
        · rw [hSn q e]; exact j1 q hq
      · intro q hq h
        by_cases e : q = c
        · subst e; rw [pk_us, pk_us]; exact ⟨rfl, fun y => hcp (zi_inj (by omega) (by omega) y).symm⟩
        · rw [hSn q e] at h; rw [pk_un e, pk_un e]; exact j2 q hq h
      · intro q hq h
        by_cases e : q = c
        · subst e
          refine ⟨z', hz, by rw [pk_us]; exact eZ, fun i hi => ?_⟩
          rw [g1 i (by omega) (by omega), y1 i (by omega) (by omega)]
          exact hgg i hi
        · rw [hSn q e] at h
          obtain ⟨zz, hzz, ezz, hg⟩ := j3 q hq h
          refine ⟨zz, hzz, by rw [pk_un e]; exact ezz, fun i hi => ?_⟩
          rw [g2 _ (by omega), y2 _ (by omega)]
          exact hg i hi
      · intro q hq h
        have e : q ≠ c := fun e => by rw [e, pk_us] at h; exact absurd h (by decide)
        rw [hSn q e] at h
        rw [pk_un e, pk_un e]
        exact j4 q hq h
      · obtain ⟨_, k, hk, e⟩ := j5
        exact ⟨k, by omega, e⟩
    have hcomm : upd (upd RR (4 * p + a) (nI c)) (4 * c + a) (-1) = upd (upd RR (4 * c + a) (-1)) (4 * p + a) (nI c) := zi_ucomm (by omega)
    have hPc : upd (upd P c (P p + 1)) p (upd P c (P p + 1) p + 1) = upd (upd P p (P p + 1)) c (P p + 1) := by rw [pk_un (Ne.symm hcp)]; exact zi_ucomm hcp
    refine ⟨1, (fu, nk, lv, qa', nI c, ec + 1, pn, st, kb, ch, kw, K, lx, bo, lk, oc, eN, eV, U, F, Ww, Q, os4, ps, pc, pw, rd4, wr4, upd S c 1, upd pr c (nI p), upd (upd P p (P p + 1)) c (P p + 1), upd Z c (Z p), gx', upd (upd RR (4 * c + a) (-1)) (4 * p + a) (nI c), upd L c (L p), DD, bh', O),
      (nI (ql.length + 1), ec + 1, pn, 1, K, ly, wd, E, U, upd S c 1, upd py c (nI p), upd (upd P p (P p + 1)) c (P p + 1), upd Z c (Z p), gy', upd (upd RR (4 * c + a) (-1)) (4 * p + a) (nI c), AA, upd L c (L p), F, Ww, Q, fl, pp, upd qy ql.length (nI c), O), zz_Qmk I' (Or.inl ⟨rfl, by rw [hSn p (Ne.symm hcp)]; exact hS, by rw [hD.1]; decide⟩),
      fun post h => xe_10 hp hD (fun post' h' => ?_) h,
      fun post h => ye_s10 hp hz eZ eP hs hw hD (fun post' h' => ys_10b hp ha4 hb4 hc (fun post' h' => ?_) h') rfl (by rw [hcomm, hPc]; exact h)⟩
    · unfold wpX_fork
      refine xr_freeProcess hr (br_t (nI_pos' (by omega)) ⟨vp_in_nI hc (by decide), ?_⟩)
      rw [zb_1, zb_nar8 (n := p) (by omega), zcl (f := L) (by omega), eL, zb_nar (n := d) (by omega), zcl (f := Z) (by omega), eZ, zb_nar (n := z') (by omega), nI_clamp (n := c) (by omega), nI_clamp (n := p) (by omega), pk_us]
      rw [eL, eZ] at gX hX1 hX2 hX3 hX4 hXq h'
      refine nm_e ⟨vp_in_nI hc (by decide), nm_e ⟨vp_in_nI hp (by decide), vp_in_nI hc (by decide), nm_e ⟨vp_in_nI hp (by decide), vp_in_nI hc (by decide), nm_e ⟨vp_in_nI hp (by decide), vp_in_nI hc (by decide), nm_e ⟨21, gX _ ⟨5, ?_⟩⟩⟩⟩⟩⟩
      refine xo_f116 (i := 0) hp hc (by decide) eD1 h121 hX1 (xo_f116 (i := 1) hp hc (by decide) eD2 h122 hX2 (xo_f116 (i := 2) hp hc (by decide) eD3 h123 hX3 (xo_f116 (i := 3) hp hc (by decide) eD4 h124 (by rw [eRR, eDD]; exact hX4) ?_)))
      rw [eRR, eDD]
      refine br_t (by decide) ?_
      rw [eic, eia, nI_clamp (n := 4 * c + a) (by omega), nI_clamp (n := 4 * p + a) (by omega)]
      exact ⟨vp_in_nI (by omega) (by decide), nm_e ⟨vp_in_nI (by omega) (by decide), nm_e (hXq _ h')⟩⟩
    · unfold wpY_fork
      refine yr_smallestProcess hr (br_t (nI_pos' (by omega)) ⟨vp_in_nI hc (by decide), ?_⟩)
      rw [zcl (f := L) (by omega), zcl (f := Z) (by omega), zcl (f := P) (by omega), nI_clamp (n := c) (by omega)]
      refine nm_e ⟨vp_in_nI hp (by decide), vp_in_nI hc (by decide), nm_e ⟨vp_in_nI hp (by decide), vp_in_nI hc (by decide), nm_e ⟨vp_in_nI hp (by decide), vp_in_nI hc (by decide), nm_e ⟨21, yX _ ⟨5, ?_⟩⟩⟩⟩⟩
      refine yo_f95 (i := 0) hp hc (by decide) (yo_f95 (i := 1) hp hc (by decide) (yo_f95 (i := 2) hp hc (by decide) (yo_f95 (i := 3) hp hc (by decide) ?_)))
      rw [eRR, eAA]
      exact br_t (by decide) (yo_join hc q6 hlen h')
end
section
/-! one instruction; a turn's work -/
theorem zj_step {B p z s a b : Nat} {w : Int32} {C : Nat → Int32} {ln bl dc : Nat → Nat} {ql : List Nat} {fu : Int64} {nk lv qa qz : Int32} {ec : Int64} {pn : Int32} {st kb ch kw K lx bo lk oc eN eV U F Ww Q os ps pc pw rd wr S pr P Z gx R L D bh O : Nat → Int32} {qn go : Int32} {ly wd E py gy A fl pp qy : Nat → Int32} (I : zz_I B p C ln bl dc ql fu nk lv qa qz pn st kb ch kw K lx bo lk oc eN eV U F Q os ps pc pw rd wr S pr P Z gx L D bh qn ly wd E py gy A fl pp qy) (hB : B + 1 < 1000000) (hp : p < 5) (hS : S p = 1) (hz : z ≤ 20) (eZ : Z p = nI z) (eP : P p = nI s) (hs : s < z) (hw : gy (20 * p + s) = w) {o : Nat} (hD : zw_D w o a b) {c : Nat} (hc : za_c dc p (R (4 * p + b)) c) (hnw : ¬ zw_W S pr dc pc p w c) : ∃ (r : Int32) (u' : SX) (v' : SY), zz_Q (B + 1) p w r u' v' ∧ (∀ post : SX → Prop, post u' → wpX_execute post (fu, nk, lv, qa, qz, ec + 1, pn, st, kb, ch, kw, K, lx, bo, lk, oc, eN, eV, U, F, Ww, Q, os, ps, pc, pw, rd, wr, S, pr, P, Z, gx, R, L, D, bh, O) (nI p) w) ∧ ∀ post : Int32 → SY → Prop, post r v' → wpY_execute post (qn, ec, pn, go, K, ly, wd, E, U, S, py, P, Z, gy, R, A, L, F, Ww, Q, fl, pp, qy, O) (nI p) := by
  have ho := hD.2.2.2.1
  rcases (show o = 0 ∨ o = 1 ∨ o = 2 ∨ o = 3 ∨ o = 4 ∨ o = 5 ∨ o = 6 ∨ o = 7 ∨ o = 8 ∨ o = 9 ∨ o = 10 ∨ o = 11 ∨ o = 12 ∨ o = 13 ∨ o = 14 ∨ o = 15 ∨ o = 16 ∨ o = 17 ∨ o = 18 ∨ o = 19 ∨ o = 20 ∨ o = 21 ∨ o = 22 ∨ o = 23 ∨ o = 24 ∨ o = 25 ∨ o = 26 ∨ o = 27 ∨ o = 28 ∨ o = 29 ∨ o = 30 ∨ o = 31 by omega) with e | e | e | e | e | e | e | e | e | e | e | e | e | e | e | e | e | e | e | e | e | e | e | e | e | e | e | e | e | e | e | e
  all_goals subst e
  · exact zj_0 I hB hp hS hz eZ eP hs hw hD
  · exact zj_1 I hB hp hS hz eZ eP hs hw hD
  · exact zj_2 I hB hp hS hz eZ eP hs hw hD
  · exact zj_3 I hB hp hS hz eZ eP hs hw hD
  · exact zj_4 I hB hp hS hz eZ eP hs hw hD
  · exact zj_5 I hB hp hS hz eZ eP hs hw hD
  · exact zj_6 I hB hp hS hz eZ eP hs hw hD
  · exact zj_7 I hB hp hS hz eZ eP hs hw hD
  · exact zj_8 I hB hp hS hz eZ eP hs hw hD
  · exact zj_9 I hB hp hS hz eZ eP hs hw hD
  · exact zj_10 I hB hp hS hz eZ eP hs hw hD
  · exact zj_11 I hB hp hS hz eZ eP hs hw hD
  · exact zj_12 I hB hp hS hz eZ eP hs hw hD
  · exact zj_13 I hB hp hS hz eZ eP hs hw hD
  · exact zj_14 I hB hp hS hz eZ eP hs hw hD
  · exact zj_15 I hB hp hS hz eZ eP hs hw hD
  · exact zj_16 I hB hp hS hz eZ eP hs hw hD hc hnw
  · exact zj_17 I hB hp hS hz eZ eP hs hw hD
  · exact zj_18 I hB hp hS hz eZ eP hs hw hD
  · exact zj_19 I hB hp hS hz eZ eP hs hw hD
  · exact zj_20 I hB hp hS hz eZ eP hs hw hD
  · exact zj_21 I hB hp hS hz eZ eP hs hw hD
  · exact zj_22 I hB hp hS hz eZ eP hs hw hD
  · exact zj_23 I hB hp hS hz eZ eP hs hw hD
  · exact zj_24 I hB hp hS hz eZ eP hs hw hD
  · exact zj_25 I hB hp hS hz eZ eP hs hw hD
  · exact zj_26 I hB hp hS hz eZ eP hs hw hD
  · exact zj_27 I hB hp hS hz eZ eP hs hw hD
  · exact zj_28 I hB hp hS hz eZ eP hs hw hD
  · exact zj_29 I hB hp hS hz eZ eP hs hw hD
  · exact zj_30 I hB hp hS hz eZ eP hs hw hD
  · exact zj_31 I hB hp hS hz eZ eP hs hw hD
theorem zw_eq {S pr py pc fl ps pw pp D A : Nat → Int32} {dc : Nat → Nat} {p c : Nat} {w x : Int32} (hp : p < 5) (HA : zr_PA S pr py) (HP : zg_P dc ps pc pw fl pp) (hc : za_c dc p x c) : zw_W S pr dc pc p w c ↔ zw_W S py dc fl p w c := by
  have hpr : ∀ q, q < 5 → S q ≠ 0 → pr q = py q := fun q hq h => (HA q hq h).1
  have hheld : c ≠ 0 → zh_o dc c := by
    intro c0
    rcases hc with ⟨j, hj, _, q⟩ | ⟨_, q⟩
    · exact ⟨4 * p + j, by omega, q.symm⟩
    · exact absurd q c0
  have hpf : ∀ j, j < 2 → (c = 9 + j ∨ c = 11 + j) → pc j = fl j := by
    intro j hj h
    have hh : zh_o dc (9 + j) ∨ zh_o dc (11 + j) := by
      rcases h with e | e
      · exact Or.inl (by rw [← e]; exact hheld (by omega))
      · exact Or.inr (by rw [← e]; exact hheld (by omega))
    obtain ⟨s0, c0, _, _, _, e1, e2, _⟩ := HP j hj hh
    rw [e1, e2]
  constructor
  · rintro (⟨o, ⟨q, hq, h0, e⟩, hn⟩ | ⟨o, j, hj, e, e2, h⟩ | ⟨o, j, hj, e, e2, h⟩)
    · exact Or.inl ⟨o, ⟨q, hq, h0, by rw [← hpr q hq h0]; exact e⟩, fun q hq y => hn q hq ⟨y.1, by rw [hpr q hq (by rw [y.1]; decide)]; exact y.2⟩⟩
    · exact Or.inr (Or.inl ⟨o, j, hj, e, by rw [← hpf j hj (Or.inl e)]; exact e2, h⟩)
    · exact Or.inr (Or.inr ⟨o, j, hj, e, by rw [← hpf j hj (Or.inr e)]; exact e2, h⟩)
  · rintro (⟨o, ⟨q, hq, h0, e⟩, hn⟩ | ⟨o, j, hj, e, e2, h⟩ | ⟨o, j, hj, e, e2, h⟩)
    · exact Or.inl ⟨o, ⟨q, hq, h0, by rw [hpr q hq h0]; exact e⟩, fun q hq y => hn q hq ⟨y.1, by rw [← hpr q hq (by rw [y.1]; decide)]; exact y.2⟩⟩
    · exact Or.inr (Or.inl ⟨o, j, hj, e, by rw [hpf j hj (Or.inl e)]; exact e2, h⟩)
    · exact Or.inr (Or.inr ⟨o, j, hj, e, by rw [hpf j hj (Or.inr e)]; exact e2, h⟩)
/-- does p wait: one answer for both -/
theorem zj_wait {B cur p s z : Nat} {C : Nat → Int32} {ln bl dc : Nat → Nat} {ql : List Nat} {fu : Int64} {nk lv qa qz : Int32} {ec : Int64} {pn : Int32} {st kb ch kw K lx bo lk oc eN eV U F Ww Q os ps pc pw rd wr S pr P Z gx R L D bh O : Nat → Int32} {qn go : Int32} {ly wd E py gy A fl pp qy : Nat → Int32} (I : zz_I B cur C ln bl dc ql fu nk lv qa qz pn st kb ch kw K lx bo lk oc eN eV U F Q os ps pc pw rd wr S pr P Z gx L D bh qn ly wd E py gy A fl pp qy) (hp : p < 5) (hz : z ≤ 20) (eZ : Z p = nI z) (eP : P p = nI s) (hs : s < z) (hg : gx (20 * p + s) = gy (20 * p + s)) : ∃ (o a b c : Nat), zw_D (gy (20 * p + s)) o a b ∧ za_c dc p (R (4 * p + b)) c ∧
    (∀ post : Int32 → Prop, (zw_W S pr dc pc p (gy (20 * p + s)) c → post 1) → (¬ zw_W S pr dc pc p (gy (20 * p + s)) c → post 0) → wpX_wouldWait post (fu, nk, lv, qa, qz, ec, pn, st, kb, ch, kw, K, lx, bo, lk, oc, eN, eV, U, F, Ww, Q, os, ps, pc, pw, rd, wr, S, pr, P, Z, gx, R, L, D, bh, O) (nI p)) ∧
    ∀ post : Int32 → Prop, (zw_W S pr dc pc p (gy (20 * p + s)) c → post 1) → (¬ zw_W S pr dc pc p (gy (20 * p + s)) c → post 0) → wpY_waits post (qn, ec, pn, go, K, ly, wd, E, U, S, py, P, Z, gy, R, A, L, F, Ww, Q, fl, pp, qy, O) (nI p) := by
  obtain ⟨_, _, i3, i4, _, _, j2, _⟩ := I
  obtain ⟨o, a, b, hD⟩ := zw_ex (gy (20 * p + s))
  obtain ⟨c, hc⟩ := za_ex dc p (R (4 * p + b))
  have hc12 := za_12 i3.1 hp hc
  refine ⟨o, a, b, c, hD, hc, fun post h1 h0 => ?_, fun post h1 h0 => ?_⟩
  · exact xr_wouldWait hp eP (by omega) hg hD.2.2.1 hD.2.2.2.2.2 i3.1 i3.2.1 hc hc12 h1 h0
  · have e := zw_eq (w := gy (20 * p + s)) (D := D) (A := A) hp j2 i4 hc
    exact yr_waits hp hz eZ eP hs rfl hD.2.2.1 hD.2.2.2.2.2 i3.1 hc hc12 (fun y => h1 (e.mpr y)) (fun y => h0 (fun x => y (e.mp x)))
def zs_S (u : SX) : Nat → Int32 := match u with
  | (fu, nk, lv, qa, qz, ec, pn, st, kb, ch, kw, K, lx, bo, lk, oc, eN, eV, U, F, Ww, Q, os, ps, pc, pw, rd, wr, S, pr, P, Z, gx, R, L, D, bh, O) => S
def zX_work (post : SX → Prop) (p n : Nat) (g : Int32) (k : Nat) (u : SX) : Prop := match u with
  | (fu, nk, lv, qa, qz, ec, pn, st, kb, ch, kw, K, lx, bo, lk, oc, eN, eV, U, F, Ww, Q, os, ps, pc, pw, rd, wr, S, pr, P, Z, gx, R, L, D, bh, O) => wX_work_4 post (nI p) n g (nI k) fu nk lv qa qz ec pn st kb ch kw K lx bo lk oc eN eV U F Ww Q os ps pc pw rd wr S pr P Z gx R L D bh O
def zY_turn (post : SY → Prop) (p n : Nat) (g : Int32) (k : Nat) (v : SY) : Prop := match v with
  | (qn, ec, pn, go, K, ly, wd, E, U, S, py, Py, Z, gy, R, A, L, F, Ww, Q, fl, pp, qy, O) => wY_turn_16 post (nI p) n g (nI k) qn ec pn go K ly wd E U S py Py Z gy R A L F Ww Q fl pp qy O
def zY_53 (post : SY → Prop) (p : Nat) (v : SY) : Prop := match v with
  | (qn, ec, pn, go, K, ly, wd, E, U, S, py, Py, Z, gy, R, A, L, F, Ww, Q, fl, pp, qy, O) => wY_turn_53 post (nI p) qn ec pn go K ly wd E U S py Py Z gy R A L F Ww Q fl pp qy O
theorem zx_stop {post : SX → Prop} {p n k : Nat} {u : SX} (h : post u) : zX_work post p (n + 1) 0 k u := by
  show wX_work_4 post (nI p) (n + 1) 0 (nI k) _ _ _ _ _ _ _ _ _ _ _ _ _ _ _ _ _ _ _ _ _ _ _ _ _ _ _ _ _ _ _ _ _ _ _ _ _ _
  exact br_c (fun _ => h) (fun _ => br_t rfl h)
theorem zy_stop {post : SY → Prop} {p n k : Nat} {v : SY} (h : zY_53 post p v) : zY_turn post p (n + 1) 0 k v := by
  show wY_turn_16 post (nI p) (n + 1) 0 (nI k) _ _ _ _ _ _ _ _ _ _ _ _ _ _ _ _ _ _ _ _ _ _ _ _
  exact br_c (fun _ => h) (fun _ => br_t rfl h)
end
section
/-! the work of a turn -/
theorem zi_Bm {B B' : Nat} {cur : Nat} {C : Nat → Int32} {ln bl dc : Nat → Nat} {ql : List Nat} {fu : Int64} {nk lv qa qz pn : Int32} {st kb ch kw K lx bo lk oc eN eV U F Q os ps pc pw rd wr S pr P Z gx L D bh : Nat → Int32} {qn : Int32} {ly wd E py gy A fl pp qy : Nat → Int32} (I : zz_I B cur C ln bl dc ql fu nk lv qa qz pn st kb ch kw K lx bo lk oc eN eV U F Q os ps pc pw rd wr S pr P Z gx L D bh qn ly wd E py gy A fl pp qy) (h : B ≤ B') (h2 : B' < 1000000) : zz_I B' cur C ln bl dc ql fu nk lv qa qz pn st kb ch kw K lx bo lk oc eN eV U F Q os ps pc pw rd wr S pr P Z gx L D bh qn ly wd E py gy A fl pp qy := by
  obtain ⟨i1, i2, i3, i4, i5, j1, j2, j3, j4, _, n, hn, e⟩ := I
  exact ⟨i1, i2, i3, i4, i5, j1, j2, j3, j4, h2, n, by omega, e⟩
theorem zz_Rm {B B' cur : Nat} {u : SX} {v : SY} (h : B ≤ B') (h2 : B' < 1000000) (H : zz_R B cur u v) : zz_R B' cur u v := by
  refine zz_el (Φ := fun u v => zz_R B' cur u v) ?_ H
  intro C ln bl dc ql fu nk lv qa qz ec pn st kb ch kw K lx bo lk oc eN eV U F Ww Q os ps pc pw rd wr S pr P Z gx R L D bh O qn go ly wd E py gy A fl pp qy I
  exact zz_mk (zi_Bm I h h2)
theorem zi_wt {B p s z : Nat} {C : Nat → Int32} {ln bl dc : Nat → Nat} {ql : List Nat} {fu : Int64} {nk lv qa qz : Int32} {ec : Int64} {pn : Int32} {st kb ch kw K lx bo lk oc eN eV U F Ww Q os ps pc pw rd wr S pr P Z gx R L D bh O : Nat → Int32} {qn go : Int32} {ly wd E py gy A fl pp qy : Nat → Int32} (I : zz_I B p C ln bl dc ql fu nk lv qa qz pn st kb ch kw K lx bo lk oc eN eV U F Q os ps pc pw rd wr S pr P Z gx L D bh qn ly wd E py gy A fl pp qy) (hp : p < 5) (hS : S p = 1) (hz : z ≤ 20) (eZ : Z p = nI z) (eP : P p = nI s) (hs : s < z) : zz_I B p C ln bl dc ql fu nk lv qa qz pn st kb ch kw K lx bo lk oc eN eV U F Q os ps pc pw rd wr (upd S p 2) pr P Z gx L D bh qn ly wd E py gy A fl pp qy := by
  obtain ⟨⟨t1, t2, t3, t4, t5, t6, t7⟩, i2, ⟨o1, o2, o3, o4, o5, o6⟩, i4, ⟨q1, q2⟩, j1, j2, j3, j4, j5⟩ := I
  have hne : ∀ q, q ≠ p → upd S p 2 q = S q := fun q h => pk_un h
  have hal : ∀ q, (upd S p 2 q = 1 ∨ upd S p 2 q = 2) → (S q = 1 ∨ S q = 2) := by
    intro q h
    by_cases e : q = p
    · subst e; exact Or.inl hS
    · rw [hne q e] at h; exact h
  refine ⟨⟨t1, t2, t3, t4, fun q hq h => t5 q hq (hal q h), t6, t7⟩, i2, ⟨o1, o2, o3, o4, o5, fun q hq h1 h2 => ?_⟩, i4, ⟨q1, fun q hq => ?_⟩, fun q hq => ?_, fun q hq h => ?_, fun q hq h => j3 q hq (hal q h), fun q hq h => ?_, j5⟩
  · have e : q ≠ p := fun e => by rw [e] at h2; exact h2 pk_us
    rw [hne q e] at h1 h2
    exact o6 q hq h1 h2
  · rw [q2 q hq]
    by_cases e : q = p
    · subst e; exact ⟨fun y => absurd rfl y.2, fun y => absurd rfl y.2⟩
    · rw [hne q e]
  · by_cases e : q = p
    · subst e; rw [pk_us]; exact Or.inr (Or.inr (Or.inl rfl))
    · rw [hne q e]; exact j1 q hq
  · by_cases e : q = p
    · subst e; exact j2 q hq (by rw [hS]; decide)
    · rw [hne q e] at h; exact j2 q hq h
  · by_cases e : q = p
    · subst e; exact ⟨s, z, hs, hz, eP, eZ⟩
    · rw [hne q e] at h; exact j4 q hq h
theorem zj_work {p : Nat} (hp : p < 5) : ∀ (t k B : Nat) (u : SX) (v : SY), k + t = 3 → B + t < 1000000 → zz_R B p u v → zs_S u p = 1 → ∃ (u' : SX) (v' : SY), zz_R (B + t) p u' v' ∧ (∀ post : SX → Prop, post u' → zX_work post p (t + 1) 1 k u) ∧ ∀ post : SY → Prop, zY_53 post p v' → zY_turn post p (t + 1) 1 k v := by
  intro t
  induction t with
  | zero =>
    intro k B u v hk hB H hS
    have e : k = 3 := by omega
    subst e
    refine ⟨u, v, H, fun post h => ?_, fun post h => ?_⟩
    · show wX_work_4 post (nI p) 1 1 (nI 3) _ _ _ _ _ _ _ _ _ _ _ _ _ _ _ _ _ _ _ _ _ _ _ _ _ _ _ _ _ _ _ _ _ _ _ _ _ _
      exact br_t (by decide) h
    · show wY_turn_16 post (nI p) 1 1 (nI 3) _ _ _ _ _ _ _ _ _ _ _ _ _ _ _ _ _ _ _ _ _ _ _ _
      exact br_t (by decide) h
  | succ t ih =>
    intro k B u v hk hB H
    refine zz_el (Φ := fun u v => zs_S u p = 1 → ∃ (u' : SX) (v' : SY), zz_R (B + (t + 1)) p u' v' ∧ (∀ post : SX → Prop, post u' → zX_work post p (t + 1 + 1) 1 k u) ∧ ∀ post : SY → Prop, zY_53 post p v' → zY_turn post p (t + 1 + 1) 1 k v) ?_ H
    intro C ln bl dc ql fu nk lv qa qz ec pn st kb ch kw K lx bo lk oc eN eV U F Ww Q os ps pc pw rd wr S pr P Z gx R L D bh O qn go ly wd E py gy A fl pp qy I hS0
    have hS : S p = 1 := hS0
    obtain ⟨z, hz, eZ, hg⟩ := I.2.2.2.2.2.2.2.1 p hp (Or.inl hS)
    have hk3 : ¬ (3 : Int32) ≤ nI k := nI_ge (b := 3) (by omega) (by decide)
    rcases Classical.em (za_r z (P p)) with ⟨s, hs, eP⟩ | hout
    · obtain ⟨o, a, b, c, hD, hc, hWX, hWY⟩ := zj_wait (R := R) (ec := ec) (O := O) (Ww := Ww) (go := go) I hp hz eZ eP hs (hg s hs)
      by_cases hwt : zw_W S pr dc pc p (gy (20 * p + s)) c
      · refine ⟨(fu, nk, lv, qa, qz, ec, pn, st, kb, ch, kw, K, lx, bo, lk, oc, eN, eV, U, F, Ww, Q, os, ps, pc, pw, rd, wr, upd S p 2, pr, P, Z, gx, R, L, D, bh, O), (qn, ec, pn, go, K, ly, wd, E, U, upd S p 2, py, P, Z, gy, R, A, L, F, Ww, Q, fl, pp, qy, O), zz_mk (zi_Bm (zi_wt (ec := ec) (R := R) (O := O) (Ww := Ww) (go := go) I hp hS hz eZ eP hs) (by omega) hB), fun post h => ?_, fun post h => ?_⟩
        · show wX_work_4 post (nI p) (t + 1 + 1) 1 (nI k) fu nk lv qa qz ec pn st kb ch kw K lx bo lk oc eN eV U F Ww Q os ps pc pw rd wr S pr P Z gx R L D bh O
          refine br_f hk3 (br_f (by decide) ⟨vp_in_nI hp (by decide), nm_r (e' := nI s) ((zcl (by omega)).trans eP) (br_f (nI_pos (by omega)) ⟨vp_in_nI hp (by decide), ?_⟩)⟩)
          rw [zcl (f := Z) (by omega), eZ]
          refine br_t (nI_lt hs (by omega)) (hWX _ (fun y => br_f (by decide) ⟨vp_in_nI hp (by decide), ?_⟩) (fun y => absurd hwt y))
          rw [nI_clamp (n := p) (by omega), zb_2]
          exact nm_e h
        · show wY_turn_16 post (nI p) (t + 1 + 1) 1 (nI k) qn ec pn go K ly wd E U S py P Z gy R A L F Ww Q fl pp qy O
          refine br_f hk3 (br_f (by decide) (hWY _ (fun y => br_f (by decide) ⟨vp_in_nI hp (by decide), ?_⟩) (fun y => absurd hwt y)))
          rw [nI_clamp (n := p) (by omega)]
          refine nm_e (h.2.2 ?_)
          rw [zcl (f := upd S p 2) (by omega), pk_us]
          decide
      · obtain ⟨r, u1, v1, hQ, hX, hY⟩ := zj_step (ec := ec) (R := R) (O := O) (Ww := Ww) (go := go) I (by omega) hp hS hz eZ eP hs rfl hD hc hwt
        revert hX hY
        refine zz_Qel (Φ := fun u1 v1 => (∀ post : SX → Prop, post u1 → wpX_execute post (fu, nk, lv, qa, qz, ec + 1, pn, st, kb, ch, kw, K, lx, bo, lk, oc, eN, eV, U, F, Ww, Q, os, ps, pc, pw, rd, wr, S, pr, P, Z, gx, R, L, D, bh, O) (nI p) (gy (20 * p + s))) → (∀ post : Int32 → SY → Prop, post r v1 → wpY_execute post (qn, ec, pn, go, K, ly, wd, E, U, S, py, P, Z, gy, R, A, L, F, Ww, Q, fl, pp, qy, O) (nI p)) → ∃ (u' : SX) (v' : SY), zz_R (B + (t + 1)) p u' v' ∧ (∀ post : SX → Prop, post u' → zX_work post p (t + 1 + 1) 1 k (fu, nk, lv, qa, qz, ec, pn, st, kb, ch, kw, K, lx, bo, lk, oc, eN, eV, U, F, Ww, Q, os, ps, pc, pw, rd, wr, S, pr, P, Z, gx, R, L, D, bh, O)) ∧ ∀ post : SY → Prop, zY_53 post p v' → zY_turn post p (t + 1 + 1) 1 k (qn, ec, pn, go, K, ly, wd, E, U, S, py, P, Z, gy, R, A, L, F, Ww, Q, fl, pp, qy, O)) ?_ hQ
        intro C2 ln2 bl2 dc2 ql2 fu2 nk2 lv2 qa2 qz2 ec2 pn2 st2 kb2 ch2 kw2 K2 lx2 bo2 lk2 oc2 eN2 eV2 U2 F2 Ww2 Q2 os2 ps2 pc2 pw2 rd2 wr2 S2 pr2 P2 Z2 gx2 R2 L2 D2 bh2 O2 qn2 go2 ly2 wd2 E2 py2 gy2 A2 fl2 pp2 qy2 I2 hr hX hY
        have hXp : ∀ post : SX → Prop, ((S2 p = 1 → ((gy (20 * p + s) &&& 31 = 25 → zX_work post p (t + 1) 0 (k + 1) (fu2, nk2, lv2, qa2, qz2, ec2, pn2, st2, kb2, ch2, kw2, K2, lx2, bo2, lk2, oc2, eN2, eV2, U2, F2, Ww2, Q2, os2, ps2, pc2, pw2, rd2, wr2, S2, pr2, P2, Z2, gx2, R2, L2, D2, bh2, O2)) ∧ (¬ gy (20 * p + s) &&& 31 = 25 → zX_work post p (t + 1) 1 (k + 1) (fu2, nk2, lv2, qa2, qz2, ec2, pn2, st2, kb2, ch2, kw2, K2, lx2, bo2, lk2, oc2, eN2, eV2, U2, F2, Ww2, Q2, os2, ps2, pc2, pw2, rd2, wr2, S2, pr2, P2, Z2, gx2, R2, L2, D2, bh2, O2)))) ∧ (¬ S2 p = 1 → zX_work post p (t + 1) 0 (k + 1) (fu2, nk2, lv2, qa2, qz2, ec2, pn2, st2, kb2, ch2, kw2, K2, lx2, bo2, lk2, oc2, eN2, eV2, U2, F2, Ww2, Q2, os2, ps2, pc2, pw2, rd2, wr2, S2, pr2, P2, Z2, gx2, R2, L2, D2, bh2, O2))) → zX_work post p (t + 1 + 1) 1 k (fu, nk, lv, qa, qz, ec, pn, st, kb, ch, kw, K, lx, bo, lk, oc, eN, eV, U, F, Ww, Q, os, ps, pc, pw, rd, wr, S, pr, P, Z, gx, R, L, D, bh, O) := by
          intro post h
          show wX_work_4 post (nI p) (t + 1 + 1) 1 (nI k) fu nk lv qa qz ec pn st kb ch kw K lx bo lk oc eN eV U F Ww Q os ps pc pw rd wr S pr P Z gx R L D bh O
          refine br_f hk3 (br_f (by decide) ⟨vp_in_nI hp (by decide), nm_r (e' := nI s) ((zcl (by omega)).trans eP) (br_f (nI_pos (by omega)) ⟨vp_in_nI hp (by decide), ?_⟩)⟩)
          rw [zcl (f := Z) (by omega), eZ]
          refine br_t (nI_lt hs (by omega)) (hWX _ (fun y => absurd y hwt) (fun y => br_t rfl (nm_e ?_)))
          rw [zi_m20, nI_add, zcl (f := gx) (by omega), hg s hs]
          refine ⟨vp_in_nI (by omega) (by decide), nm_e (hX _ ⟨vp_in_nI hp (by decide), ?_⟩)⟩
          rw [zcl (f := S2) (by omega)]
          exact ⟨fun y => ⟨fun e => nm_r (nI_1 k) ((h.1 y).1 e), fun e => nm_r (nI_1 k) ((h.1 y).2 e)⟩, fun y => nm_r (nI_1 k) (h.2 y)⟩
        have hYp : ∀ post : SY → Prop, zY_turn post p (t + 1) r (k + 1) (qn2, ec2, pn2, go2, K2, ly2, wd2, E2, U2, S2, py2, P2, Z2, gy2, R2, A2, L2, F2, Ww2, Q2, fl2, pp2, qy2, O2) → zY_turn post p (t + 1 + 1) 1 k (qn, ec, pn, go, K, ly, wd, E, U, S, py, P, Z, gy, R, A, L, F, Ww, Q, fl, pp, qy, O) := by
          intro post h
          show wY_turn_16 post (nI p) (t + 1 + 1) 1 (nI k) qn ec pn go K ly wd E U S py P Z gy R A L F Ww Q fl pp qy O
          exact br_f hk3 (br_f (by decide) (hWY _ (fun y => absurd y hwt) (fun y => br_t rfl (hY _ (nm_r (nI_1 k) h)))))
        rcases hr with ⟨er, hS2, h25⟩ | ⟨er, hr2⟩
        · subst er
          obtain ⟨u', v', HR, hX', hY'⟩ := ih (k + 1) (B + 1) (fu2, nk2, lv2, qa2, qz2, ec2, pn2, st2, kb2, ch2, kw2, K2, lx2, bo2, lk2, oc2, eN2, eV2, U2, F2, Ww2, Q2, os2, ps2, pc2, pw2, rd2, wr2, S2, pr2, P2, Z2, gx2, R2, L2, D2, bh2, O2) (qn2, ec2, pn2, go2, K2, ly2, wd2, E2, U2, S2, py2, P2, Z2, gy2, R2, A2, L2, F2, Ww2, Q2, fl2, pp2, qy2, O2) (by omega) (by omega) (zz_mk I2) hS2
          refine ⟨u', v', by rw [show B + (t + 1) = B + 1 + t by omega]; exact HR, fun post h => hXp post ⟨fun _ => ⟨fun y => absurd y h25, fun _ => hX' post h⟩, fun y => absurd hS2 y⟩, fun post h => hYp post (hY' post h)⟩
        · subst er
          refine ⟨(fu2, nk2, lv2, qa2, qz2, ec2, pn2, st2, kb2, ch2, kw2, K2, lx2, bo2, lk2, oc2, eN2, eV2, U2, F2, Ww2, Q2, os2, ps2, pc2, pw2, rd2, wr2, S2, pr2, P2, Z2, gx2, R2, L2, D2, bh2, O2), (qn2, ec2, pn2, go2, K2, ly2, wd2, E2, U2, S2, py2, P2, Z2, gy2, R2, A2, L2, F2, Ww2, Q2, fl2, pp2, qy2, O2), zz_mk (zi_Bm I2 (by omega) hB), fun post h => hXp post ⟨fun y => ⟨fun _ => zx_stop h, fun y2 => ?_⟩, fun _ => zx_stop h⟩, fun post h => hYp post (zy_stop h)⟩
          rcases hr2 with q | q
          · exact absurd y q
          · exact absurd q y2
    · obtain ⟨u1, v1, hQ, hX, hY⟩ := zj_out (w := 0) (ec := ec) (R := R) (O := O) (Ww := Ww) (go := go) I (by omega) hp hS hz eZ hout
      revert hX hY
      refine zz_Qel (Φ := fun u1 v1 => (∀ post : SX → Prop, post u1 → wpX_end post (fu, nk, lv, qa, qz, ec + 1, pn, st, kb, ch, kw, K, lx, bo, lk, oc, eN, eV, U, F, Ww, Q, os, ps, pc, pw, rd, wr, S, pr, P, Z, gx, R, L, D, bh, O) (nI p) (-4)) → (∀ post : Int32 → SY → Prop, post 0 v1 → wpY_execute post (qn, ec, pn, go, K, ly, wd, E, U, S, py, P, Z, gy, R, A, L, F, Ww, Q, fl, pp, qy, O) (nI p)) → ∃ (u' : SX) (v' : SY), zz_R (B + (t + 1)) p u' v' ∧ (∀ post : SX → Prop, post u' → zX_work post p (t + 1 + 1) 1 k (fu, nk, lv, qa, qz, ec, pn, st, kb, ch, kw, K, lx, bo, lk, oc, eN, eV, U, F, Ww, Q, os, ps, pc, pw, rd, wr, S, pr, P, Z, gx, R, L, D, bh, O)) ∧ ∀ post : SY → Prop, zY_53 post p v' → zY_turn post p (t + 1 + 1) 1 k (qn, ec, pn, go, K, ly, wd, E, U, S, py, P, Z, gy, R, A, L, F, Ww, Q, fl, pp, qy, O)) ?_ hQ
      intro C2 ln2 bl2 dc2 ql2 fu2 nk2 lv2 qa2 qz2 ec2 pn2 st2 kb2 ch2 kw2 K2 lx2 bo2 lk2 oc2 eN2 eV2 U2 F2 Ww2 Q2 os2 ps2 pc2 pw2 rd2 wr2 S2 pr2 P2 Z2 gx2 R2 L2 D2 bh2 O2 qn2 go2 ly2 wd2 E2 py2 gy2 A2 fl2 pp2 qy2 I2 hr hX hY
      refine ⟨(fu2, nk2, lv2, qa2, qz2, ec2, pn2, st2, kb2, ch2, kw2, K2, lx2, bo2, lk2, oc2, eN2, eV2, U2, F2, Ww2, Q2, os2, ps2, pc2, pw2, rd2, wr2, S2, pr2, P2, Z2, gx2, R2, L2, D2, bh2, O2), (qn2, ec2, pn2, go2, K2, ly2, wd2, E2, U2, S2, py2, P2, Z2, gy2, R2, A2, L2, F2, Ww2, Q2, fl2, pp2, qy2, O2), zz_mk (zi_Bm I2 (by omega) hB), fun post h => ?_, fun post h => ?_⟩
      · show wX_work_4 post (nI p) (t + 1 + 1) 1 (nI k) fu nk lv qa qz ec pn st kb ch kw K lx bo lk oc eN eV U F Ww Q os ps pc pw rd wr S pr P Z gx R L D bh O
        refine br_f hk3 (br_f (by decide) ⟨vp_in_nI hp (by decide), nm_e ?_⟩)
        rw [zcl (f := P) (by omega), zcl (f := Z) (by omega), eZ]
        have h37 : wX_work_37 post (nI p) fu nk lv qa qz ec pn st kb ch kw K lx bo lk oc eN eV U F Ww Q os ps pc pw rd wr S pr P Z gx R L D bh O := nm_e (hX _ h)
        by_cases c0 : P p < 0
        · exact br_t c0 h37
        · refine br_f c0 ⟨vp_in_nI hp (by decide), br_f (fun y => ?_) h37⟩
          obtain ⟨j, hj, ej⟩ := nI_of c0
          rw [ej, nI_ltI hj (by omega)] at y
          exact hout ⟨j, y, ej⟩
      · show wY_turn_16 post (nI p) (t + 1 + 1) 1 (nI k) qn ec pn go K ly wd E U S py P Z gy R A L F Ww Q fl pp qy O
        exact br_f hk3 (br_f (by decide) (yr_waits0 hp hz eZ hout (br_t rfl (hY _ (nm_r (nI_1 k) (zy_stop h))))))
end
section
/-! waking, turns -/
def zX_t2 (post : Int32 → SX → Prop) (n i : Nat) (u : SX) : Prop := match u with
  | (fu, nk, lv, qa, qz, ec, pn, st, kb, ch, kw, K, lx, bo, lk, oc, eN, eV, U, F, Ww, Q, os, ps, pc, pw, rd, wr, S, pr, P, Z, gx, R, L, D, bh, O) => wX_turn_2 post n (nI i) fu nk lv qa qz ec pn st kb ch kw K lx bo lk oc eN eV U F Ww Q os ps pc pw rd wr S pr P Z gx R L D bh O
def zY_31 (post : Int32 → SY → Prop) (J : Int32 → Int32 → Int64 → Int32 → Int32 → (Nat → Int32) → (Nat → Int32) → (Nat → Int32) → (Nat → Int32) → (Nat → Int32) → (Nat → Int32) → (Nat → Int32) → (Nat → Int32) → (Nat → Int32) → (Nat → Int32) → (Nat → Int32) → (Nat → Int32) → (Nat → Int32) → (Nat → Int32) → (Nat → Int32) → (Nat → Int32) → (Nat → Int32) → (Nat → Int32) → (Nat → Int32) → (Nat → Int32) → Prop) (x2 x3 : Int32) (n i : Nat) (v : SY) : Prop := match v with
  | (qn, ec, pn, go, K, ly, wd, E, U, S, py, Py, Z, gy, R, A, L, F, Ww, Q, fl, pp, qy, O) => wY_run_31 post J x2 x3 n (nI i) qn ec pn go K ly wd E U S py Py Z gy R A L F Ww Q fl pp qy O
def zJ_at (J : Int32 → Int32 → Int64 → Int32 → Int32 → (Nat → Int32) → (Nat → Int32) → (Nat → Int32) → (Nat → Int32) → (Nat → Int32) → (Nat → Int32) → (Nat → Int32) → (Nat → Int32) → (Nat → Int32) → (Nat → Int32) → (Nat → Int32) → (Nat → Int32) → (Nat → Int32) → (Nat → Int32) → (Nat → Int32) → (Nat → Int32) → (Nat → Int32) → (Nat → Int32) → (Nat → Int32) → (Nat → Int32) → Prop) (x : Int32) (v : SY) : Prop := match v with
  | (qn, ec, pn, go, K, ly, wd, E, U, S, py, Py, Z, gy, R, A, L, F, Ww, Q, fl, pp, qy, O) => J x qn ec pn go K ly wd E U S py Py Z gy R A L F Ww Q fl pp qy O
def zX_fin (post : Int32 → SX → Prop) (p : Nat) (u : SX) : Prop := match u with
  | (fu, nk, lv, qa, qz, ec, pn, st, kb, ch, kw, K, lx, bo, lk, oc, eN, eV, U, F, Ww, Q, os, ps, pc, pw, rd, wr, S, pr, P, Z, gx, R, L, D, bh, O) => vp_in (nI p) 5 ∧ ((S (nI p).toNatClampNeg = 1 → wpX_enqueue (fun u => post 1 u) (fu, nk, lv, qa, qz, ec, pn, st, kb, ch, kw, K, lx, bo, lk, oc, eN, eV, U, F, Ww, Q, os, ps, pc, pw, rd, wr, S, pr, P, Z, gx, R, L, D, bh, O) (nI p)) ∧ (¬ S (nI p).toNatClampNeg = 1 → post 1 (fu, nk, lv, qa, qz, ec, pn, st, kb, ch, kw, K, lx, bo, lk, oc, eN, eV, U, F, Ww, Q, os, ps, pc, pw, rd, wr, S, pr, P, Z, gx, R, L, D, bh, O)))
/-- p, ready, goes to the queue's end -/
theorem zi_enq {B p : Nat} {cur : Nat} {C : Nat → Int32} {ln bl dc : Nat → Nat} {ql : List Nat} {fu : Int64} {nk lv qa qz pn : Int32} {st kb ch kw K lx bo lk oc eN eV U F Q os ps pc pw rd wr S pr P Z gx L D bh : Nat → Int32} {qn : Int32} {ly wd E py gy A fl pp qy : Nat → Int32} {qa' : Int32} {bh' : Nat → Int32} (I : zz_I B cur C ln bl dc ql fu nk lv qa qz pn st kb ch kw K lx bo lk oc eN eV U F Q os ps pc pw rd wr S pr P Z gx L D bh qn ly wd E py gy A fl pp qy) (hp : p < 5) (hS : S p = 1 ∨ S p = 2) (hn : p ∉ ql) (hcur : ∀ q, q < 5 → q ≠ p → (S q = 1 ∧ q ≠ cur ↔ S q = 1 ∧ q ≠ 5)) (ea : qa' = zq_h (ql ++ [p])) (hc : zq_c bh' (ql ++ [p])) :
    zz_I B 5 C ln bl dc (ql ++ [p]) fu nk lv qa' (nI p) pn st kb ch kw K lx bo lk oc eN eV U F Q os ps pc pw rd wr (upd S p 1) pr P Z gx L D bh' (nI (ql.length + 1)) ly wd E py gy A fl pp (upd qy ql.length (nI p)) := by
  obtain ⟨⟨t1, t2, t3, t4, t5, t6, t7⟩, i2, ⟨o1, o2, o3, o4, o5, o6⟩, i4, ⟨⟨q1, q2, q3, q4, q5, q6, q7⟩, q8⟩, j1, j2, j3, j4, j5⟩ := I
  have hSn : ∀ q, q ≠ p → upd S p 1 q = S q := fun q h => pk_un h
  have hal : ∀ q, (upd S p 1 q = 1 ∨ upd S p 1 q = 2) → (S q = 1 ∨ S q = 2) := by
    intro q h
    by_cases e : q = p
    · subst e; exact hS
    · rw [hSn q e] at h; exact h
  refine ⟨⟨t1, t2, t3, t4, fun q hq h => t5 q hq (hal q h), t6, t7⟩, i2, ⟨o1, o2, o3, o4, o5, fun q hq h1 h2 => ?_⟩, i4, ⟨⟨?_, ?_, ea, (zq_la p ql).symm, hc, ?_, ?_⟩, ?_⟩, ?_, ?_, fun q hq h => j3 q hq (hal q h), ?_, j5⟩
  · have e : q ≠ p := fun e => by rw [e] at h1; exact h1 pk_us
    rw [hSn q e] at h1 h2
    exact o6 q hq h1 h2
  · intro q hq
    rcases List.mem_append.mp hq with y | y
    · exact q1 q y
    · rw [List.mem_singleton.mp y]; exact hp
  · rw [List.nodup_append]
    exact ⟨q2, by simp, fun x hx y hy e => hn (by rw [List.mem_singleton.mp hy] at e; rw [← e]; exact hx)⟩
  · rw [List.length_append]; rfl
  · rw [zq_ya]
    exact ⟨zq_yu (Or.inr (by omega)) q7, by rw [Nat.zero_add]; exact pk_us, trivial⟩
  · intro q hq
    rw [List.mem_append, List.mem_singleton, q8 q hq]
    by_cases e : q = p
    · subst e; rw [pk_us]; exact ⟨fun _ => ⟨rfl, by omega⟩, fun _ => Or.inr rfl⟩
    · rw [hSn q e, hcur q hq e]; exact ⟨fun y => y.elim id (fun y => absurd y e), Or.inl⟩
  · intro q hq
    by_cases e : q = p
    · subst e; rw [pk_us]; exact Or.inr (Or.inl rfl)
    · rw [hSn q e]; exact j1 q hq
  · intro q hq h
    by_cases e : q = p
    · subst e; exact j2 q hq (by rcases hS with y | y <;> rw [y] <;> decide)
    · rw [hSn q e] at h; exact j2 q hq h
  · intro q hq h
    have e : q ≠ p := fun e => by rw [e, pk_us] at h; exact absurd h (by decide)
    rw [hSn q e] at h
    exact j4 q hq h
theorem zj_wake {B i : Nat} (hi : i < 5) {u : SX} {v : SY} (H : zz_R B 5 u v) : ∃ (u' : SX) (v' : SY), zz_R B 5 u' v' ∧ (∀ (post : Int32 → SX → Prop) (n : Nat), zX_t2 post n (i + 1) u' → zX_t2 post (n + 1) i u) ∧
    ∀ (post : Int32 → SY → Prop) (J : Int32 → Int32 → Int64 → Int32 → Int32 → (Nat → Int32) → (Nat → Int32) → (Nat → Int32) → (Nat → Int32) → (Nat → Int32) → (Nat → Int32) → (Nat → Int32) → (Nat → Int32) → (Nat → Int32) → (Nat → Int32) → (Nat → Int32) → (Nat → Int32) → (Nat → Int32) → (Nat → Int32) → (Nat → Int32) → (Nat → Int32) → (Nat → Int32) → (Nat → Int32) → (Nat → Int32) → (Nat → Int32) → Prop) (x2 x3 : Int32) (n : Nat), zY_31 post J x2 x3 n (i + 1) v' → zY_31 post J x2 x3 (n + 1) i v := by
  refine zz_el (Φ := fun u v => ∃ (u' : SX) (v' : SY), zz_R B 5 u' v' ∧ (∀ (post : Int32 → SX → Prop) (n : Nat), zX_t2 post n (i + 1) u' → zX_t2 post (n + 1) i u) ∧ ∀ (post : Int32 → SY → Prop) (J : Int32 → Int32 → Int64 → Int32 → Int32 → (Nat → Int32) → (Nat → Int32) → (Nat → Int32) → (Nat → Int32) → (Nat → Int32) → (Nat → Int32) → (Nat → Int32) → (Nat → Int32) → (Nat → Int32) → (Nat → Int32) → (Nat → Int32) → (Nat → Int32) → (Nat → Int32) → (Nat → Int32) → (Nat → Int32) → (Nat → Int32) → (Nat → Int32) → (Nat → Int32) → (Nat → Int32) → (Nat → Int32) → Prop) (x2 x3 : Int32) (n : Nat), zY_31 post J x2 x3 n (i + 1) v' → zY_31 post J x2 x3 (n + 1) i v) ?_ H
  intro C ln bl dc ql fu nk lv qa qz ec pn st kb ch kw K lx bo lk oc eN eV U F Ww Q os ps pc pw rd wr S pr P Z gx R L D bh O qn go ly wd E py gy A fl pp qy I
  have h5 : ¬ (5 : Int32) ≤ nI i := nI_ge (b := 5) hi (by decide)
  by_cases c2 : S i = 2
  · obtain ⟨s, z, hs, hz, eP, eZ⟩ := I.2.2.2.2.2.2.2.2.1 i hi c2
    obtain ⟨z', hz', eZ', hg⟩ := I.2.2.2.2.2.2.2.1 i hi (Or.inr c2)
    have := zi_inj (by omega) (by omega) (eZ'.symm.trans eZ)
    subst this
    obtain ⟨o, a, b, c, hD, hc, hWX, hWY⟩ := zj_wait (R := R) (ec := ec) (O := O) (Ww := Ww) (go := go) I hi hz eZ eP hs (hg s hs)
    by_cases hwt : zw_W S pr dc pc i (gy (20 * i + s)) c
    · refine ⟨(fu, nk, lv, qa, qz, ec, pn, st, kb, ch, kw, K, lx, bo, lk, oc, eN, eV, U, F, Ww, Q, os, ps, pc, pw, rd, wr, S, pr, P, Z, gx, R, L, D, bh, O), (qn, ec, pn, go, K, ly, wd, E, U, S, py, P, Z, gy, R, A, L, F, Ww, Q, fl, pp, qy, O), zz_mk I, fun post n h => ?_, fun post J x2 x3 n h => ?_⟩
      · show wX_turn_2 post (n + 1) (nI i) fu nk lv qa qz ec pn st kb ch kw K lx bo lk oc eN eV U F Ww Q os ps pc pw rd wr S pr P Z gx R L D bh O
        refine br_f h5 ⟨vp_in_nI hi (by decide), br_t ((zcl (by omega)).trans c2) (hWX _ (fun y => br_f (by decide) (nm_r (nI_1 i) h)) (fun y => absurd hwt y))⟩
      · show wY_run_31 post J x2 x3 (n + 1) (nI i) qn ec pn go K ly wd E U S py P Z gy R A L F Ww Q fl pp qy O
        refine br_f h5 ⟨vp_in_nI hi (by decide), br_t ((zcl (by omega)).trans c2) (hWY _ (fun y => br_f (by decide) (nm_r (nI_1 i) h)) (fun y => absurd hwt y))⟩
    · obtain ⟨q1, q2, q3, q4, q5, q6, q7⟩ := I.2.2.2.2.1.1
      have hnq : i ∉ ql := fun y => by
        have := ((I.2.2.2.2.1.2 i hi).mp y).1
        rw [c2] at this; exact absurd this (by decide)
      obtain ⟨qa', bh', ea', hc', hXq⟩ := xq_enqueue (fu := fu) (nk := nk) (lv := lv) (qa := qa) (qz := qz) (ec := ec) (pn := pn) (st := st) (kb := kb) (ch := ch) (kw := kw) (K := K) (lx := lx) (bo := bo) (lk := lk) (oc := oc) (eN := eN) (eV := eV) (U := U) (F := F) (Ww := Ww) (Q := Q) (os := os) (ps := ps) (pc := pc) (pw := pw) (rd := rd) (wr := wr) (S := upd S i 1) (pr := pr) (P := P) (Z := Z) (gx := gx) (R := R) (L := L) (D := D) (bh := bh) (O := O) hi q1 q2 q3 q4 q5 hnq
      refine ⟨(fu, nk, lv, qa', nI i, ec, pn, st, kb, ch, kw, K, lx, bo, lk, oc, eN, eV, U, F, Ww, Q, os, ps, pc, pw, rd, wr, upd S i 1, pr, P, Z, gx, R, L, D, bh', O), (nI (ql.length + 1), ec, pn, go, K, ly, wd, E, U, upd S i 1, py, P, Z, gy, R, A, L, F, Ww, Q, fl, pp, upd qy ql.length (nI i), O), zz_mk (zi_enq I hi (Or.inr c2) hnq (fun q hq _ => Iff.rfl) ea' hc'), fun post n h => ?_, fun post J x2 x3 n h => ?_⟩
      · show wX_turn_2 post (n + 1) (nI i) fu nk lv qa qz ec pn st kb ch kw K lx bo lk oc eN eV U F Ww Q os ps pc pw rd wr S pr P Z gx R L D bh O
        refine br_f h5 ⟨vp_in_nI hi (by decide), br_t ((zcl (by omega)).trans c2) (hWX _ (fun y => absurd y hwt) (fun y => br_t rfl ⟨vp_in_nI hi (by decide), ?_⟩))⟩
        rw [nI_clamp (n := i) (by omega), zb_1]
        exact nm_e (hXq _ (nm_r (nI_1 i) h))
      · show wY_run_31 post J x2 x3 (n + 1) (nI i) qn ec pn go K ly wd E U S py P Z gy R A L F Ww Q fl pp qy O
        exact br_f h5 ⟨vp_in_nI hi (by decide), br_t ((zcl (by omega)).trans c2) (hWY _ (fun y => absurd y hwt) (fun y => br_t rfl (yo_join hi q6 (zq_len q1 q2) (nm_r (nI_1 i) h))))⟩
  · refine ⟨(fu, nk, lv, qa, qz, ec, pn, st, kb, ch, kw, K, lx, bo, lk, oc, eN, eV, U, F, Ww, Q, os, ps, pc, pw, rd, wr, S, pr, P, Z, gx, R, L, D, bh, O), (qn, ec, pn, go, K, ly, wd, E, U, S, py, P, Z, gy, R, A, L, F, Ww, Q, fl, pp, qy, O), zz_mk I, fun post n h => ?_, fun post J x2 x3 n h => ?_⟩
    · show wX_turn_2 post (n + 1) (nI i) fu nk lv qa qz ec pn st kb ch kw K lx bo lk oc eN eV U F Ww Q os ps pc pw rd wr S pr P Z gx R L D bh O
      exact br_f h5 ⟨vp_in_nI hi (by decide), br_f (fun y => c2 ((zcl (by omega)).symm.trans y)) (nm_r (nI_1 i) h)⟩
    · show wY_run_31 post J x2 x3 (n + 1) (nI i) qn ec pn go K ly wd E U S py P Z gy R A L F Ww Q fl pp qy O
      exact br_f h5 ⟨vp_in_nI hi (by decide), br_f (fun y => c2 ((zcl (by omega)).symm.trans y)) (nm_r (nI_1 i) h)⟩
theorem zj_fin {B p : Nat} (hp : p < 5) {u : SX} {v : SY} (H : zz_R B p u v) : ∃ (u' : SX) (v' : SY), zz_R B 5 u' v' ∧ (∀ post : Int32 → SX → Prop, post 1 u' → zX_fin post p u) ∧ ∀ post : SY → Prop, post v' → zY_53 post p v := by
  refine zz_el (Φ := fun u v => ∃ (u' : SX) (v' : SY), zz_R B 5 u' v' ∧ (∀ post : Int32 → SX → Prop, post 1 u' → zX_fin post p u) ∧ ∀ post : SY → Prop, post v' → zY_53 post p v) ?_ H
  intro C ln bl dc ql fu nk lv qa qz ec pn st kb ch kw K lx bo lk oc eN eV U F Ww Q os ps pc pw rd wr S pr P Z gx R L D bh O qn go ly wd E py gy A fl pp qy I
  obtain ⟨q1, q2, q3, q4, q5, q6, q7⟩ := I.2.2.2.2.1.1
  have q8 := I.2.2.2.2.1.2
  by_cases c1 : S p = 1
  · have hnq : p ∉ ql := fun y => ((q8 p hp).mp y).2 rfl
    have hS1 : upd S p 1 = S := zi_uid c1
    obtain ⟨qa', bh', ea', hc', hXq⟩ := xq_enqueue (fu := fu) (nk := nk) (lv := lv) (qa := qa) (qz := qz) (ec := ec) (pn := pn) (st := st) (kb := kb) (ch := ch) (kw := kw) (K := K) (lx := lx) (bo := bo) (lk := lk) (oc := oc) (eN := eN) (eV := eV) (U := U) (F := F) (Ww := Ww) (Q := Q) (os := os) (ps := ps) (pc := pc) (pw := pw) (rd := rd) (wr := wr) (S := S) (pr := pr) (P := P) (Z := Z) (gx := gx) (R := R) (L := L) (D := D) (bh := bh) (O := O) hp q1 q2 q3 q4 q5 hnq
    have I' := zi_enq I hp (Or.inl c1) hnq (fun q hq ne => ⟨fun y => ⟨y.1, by omega⟩, fun y => ⟨y.1, ne⟩⟩) ea' hc'
    rw [hS1] at I'
    refine ⟨(fu, nk, lv, qa', nI p, ec, pn, st, kb, ch, kw, K, lx, bo, lk, oc, eN, eV, U, F, Ww, Q, os, ps, pc, pw, rd, wr, S, pr, P, Z, gx, R, L, D, bh', O), (nI (ql.length + 1), ec, pn, go, K, ly, wd, E, U, S, py, P, Z, gy, R, A, L, F, Ww, Q, fl, pp, upd qy ql.length (nI p), O), zz_mk I', fun post h => ?_, fun post h => ?_⟩
    · exact ⟨vp_in_nI hp (by decide), br_t ((zcl (by omega)).trans c1) (hXq _ h)⟩
    · exact ⟨vp_in_nI hp (by decide), br_t ((zcl (by omega)).trans c1) (yo_join hp q6 (zq_len q1 q2) (by rw [hS1]; exact h))⟩
  · have I' : zz_I B 5 C ln bl dc ql fu nk lv qa qz pn st kb ch kw K lx bo lk oc eN eV U F Q os ps pc pw rd wr S pr P Z gx L D bh qn ly wd E py gy A fl pp qy := by
      obtain ⟨i1, i2, i3, i4, ⟨qq, _⟩, i6⟩ := I
      refine ⟨i1, i2, i3, i4, ⟨qq, fun q hq => ?_⟩, i6⟩
      rw [q8 q hq]
      exact ⟨fun y => ⟨y.1, by omega⟩, fun y => ⟨y.1, fun e => c1 (by rw [← e]; exact y.1)⟩⟩
    refine ⟨(fu, nk, lv, qa, qz, ec, pn, st, kb, ch, kw, K, lx, bo, lk, oc, eN, eV, U, F, Ww, Q, os, ps, pc, pw, rd, wr, S, pr, P, Z, gx, R, L, D, bh, O), (qn, ec, pn, go, K, ly, wd, E, U, S, py, P, Z, gy, R, A, L, F, Ww, Q, fl, pp, qy, O), zz_mk I', fun post h => ?_, fun post h => ?_⟩
    · exact ⟨vp_in_nI hp (by decide), br_f (fun y => c1 ((zcl (by omega)).symm.trans y)) h⟩
    · exact ⟨vp_in_nI hp (by decide), br_f (fun y => c1 ((zcl (by omega)).symm.trans y)) h⟩
/-- behind the waking: a turn, or none is queued -/
theorem zj_turn5 {B : Nat} (hB : B + 3 < 1000000) {u : SX} {v : SY} (H : zz_R B 5 u v) : ∃ (r : Int32) (u' : SX) (v' : SY), zz_R (B + 3) 5 u' v' ∧ (r = 0 ∨ r = 1) ∧ (∀ post : Int32 → SX → Prop, post r u' → zX_t2 post 1 5 u) ∧
    ∀ (post : Int32 → SY → Prop) (J : Int32 → Int32 → Int64 → Int32 → Int32 → (Nat → Int32) → (Nat → Int32) → (Nat → Int32) → (Nat → Int32) → (Nat → Int32) → (Nat → Int32) → (Nat → Int32) → (Nat → Int32) → (Nat → Int32) → (Nat → Int32) → (Nat → Int32) → (Nat → Int32) → (Nat → Int32) → (Nat → Int32) → (Nat → Int32) → (Nat → Int32) → (Nat → Int32) → (Nat → Int32) → (Nat → Int32) → (Nat → Int32) → Prop) (x2 x3 : Int32), (r = 0 → post x3 v') → (r = 1 → zJ_at J (x3 + 1) v') → zY_31 post J x2 x3 1 5 v := by
  refine zz_el (Φ := fun u v => ∃ (r : Int32) (u' : SX) (v' : SY), zz_R (B + 3) 5 u' v' ∧ (r = 0 ∨ r = 1) ∧ (∀ post : Int32 → SX → Prop, post r u' → zX_t2 post 1 5 u) ∧ ∀ (post : Int32 → SY → Prop) (J : Int32 → Int32 → Int64 → Int32 → Int32 → (Nat → Int32) → (Nat → Int32) → (Nat → Int32) → (Nat → Int32) → (Nat → Int32) → (Nat → Int32) → (Nat → Int32) → (Nat → Int32) → (Nat → Int32) → (Nat → Int32) → (Nat → Int32) → (Nat → Int32) → (Nat → Int32) → (Nat → Int32) → (Nat → Int32) → (Nat → Int32) → (Nat → Int32) → (Nat → Int32) → (Nat → Int32) → (Nat → Int32) → Prop) (x2 x3 : Int32), (r = 0 → post x3 v') → (r = 1 → zJ_at J (x3 + 1) v') → zY_31 post J x2 x3 1 5 v) ?_ H
  intro C ln bl dc ql fu nk lv qa qz ec pn st kb ch kw K lx bo lk oc eN eV U F Ww Q os ps pc pw rd wr S pr P Z gx R L D bh O qn go ly wd E py gy A fl pp qy I
  obtain ⟨q1, q2, q3, q4, q5, q6, q7⟩ := I.2.2.2.2.1.1
  have q8 := I.2.2.2.2.1.2
  cases ql with
  | nil =>
    refine ⟨0, (fu, nk, lv, qa, qz, ec, pn, st, kb, ch, kw, K, lx, bo, lk, oc, eN, eV, U, F, Ww, Q, os, ps, pc, pw, rd, wr, S, pr, P, Z, gx, R, L, D, bh, O), (qn, ec, pn, go, K, ly, wd, E, U, S, py, P, Z, gy, R, A, L, F, Ww, Q, fl, pp, qy, O), zz_mk (zi_Bm I (by omega) hB), Or.inl rfl, fun post h => ?_, fun post J x2 x3 h0 h1 => ?_⟩
    · show wX_turn_2 post 1 (nI 5) fu nk lv qa qz ec pn st kb ch kw K lx bo lk oc eN eV U F Ww Q os ps pc pw rd wr S pr P Z gx R L D bh O
      refine br_t (by decide) ?_
      exact xq_dequeue0 q3 (br_f (by decide) h)
    · show wY_run_31 post J x2 x3 1 (nI 5) qn ec pn go K ly wd E U S py P Z gy R A L F Ww Q fl pp qy O
      exact br_t (by decide) (br_t q6 (h0 rfl))
  | cons p t =>
    have hp : p < 5 := q1 p List.mem_cons_self
    have ht5 : ∀ q, q ∈ t → q < 5 := fun q hq => q1 q (List.mem_cons_of_mem _ hq)
    have hnt := List.nodup_cons.mp q2
    have hlen := zq_len q1 q2
    have hS : S p = 1 := ((q8 p hp).mp List.mem_cons_self).1
    have hrp : zq_r p (p :: t) = t := by rw [zq_r, if_pos rfl, zq_rn hnt.1]
    obtain ⟨qy', hy', hYq⟩ := yo_leave (qn := qn) (ec := ec) (pn := pn) (go := go) (K := K) (ly := ly) (wd := wd) (E := E) (U := U) (S := S) (py := py) (Py := P) (Z := Z) (gy := gy) (R := R) (A := A) (L := L) (F := F) (Ww := Ww) (Q := Q) (fl := fl) (pp := pp) (qy := qy) (O := O) hp q1 hlen q6 q7
    rw [hrp] at hy' hYq
    have I' : zz_I B p C ln bl dc t fu nk lv (zq_h t) (zq_l t) pn st kb ch kw K lx bo lk oc eN eV U F Q os ps pc pw rd wr S pr P Z gx L D bh (nI t.length) ly wd E py gy A fl pp qy' := by
      obtain ⟨i1, i2, i3, i4, _, i6⟩ := I
      refine ⟨i1, i2, i3, i4, ⟨⟨ht5, hnt.2, rfl, rfl, q5.2, rfl, hy'⟩, fun q hq => ?_⟩, i6⟩
      have := q8 q hq
      rw [List.mem_cons] at this
      constructor
      · intro y
        exact ⟨(this.mp (Or.inr y)).1, fun e => hnt.1 (by rw [← e]; exact y)⟩
      · intro y
        rcases this.mpr ⟨y.1, by omega⟩ with e | e
        · exact absurd e y.2
        · exact e
    obtain ⟨u1, v1, H1, hX1, hY1⟩ := zj_work hp 3 0 B (fu, nk, lv, zq_h t, zq_l t, ec, pn, st, kb, ch, kw, K, lx, bo, lk, oc, eN, eV, U, F, Ww, Q, os, ps, pc, pw, rd, wr, S, pr, P, Z, gx, R, L, D, bh, O) (nI t.length, ec, pn, go, K, ly, wd, E, U, S, py, P, Z, gy, R, A, L, F, Ww, Q, fl, pp, qy', O) (by decide) hB (zz_mk I') hS
    obtain ⟨u2, v2, H2, hX2, hY2⟩ := zj_fin hp H1
    refine ⟨1, u2, v2, H2, Or.inr rfl, fun post h => ?_, fun post J x2 x3 h0 h1 => ?_⟩
    · show wX_turn_2 post 1 (nI 5) fu nk lv qa qz ec pn st kb ch kw K lx bo lk oc eN eV U F Ww Q os ps pc pw rd wr S pr P Z gx R L D bh O
      refine br_t (by decide) ?_
      exact xq_dequeue1 hp ht5 q3 q4 q5.1 (br_t (nI_pos' (by omega)) ⟨4, hX1 _ (hX2 post h)⟩)
    · show wY_run_31 post J x2 x3 1 (nI 5) qn ec pn go K ly wd E U S py P Z gy R A L F Ww Q fl pp qy O
      have hq0 : ¬ qn = 0 := by rw [q6]; exact nI_ne0 (by simp) (by omega)
      exact br_t (by decide) (br_f hq0 (nm_r (e' := nI p) q7.1 (hYq _ ⟨4, hY1 _ (hY2 _ (nm_e (h1 rfl)))⟩)))
end
section
/-! turns, runs -/
def zX_run (post : Int32 → SX → Prop) (x2 : Int32) (n : Nat) (x3 g : Int32) (u : SX) : Prop := match u with
  | (fu, nk, lv, qa, qz, ec, pn, st, kb, ch, kw, K, lx, bo, lk, oc, eN, eV, U, F, Ww, Q, os, ps, pc, pw, rd, wr, S, pr, P, Z, gx, R, L, D, bh, O) => wX_run_26 post x2 n x3 g fu nk lv qa qz ec pn st kb ch kw K lx bo lk oc eN eV U F Ww Q os ps pc pw rd wr S pr P Z gx R L D bh O
def zY_run (post : Int32 → SY → Prop) (x2 : Int32) (n : Nat) (x3 : Int32) (v : SY) : Prop := match v with
  | (qn, ec, pn, go, K, ly, wd, E, U, S, py, Py, Z, gy, R, A, L, F, Ww, Q, fl, pp, qy, O) => wY_run_23 post x2 n x3 qn ec pn go K ly wd E U S py Py Z gy R A L F Ww Q fl pp qy O
theorem zj_turn {B : Nat} (hB : B + 3 < 1000000) {u : SX} {v : SY} (H : zz_R B 5 u v) : ∃ (r : Int32) (u' : SX) (v' : SY), zz_R (B + 3) 5 u' v' ∧ (r = 0 ∨ r = 1) ∧ (∀ post : Int32 → SX → Prop, post r u' → wpX_turn post u) ∧
    ∀ (post : Int32 → SY → Prop) (J : Int32 → Int32 → Int64 → Int32 → Int32 → (Nat → Int32) → (Nat → Int32) → (Nat → Int32) → (Nat → Int32) → (Nat → Int32) → (Nat → Int32) → (Nat → Int32) → (Nat → Int32) → (Nat → Int32) → (Nat → Int32) → (Nat → Int32) → (Nat → Int32) → (Nat → Int32) → (Nat → Int32) → (Nat → Int32) → (Nat → Int32) → (Nat → Int32) → (Nat → Int32) → (Nat → Int32) → (Nat → Int32) → Prop) (x2 x3 : Int32), (r = 0 → post x3 v') → (r = 1 → zJ_at J (x3 + 1) v') → ∃ n, zY_31 post J x2 x3 n 0 v := by
  obtain ⟨u1, v1, H1, X1, Y1⟩ := zj_wake (i := 0) (by decide) H
  obtain ⟨u2, v2, H2, X2, Y2⟩ := zj_wake (i := 1) (by decide) H1
  obtain ⟨u3, v3, H3, X3, Y3⟩ := zj_wake (i := 2) (by decide) H2
  obtain ⟨u4, v4, H4, X4, Y4⟩ := zj_wake (i := 3) (by decide) H3
  obtain ⟨u5, v5, H5, X5, Y5⟩ := zj_wake (i := 4) (by decide) H4
  obtain ⟨r, u', v', H', hr, X', Y'⟩ := zj_turn5 hB H5
  refine ⟨r, u', v', H', hr, fun post h => ?_, fun post J x2 x3 h0 h1 => ⟨6, Y1 _ _ _ _ _ (Y2 _ _ _ _ _ (Y3 _ _ _ _ _ (Y4 _ _ _ _ _ (Y5 _ _ _ _ _ (Y' post J x2 x3 h0 h1)))))⟩⟩
  have := X1 post 5 (X2 _ _ (X3 _ _ (X4 _ _ (X5 _ _ (X' post h)))))
  exact ⟨6, this⟩
theorem zj_run {Lm : Nat} (hL : Lm ≤ 80) : ∀ (t k B : Nat) (u : SX) (v : SY), k + t = Lm → B + 3 * t < 1000000 → zz_R B 5 u v → ∃ (r : Int32) (u' : SX) (v' : SY), zz_R (B + 3 * t) 5 u' v' ∧
    (∀ post : Int32 → SX → Prop, post r u' → zX_run post (nI Lm) (t + 2) (nI k) 1 u) ∧ ∀ post : Int32 → SY → Prop, post r v' → zY_run post (nI Lm) (t + 1) (nI k) v := by
  intro t
  induction t with
  | zero =>
    intro k B u v hk hB H
    have e : k = Lm := by omega
    subst e
    refine ⟨nI k, u, v, H, fun post h => ?_, fun post h => ?_⟩
    · show wX_run_26 post (nI k) 2 (nI k) 1 _ _ _ _ _ _ _ _ _ _ _ _ _ _ _ _ _ _ _ _ _ _ _ _ _ _ _ _ _ _ _ _ _ _ _ _ _ _
      exact br_t (nI_le (Nat.le_refl _) (by omega)) h
    · show wY_run_23 post (nI k) 1 (nI k) _ _ _ _ _ _ _ _ _ _ _ _ _ _ _ _ _ _ _ _ _ _ _ _
      exact br_t (nI_le (Nat.le_refl _) (by omega)) h
  | succ t ih =>
    intro k B u v hk hB H
    obtain ⟨r, u1, v1, H1, hr, hX1, hY1⟩ := zj_turn (by omega) H
    have hlt : ¬ nI Lm ≤ nI k := nI_ge (by omega) (by omega)
    rcases hr with er | er
    · subst er
      refine ⟨nI k, u1, v1, zz_Rm (by omega) hB H1, fun post h => ?_, fun post h => ?_⟩
      · show wX_run_26 post (nI Lm) (t + 1 + 2) (nI k) 1 _ _ _ _ _ _ _ _ _ _ _ _ _ _ _ _ _ _ _ _ _ _ _ _ _ _ _ _ _ _ _ _ _ _ _ _ _ _
        refine br_f hlt (br_f (by decide) (hX1 _ ?_))
        exact br_t rfl (br_f hlt (br_t rfl h))
      · show wY_run_23 post (nI Lm) (t + 1 + 1) (nI k) _ _ _ _ _ _ _ _ _ _ _ _ _ _ _ _ _ _ _ _ _ _ _ _
        exact br_f hlt (hY1 post (wY_run_23 post (nI Lm) (t + 1)) (nI Lm) (nI k) (fun _ => h) (fun e => absurd e (by decide)))
    · subst er
      obtain ⟨r, u2, v2, H2, hX2, hY2⟩ := ih (k + 1) (B + 3) u1 v1 (by omega) (by omega) H1
      refine ⟨r, u2, v2, by rw [show B + 3 * (t + 1) = B + 3 + 3 * t by omega]; exact H2, fun post h => ?_, fun post h => ?_⟩
      · show wX_run_26 post (nI Lm) (t + 1 + 2) (nI k) 1 _ _ _ _ _ _ _ _ _ _ _ _ _ _ _ _ _ _ _ _ _ _ _ _ _ _ _ _ _ _ _ _ _ _ _ _ _ _
        refine br_f hlt (br_f (by decide) (hX1 _ ?_))
        exact br_f (by decide) (nm_r (nI_1 k) (hX2 post h))
      · show wY_run_23 post (nI Lm) (t + 1 + 1) (nI k) _ _ _ _ _ _ _ _ _ _ _ _ _ _ _ _ _ _ _ _ _ _ _ _
        refine br_f hlt (hY1 post (wY_run_23 post (nI Lm) (t + 1)) (nI Lm) (nI k) (fun e => absurd e (by decide)) (fun _ => ?_))
        have := hY2 post h
        rw [nI_1]
        exact this
end
section
/-! file, on both sides -/
section
variable {B cur : Nat} {C : Nat → Int32} {ln bl dc : Nat → Nat} {ql : List Nat} {fu : Int64} {nk lv qa qz : Int32} {ec : Int64} {pn : Int32} {st kb ch kw K lx bo lk oc eN eV U F Ww Q os ps pc pw rd wr S pr P Z gx R L D bh O : Nat → Int32} {qn go : Int32} {ly wd E py gy A fl pp qy : Nat → Int32} {Py : Nat → Int32}
theorem zj_put {n i : Nat} {w : Int32} (I : zz_I B cur C ln bl dc ql fu nk lv qa qz pn st kb ch kw K lx bo lk oc eN eV U F Q os ps pc pw rd wr S pr P Z gx L D bh qn ly wd E py gy A fl pp qy) (hn : n < 10) (hK : K n = 1) (hi : i ≤ ln n) (hi20 : i < 20) : ∃ (fu' : Int64) (nk' : Int32) (st' kb' ch' kw' C' : Nat → Int32) (ln' bl' : Nat → Nat) (bo' lx' ly' wd' : Nat → Int32), zz_I B cur C' ln' bl' dc ql fu' nk' lv qa qz pn st' kb' ch' kw' K lx' bo' lk oc eN eV U F Q os ps pc pw rd wr S pr P Z gx L D bh qn ly' wd' E py gy A fl pp qy ∧
    (∀ post : SX → Prop, post (fu', nk', lv, qa, qz, ec, pn, st', kb', ch', kw', K, lx', bo', lk, oc, eN, eV, U, F, Ww, Q, os, ps, pc, pw, rd, wr, S, pr, P, Z, gx, R, L, D, bh, O) → wpX_putWord post (fu, nk, lv, qa, qz, ec, pn, st, kb, ch, kw, K, lx, bo, lk, oc, eN, eV, U, F, Ww, Q, os, ps, pc, pw, rd, wr, S, pr, P, Z, gx, R, L, D, bh, O) (nI n) (nI i) w) ∧ ∀ post : Int32 → SY → Prop, post (nI n) (qn, ec, pn, go, K, ly', wd', E, U, S, py, Py, Z, gy, R, A, L, F, Ww, Q, fl, pp, qy, O) → wY_file_106 post (nI i) w (nI n) qn ec pn go K ly wd E U S py Py Z gy R A L F Ww Q fl pp qy O := by
  obtain ⟨i1, i2, i3, i4, i5, i6⟩ := I
  obtain ⟨fu', nk', st', kb', ch', kw', C', ln', bl', bo', HB', hXw⟩ := xs_putWord (fu := fu) (nk := nk) (lv := lv) (qa := qa) (qz := qz) (ec := ec) (pn := pn) (st := st) (kb := kb) (ch := ch) (kw := kw) (K := K) (lx := lx) (bo := bo) (lk := lk) (oc := oc) (eN := eN) (eV := eV) (U := U) (F := F) (Ww := Ww) (Q := Q) (os := os) (ps := ps) (pc := pc) (pw := pw) (rd := rd) (wr := wr) (S := S) (pr := pr) (P := P) (Z := Z) (gx := gx) (R := R) (L := L) (D := D) (bh := bh) (O := O) (n := n) (i := i) (w := w) i2 i1.1.2 hn hK hi hi20
  have ey := (i2.2.2 n hn hK).1
  refine ⟨fu', nk', st', kb', ch', kw', C', ln', bl', bo', _, _, _, ⟨zt_lx i1 (fun d hd hKd => ?_), HB', i3, i4, i5, i6⟩, hXw, fun post h => ?_⟩
  · by_cases ce : i = ln n
    · rw [if_pos ce, pk_un (fun y => by rw [y, hK] at hKd; exact absurd hKd (by decide))]
    · rw [if_neg ce]
  · have h20 := (i2.2.1.1 n hn hK).1
    unfold wY_file_106
    rw [zi_m20, nI_add, nI_clamp (n := 20 * n + i) (by omega), zcl (f := ly) (by omega), ey, nI_clamp (n := n) (by omega), nI_1]
    refine ⟨vp_in_nI (by omega) (by decide), nm_e ⟨vp_in_nI hn (by decide), ?_⟩⟩
    by_cases ce : i = ln n
    · rw [if_pos ce] at h
      refine br_t (by rw [ce]) ⟨vp_in_nI hn (by decide), vp_in_nI hn (by decide), nm_e ?_⟩
      rw [← ce]; exact h
    · rw [if_neg ce] at h
      exact br_f (fun y => ce (zi_inj (by omega) (by omega) y)) h
end
theorem zj_file {B : Nat} {x1 x2 x3 : Int32} {C : Nat → Int32} {ln bl dc : Nat → Nat} {ql : List Nat} {fu : Int64} {nk lv qa qz : Int32} {ec : Int64} {pn : Int32} {st kb ch kw K lx bo lk oc eN eV U F Ww Q os ps pc pw rd wr S pr P Z gx R L D bh O : Nat → Int32} {qn go : Int32} {ly wd E py gy A fl pp qy : Nat → Int32} (I : zz_I B 5 C ln bl dc ql fu nk lv qa qz pn st kb ch kw K lx bo lk oc eN eV U F Q os ps pc pw rd wr S pr P Z gx L D bh qn ly wd E py gy A fl pp qy) : ∃ (r : Int32) (u' : SX) (v' : SY), zz_R B 5 u' v' ∧ (∀ post : Int32 → SX → Prop, post r u' → wpX_file post (fu, nk, lv, qa, qz, ec, pn, st, kb, ch, kw, K, lx, bo, lk, oc, eN, eV, U, F, Ww, Q, os, ps, pc, pw, rd, wr, S, pr, P, Z, gx, R, L, D, bh, O) x1 x2 x3) ∧ ∀ post : Int32 → SY → Prop, post r v' → wpY_file post (qn, ec, pn, go, K, ly, wd, E, U, S, py, P, Z, gy, R, A, L, F, Ww, Q, fl, pp, qy, O) x1 x2 x3 := by
  obtain ⟨⟨t1, t2, t3, t4, t5, t6, t7⟩, i2, i3, i4, i5, i6⟩ := id I
  have bad : (∀ post : Int32 → SX → Prop, post (-1000000) (fu, nk, lv, qa, qz, ec, pn, st, kb, ch, kw, K, lx, bo, lk, oc, eN, eV, U, F, Ww, Q, os, ps, pc, pw, rd, wr, S, pr, P, Z, gx, R, L, D, bh, O) → wpX_file post (fu, nk, lv, qa, qz, ec, pn, st, kb, ch, kw, K, lx, bo, lk, oc, eN, eV, U, F, Ww, Q, os, ps, pc, pw, rd, wr, S, pr, P, Z, gx, R, L, D, bh, O) x1 x2 x3) → (∀ post : Int32 → SY → Prop, post (-1000000) (qn, ec, pn, go, K, ly, wd, E, U, S, py, P, Z, gy, R, A, L, F, Ww, Q, fl, pp, qy, O) → wpY_file post (qn, ec, pn, go, K, ly, wd, E, U, S, py, P, Z, gy, R, A, L, F, Ww, Q, fl, pp, qy, O) x1 x2 x3) → ∃ (r : Int32) (u' : SX) (v' : SY), zz_R B 5 u' v' ∧ (∀ post : Int32 → SX → Prop, post r u' → wpX_file post (fu, nk, lv, qa, qz, ec, pn, st, kb, ch, kw, K, lx, bo, lk, oc, eN, eV, U, F, Ww, Q, os, ps, pc, pw, rd, wr, S, pr, P, Z, gx, R, L, D, bh, O) x1 x2 x3) ∧ ∀ post : Int32 → SY → Prop, post r v' → wpY_file post (qn, ec, pn, go, K, ly, wd, E, U, S, py, P, Z, gy, R, A, L, F, Ww, Q, fl, pp, qy, O) x1 x2 x3 := fun hX hY => ⟨-1000000, (fu, nk, lv, qa, qz, ec, pn, st, kb, ch, kw, K, lx, bo, lk, oc, eN, eV, U, F, Ww, Q, os, ps, pc, pw, rd, wr, S, pr, P, Z, gx, R, L, D, bh, O), (qn, ec, pn, go, K, ly, wd, E, U, S, py, P, Z, gy, R, A, L, F, Ww, Q, fl, pp, qy, O), zz_mk I, hX, hY⟩
  rcases Classical.em (za_r 15 x1) with ⟨m, hm, em⟩ | hz1
  · subst em
    rcases pk_ix x2 (n := 20) (by decide) with h2 | h2 | ⟨i, hi, ei⟩
    · refine bad (fun post h => ?_) (fun post h => ?_)
      · unfold wpX_file
        exact xr_isName (fun _ => br_f (by decide) (br_t h2 h)) (fun y => absurd ⟨m, hm, rfl⟩ y)
      · unfold wpY_file
        exact yr_in0 (h := 14) (by decide) (fun _ => br_f (by decide) (yr_in0 (h := 19) (by decide) (fun y => absurd y (za_neg (by decide) h2)) (fun _ => br_t rfl h))) (fun y => absurd ⟨m, hm, rfl⟩ y)
    · refine bad (fun post h => ?_) (fun post h => ?_)
      · unfold wpX_file
        exact xr_isName (fun _ => br_f (by decide) (br_f (zlt_le h2 (by decide)) (br_f (fun y => absurd (Int32.lt_of_le_of_lt h2 y) (by decide)) h))) (fun y => absurd ⟨m, hm, rfl⟩ y)
      · unfold wpY_file
        exact yr_in0 (h := 14) (by decide) (fun _ => br_f (by decide) (yr_in0 (h := 19) (by decide) (fun y => absurd y (za_big (by decide) h2)) (fun _ => br_t rfl h))) (fun y => absurd ⟨m, hm, rfl⟩ y)
    · subst ei
      obtain ⟨r, hr⟩ := zn_ex E 0 (nI m)
      have er0 : r = E m := by
        rcases hr with ⟨m', hm', e1, e2⟩ | ⟨y, _⟩
        · rw [e2, zi_inj (by omega) (by omega) e1, Nat.mul_zero, Nat.zero_add]
        · exact absurd ⟨m, hm, rfl⟩ y
      have hXp : ∀ post : Int32 → SX → Prop, ((r < 0 → wX_file_48 post (nI m) (nI i) x3 r fu nk lv qa qz ec pn st kb ch kw K lx bo lk oc eN eV U F Ww Q os ps pc pw rd wr S pr P Z gx R L D bh O) ∧ (¬ r < 0 → (vp_in r 10 ∧ ((K r.toNatClampNeg = 2 → post (-1000000) (fu, nk, lv, qa, qz, ec, pn, st, kb, ch, kw, K, lx, bo, lk, oc, eN, eV, U, F, Ww, Q, os, ps, pc, pw, rd, wr, S, pr, P, Z, gx, R, L, D, bh, O)) ∧ (¬ K r.toNatClampNeg = 2 → wX_file_48 post (nI m) (nI i) x3 r fu nk lv qa qz ec pn st kb ch kw K lx bo lk oc eN eV U F Ww Q os ps pc pw rd wr S pr P Z gx R L D bh O))))) → wpX_file post (fu, nk, lv, qa, qz, ec, pn, st, kb, ch, kw, K, lx, bo, lk, oc, eN, eV, U, F, Ww, Q, os, ps, pc, pw, rd, wr, S, pr, P, Z, gx, R, L, D, bh, O) (nI m) (nI i) x3 := by
        intro post h
        unfold wpX_file
        exact xr_isName (fun _ => br_f (by decide) (br_f (nI_pos (by omega)) (br_t (nI_lt (b := 20) hi (by decide)) (xr_find (d := 0) (by decide) t1.2 t6 hr h)))) (fun y => absurd ⟨m, hm, rfl⟩ y)
      have hYp : ∀ post : Int32 → SY → Prop, ((r < 0 → wY_file_52 post (nI m) (nI i) x3 r qn ec pn go K ly wd E U S py P Z gy R A L F Ww Q fl pp qy O) ∧ (¬ r < 0 → (vp_in r 10 ∧ ((K r.toNatClampNeg = 2 → post (-1000000) (qn, ec, pn, go, K, ly, wd, E, U, S, py, P, Z, gy, R, A, L, F, Ww, Q, fl, pp, qy, O)) ∧ (¬ K r.toNatClampNeg = 2 → wY_file_52 post (nI m) (nI i) x3 r qn ec pn go K ly wd E U S py P Z gy R A L F Ww Q fl pp qy O))))) → wpY_file post (qn, ec, pn, go, K, ly, wd, E, U, S, py, P, Z, gy, R, A, L, F, Ww, Q, fl, pp, qy, O) (nI m) (nI i) x3 := by
        intro post h
        unfold wpY_file
        refine yr_in0 (h := 14) (by decide) (fun _ => br_f (by decide) (yr_in0 (h := 19) (by decide) (fun _ => br_f (by decide) ⟨vp_in_nI (by omega) (by decide), nm_r (e' := r) ((zcl (by omega)).trans er0.symm) h⟩) (fun y => absurd ⟨i, hi, rfl⟩ y))) (fun y => absurd ⟨m, hm, rfl⟩ y)
      rcases zn_cs t3 (by decide) hr with er | ⟨n, m', n1, hn, hm', em', eE, er, hK0⟩
      · subst er
        have hE : E (15 * 0 + m) = -1 := by rw [Nat.mul_zero, Nat.zero_add]; exact er0.symm
        obtain ⟨f, hf⟩ := zf_ex (fun n => K n = 0) 10
        obtain ⟨l, hl, el, hDD⟩ := t6 0 (by decide) t1.2
        have ecnt := hDD.2.2.2
        have hK0 : K 0 ≠ 0 := by rw [t1.2]; decide
        by_cases hok : i = 0 ∧ f ≠ -1 ∧ l < 6
        · obtain ⟨i0, hf1, hl6⟩ := hok
          subst i0
          have hf' := hf
          rcases hf' with ⟨y, _⟩ | ⟨n, hn, ef, hKn, _⟩
          · exact absurd y hf1
          subst ef
          have hn0 : (0 : Nat) ≠ n := fun y => by rw [← y] at hKn; exact hK0 hKn
          have hEn : ∀ k, k < 15 → E (15 * n + k) = -1 := fun k hk => zt_nE t3 hn (by rw [hKn]; decide) hk
          have I2 := zi_new (kd := 1) I (by decide) t1.2 hl6 el hm hn hKn hE (Or.inl rfl)
          obtain ⟨fu', nk', st', kb', ch', kw', C', ln', bl', bo', lx', ly', wd', I3, hX3, hY3⟩ := zj_put (ec := ec) (R := R) (O := O) (Ww := Ww) (go := go) (Py := P) (n := n) (i := 0) (w := x3) I2 hn pk_us (by rw [zu_s]; exact Nat.le_refl 0) (by decide)
          refine ⟨nI n, (fu', nk', lv, qa, qz, ec, pn, st', kb', ch', kw', upd K n (nI 1), lx', bo', upd (upd lk n 0) n (nI 1), upd oc n 0, upd eN (6 * 0 + l) (nI m), upd eV (6 * 0 + l) (nI n), upd U n (nI 0), F, Ww, Q, os, ps, pc, pw, rd, wr, S, pr, P, Z, gx, R, L, D, bh, O), (qn, ec, pn, go, upd K n (nI 1), ly', wd', upd E (15 * 0 + m) (nI n), upd U n (nI 0), S, py, P, Z, gy, R, A, L, F, Ww, Q, fl, pp, qy, O), zz_mk I3, fun post h => hXp post (br_t (by decide) ?_), fun post h => hYp post (br_t (by decide) ?_)⟩
          · unfold wX_file_48
            refine br_f (by decide) ?_
            unfold wX_file_65
            refine br_t (by decide) (br_f (by decide) ?_)
            refine xd_enterNew (d := 0) (kd := 1) (by decide) hl6 el hm hn hn0 (Or.inl rfl) hK0 hf ?_
            exact br_t (nI_pos' (by omega)) (hX3 _ h)
          · unfold wY_file_52
            refine br_f (by decide) (yr_canEnter (d := 0) (by decide) t3 hf (fun m' hm' em' _ _ _ => br_f (by decide) ?_) (fun y => ?_))
            · unfold wY_file_69
              refine br_f (by decide) ?_
              unfold wY_file_86
              exact br_t (by decide) (br_f (by decide) (yo_enterNew (d := 0) (by decide) hm hn hf hEn (hY3 post h)))
            · rcases y with y | ⟨m', hm', em', y⟩ | y | y
              · exact absurd ⟨m, hm, rfl⟩ y
              · have := zi_inj (by omega) (by omega) em'
                subst this; exact absurd hE y
              · exact absurd y hf1
              · rw [ecnt] at y; omega
        · refine bad (fun post h => hXp post (br_t (by decide) ?_)) (fun post h => hYp post (br_t (by decide) ?_))
          · unfold wX_file_48
            refine br_f (by decide) ?_
            unfold wX_file_65
            by_cases i0 : i = 0
            · subst i0
              refine br_t (by decide) (br_f (by decide) ?_)
              refine xd_enterNo (d := 0) (by decide) hl el hK0 hf ?_ (br_f (by decide) h)
              by_cases y : f = -1
              · exact Or.inl y
              · exact Or.inr (Or.inr (by
                  rcases Nat.lt_or_ge l 6 with q | q
                  · exact absurd ⟨rfl, y, q⟩ hok
                  · omega))
            · exact br_f (fun y => absurd ((nI_leI (b := 0) (by omega) (by decide)).mp y) (by omega)) h
          · unfold wY_file_52
            refine br_f (by decide) (yr_canEnter (d := 0) (by decide) t3 hf (fun m' hm' em' _ hf1 hl6 => br_f (by decide) ?_) (fun y => br_t rfl h))
            rw [ecnt] at hl6
            unfold wY_file_69
            refine br_f (by decide) ?_
            unfold wY_file_86
            exact br_f (fun y => absurd ((nI_leI (b := 0) (by omega) (by decide)).mp y) (fun q => hok ⟨by omega, hf1, hl6⟩)) h
      · subst er
        by_cases hK2 : K n = 2
        · exact bad (fun post h => hXp post (br_f (nI_pos (by omega)) ⟨vp_in_nI hn (by decide), br_t ((zcl (by omega)).trans hK2) h⟩)) (fun post h => hYp post (br_f (nI_pos (by omega)) ⟨vp_in_nI hn (by decide), br_t ((zcl (by omega)).trans hK2) h⟩))
        · have hK1 : K n = 1 := by
            rcases t1.1 n hn with y | y | y
            · exact absurd y hK0
            · exact y
            · exact absurd y hK2
          obtain ⟨hl, el⟩ := i2.2.1.1 n hn hK1
          have ey := (i2.2.2 n hn hK1).1
          have hXq : ∀ post : Int32 → SX → Prop, ((nI i ≤ nI (ln n) → wpX_putWord (fun u => post (nI n) u) (fu, nk, lv, qa, qz, ec, pn, st, kb, ch, kw, K, lx, bo, lk, oc, eN, eV, U, F, Ww, Q, os, ps, pc, pw, rd, wr, S, pr, P, Z, gx, R, L, D, bh, O) (nI n) (nI i) x3) ∧ (¬ nI i ≤ nI (ln n) → post (-1000000) (fu, nk, lv, qa, qz, ec, pn, st, kb, ch, kw, K, lx, bo, lk, oc, eN, eV, U, F, Ww, Q, os, ps, pc, pw, rd, wr, S, pr, P, Z, gx, R, L, D, bh, O))) → wpX_file post (fu, nk, lv, qa, qz, ec, pn, st, kb, ch, kw, K, lx, bo, lk, oc, eN, eV, U, F, Ww, Q, os, ps, pc, pw, rd, wr, S, pr, P, Z, gx, R, L, D, bh, O) (nI m) (nI i) x3 := by
            intro post h
            refine hXp post (br_f (nI_pos (by omega)) ⟨vp_in_nI hn (by decide), br_f (fun y => hK2 ((zcl (by omega)).symm.trans y)) ?_⟩)
            unfold wX_file_48
            rw [zcl (f := lx) (by omega), el]
            refine br_t (nI_pos' (by omega)) ⟨vp_in_nI hn (by decide), ?_⟩
            unfold wX_file_65
            exact ⟨fun y => br_t (nI_pos' (by omega)) (br_t (nI_pos' (by omega)) (h.1 y)), h.2⟩
          have hYq : ∀ post : Int32 → SY → Prop, ((nI i ≤ nI (ln n) → wY_file_106 post (nI i) x3 (nI n) qn ec pn go K ly wd E U S py P Z gy R A L F Ww Q fl pp qy O) ∧ (¬ nI i ≤ nI (ln n) → post (-1000000) (qn, ec, pn, go, K, ly, wd, E, U, S, py, P, Z, gy, R, A, L, F, Ww, Q, fl, pp, qy, O))) → wpY_file post (qn, ec, pn, go, K, ly, wd, E, U, S, py, P, Z, gy, R, A, L, F, Ww, Q, fl, pp, qy, O) (nI m) (nI i) x3 := by
            intro post h
            refine hYp post (br_f (nI_pos (by omega)) ⟨vp_in_nI hn (by decide), br_f (fun y => hK2 ((zcl (by omega)).symm.trans y)) ?_⟩)
            unfold wY_file_52
            refine br_t (nI_pos' (by omega)) ?_
            unfold wY_file_69
            rw [zcl (f := ly) (by omega), ey]
            refine br_t (nI_pos' (by omega)) ⟨vp_in_nI hn (by decide), ?_⟩
            unfold wY_file_86
            exact ⟨fun y => br_t (nI_pos' (by omega)) (h.1 y), h.2⟩
          by_cases ci : i ≤ ln n
          · obtain ⟨fu', nk', st', kb', ch', kw', C', ln', bl', bo', lx', ly', wd', I3, hX3, hY3⟩ := zj_put (ec := ec) (R := R) (O := O) (Ww := Ww) (go := go) (Py := P) (w := x3) I hn hK1 ci hi
            exact ⟨nI n, (fu', nk', lv, qa, qz, ec, pn, st', kb', ch', kw', K, lx', bo', lk, oc, eN, eV, U, F, Ww, Q, os, ps, pc, pw, rd, wr, S, pr, P, Z, gx, R, L, D, bh, O), (qn, ec, pn, go, K, ly', wd', E, U, S, py, P, Z, gy, R, A, L, F, Ww, Q, fl, pp, qy, O), zz_mk I3, fun post h => hXq post (br_t (nI_le ci (by omega)) (hX3 _ h)), fun post h => hYq post (br_t (nI_le ci (by omega)) (hY3 post h))⟩
          · exact bad (fun post h => hXq post (br_f (nI_ge (by omega) (by omega)) h)) (fun post h => hYq post (br_f (nI_ge (by omega) (by omega)) h))
  · refine bad (fun post h => ?_) (fun post h => ?_)
    · unfold wpX_file
      exact xr_isName (fun y => absurd y hz1) (fun _ => br_t rfl h)
    · unfold wpY_file
      exact yr_in0 (h := 14) (by decide) (fun y => absurd y hz1) (fun _ => br_t rfl h)
end
section
/-! spawn, on both sides -/
section
variable {fu : Int64} {nk lv qa qz : Int32} {ec : Int64} {pn : Int32} {st kb ch kw K lx bo lk oc eN eV U F Ww Q os ps pc pw rd wr S pr P Z gx R L D bh O : Nat → Int32}
theorem xo_s67 {post : Int32 → SX → Prop} {x2 x4 : Int32} {c i n : Nat} (hc : c < 5) (hi : i < 4) (hD : D (4 * c + i) = 0) (h : wX_spawn_67 post x2 (nI c) x4 fu nk lv qa qz ec pn n (nI (4 * c + (i + 1))) st kb ch kw K lx bo lk oc eN eV U F Ww Q os ps pc pw rd wr S pr P Z gx (upd R (4 * c + i) 0) L D bh O) : wX_spawn_67 post x2 (nI c) x4 fu nk lv qa qz ec pn (n + 1) (nI (4 * c + i)) st kb ch kw K lx bo lk oc eN eV U F Ww Q os ps pc pw rd wr S pr P Z gx R L D bh O := by
  have e4 : 4 * nI c + 4 = nI (4 * c + 4) := by rw [zi_m4, zi_a4]
  refine br_f (by rw [e4]; exact nI_ge (by omega) (by omega)) ⟨vp_in_nI (by omega) (by decide), ?_⟩
  rw [nI_clamp (n := 4 * c + i) (by omega), zb_0, zi_uid hD]
  exact nm_e ⟨vp_in_nI (by omega) (by decide), nm_e (nm_r (e' := nI (4 * c + (i + 1))) (nI_1 _) h)⟩
end
section
variable {qn : Int32} {ec : Int64} {pn go : Int32} {K ly wd E U S py Py Z gy R A L F Ww Q fl pp qy O : Nat → Int32}
theorem yo_s62 {post : Int32 → SY → Prop} {x2 : Int32} {c i n : Nat} (hc : c < 5) (hi : i < 4) (hA : A (4 * c + i) = 0) (h : wY_spawn_62 post x2 (nI c) qn ec pn go n (nI (4 * c + (i + 1))) K ly wd E U S py Py Z gy (upd R (4 * c + i) (if i = 0 then x2 else 0)) A L F Ww Q fl pp qy O) : wY_spawn_62 post x2 (nI c) qn ec pn go (n + 1) (nI (4 * c + i)) K ly wd E U S py Py Z gy R A L F Ww Q fl pp qy O := by
  have e4 : 4 * nI c + 4 = nI (4 * c + 4) := by rw [zi_m4, zi_a4]
  refine br_f (by rw [e4]; exact nI_ge (by omega) (by omega)) ?_
  have h91 : ∀ z0 : Int32, z0 = (if i = 0 then x2 else 0) → wY_spawn_91 post (wY_spawn_62 post x2 (nI c) qn ec pn go n) x2 (nI c) (nI (4 * c + i)) z0 (nI (4 * c + i)) qn ec pn go K ly wd E U S py Py Z gy R A L F Ww Q fl pp qy O := by
    intro z0 e
    unfold wY_spawn_91
    rw [nI_clamp (n := 4 * c + i) (by omega), zi_uid hA, e]
    exact ⟨vp_in_nI (by omega) (by decide), nm_e ⟨vp_in_nI (by omega) (by decide), nm_e (nm_r (e' := nI (4 * c + (i + 1))) (nI_1 _) h)⟩⟩
  by_cases c0 : i = 0
  · exact br_t (by rw [c0, zi_m4]; rfl) (h91 _ (by rw [if_pos c0]))
  · exact br_f (fun y => c0 (by rw [zi_m4] at y; have := zi_inj (by omega) (by omega) y; omega)) (h91 _ (by rw [if_neg c0]))
end
theorem zr_sp {R : Nat → Int32} {c : Nat} {x : Int32} : upd (upd (upd (upd (upd R (4 * c + 0) 0) (4 * c + 1) 0) (4 * c + 2) 0) (4 * c + 3) 0) (4 * c) x = upd (upd (upd (upd R (4 * c + 0) x) (4 * c + 1) 0) (4 * c + 2) 0) (4 * c + 3) 0 := by
  funext j
  by_cases e : j = 4 * c
  · subst e
    rw [pk_us, pk_un (by omega), pk_un (by omega), pk_un (by omega)]
    exact pk_us.symm
  · rw [pk_un e]
    by_cases e3 : j = 4 * c + 3
    · rw [e3, pk_us, pk_us]
    · rw [pk_un e3, pk_un e3]
      by_cases e2 : j = 4 * c + 2
      · rw [e2, pk_us, pk_us]
      · rw [pk_un e2, pk_un e2]
        by_cases e1 : j = 4 * c + 1
        · rw [e1, pk_us, pk_us]
        · rw [pk_un e1, pk_un e1, pk_un (by omega), pk_un (by omega)]
theorem zj_spawn {B : Nat} {x1 x2 : Int32} {C : Nat → Int32} {ln bl dc : Nat → Nat} {ql : List Nat} {fu : Int64} {nk lv qa qz : Int32} {ec : Int64} {pn : Int32} {st kb ch kw K lx bo lk oc eN eV U F Ww Q os ps pc pw rd wr S pr P Z gx R L D bh O : Nat → Int32} {qn go : Int32} {ly wd E py gy A fl pp qy : Nat → Int32} (I : zz_I B 5 C ln bl dc ql fu nk lv qa qz pn st kb ch kw K lx bo lk oc eN eV U F Q os ps pc pw rd wr S pr P Z gx L D bh qn ly wd E py gy A fl pp qy) : ∃ (r : Int32) (u' : SX) (v' : SY), zz_R B 5 u' v' ∧ (∀ post : Int32 → SX → Prop, post r u' → wpX_spawn post (fu, nk, lv, qa, qz, ec, pn, st, kb, ch, kw, K, lx, bo, lk, oc, eN, eV, U, F, Ww, Q, os, ps, pc, pw, rd, wr, S, pr, P, Z, gx, R, L, D, bh, O) x1 x2) ∧ ∀ post : Int32 → SY → Prop, post r v' → wpY_spawn post (qn, ec, pn, go, K, ly, wd, E, U, S, py, P, Z, gy, R, A, L, F, Ww, Q, fl, pp, qy, O) x1 x2 := by
  obtain ⟨⟨t1, t2, t3, t4, t5, t6, t7⟩, i2, i3, i4, ⟨⟨q1, q2, q3, q4, q5, q6, q7⟩, q8⟩, j1, j2, j3, j4, j5⟩ := id I
  obtain ⟨f, hf⟩ := zf_ex (fun n => S n = 0) 5
  obtain ⟨r, hr⟩ := zn_ex E 0 x1
  have hXp : ∀ post : Int32 → SX → Prop, wX_spawn_23 post x2 f r fu nk lv qa qz ec pn st kb ch kw K lx bo lk oc eN eV U F Ww Q os ps pc pw rd wr S pr P Z gx R L D bh O → wpX_spawn post (fu, nk, lv, qa, qz, ec, pn, st, kb, ch, kw, K, lx, bo, lk, oc, eN, eV, U, F, Ww, Q, os, ps, pc, pw, rd, wr, S, pr, P, Z, gx, R, L, D, bh, O) x1 x2 := by
    intro post h
    unfold wpX_spawn
    refine xr_freeProcess hf (xr_isName (fun _ => br_f (by decide) (xr_find (d := 0) (by decide) t1.2 t6 hr h)) (fun y => br_t rfl ?_))
    rw [zn_no hr y] at h
    exact h
  have hYp : ∀ post : Int32 → SY → Prop, ((f < 0 → post (-1000000) (qn, ec, pn, go, K, ly, wd, E, U, S, py, P, Z, gy, R, A, L, F, Ww, Q, fl, pp, qy, O)) ∧ (¬ f < 0 → ((r < 0 → post (-1000000) (qn, ec, pn, go, K, ly, wd, E, U, S, py, P, Z, gy, R, A, L, F, Ww, Q, fl, pp, qy, O)) ∧ (¬ r < 0 → (vp_in r 10 ∧ ((K r.toNatClampNeg = 1 → wpY_load (fun u => match u with | (qn2, ec2, pn2, go2, K2, ly2, wd2, E2, U2, S2, py2, Py2, Z2, gy2, R2, A2, L2, F2, Ww2, Q2, fl2, pp2, qy2, O2) => (vp_in f 5 ∧ ∀ a_parent_81 : Nat → Int32, a_parent_81 = upd py2 f.toNatClampNeg (-1) → (vp_in f 5 ∧ ∀ a_place_83 : Nat → Int32, a_place_83 = upd L2 f.toNatClampNeg 0 → (∀ x5_84 : Int32, x5_84 = 4 * f → (∃ n62 : Nat, wY_spawn_62 post x2 f qn2 ec2 pn2 go2 n62 x5_84 K2 ly2 wd2 E2 U2 S2 a_parent_81 Py2 Z2 gy2 R2 A2 a_place_83 F2 Ww2 Q2 fl2 pp2 qy2 O2))))) (qn, ec, pn, go, K, ly, wd, E, U, S, py, P, Z, gy, R, A, L, F, Ww, Q, fl, pp, qy, O) f r) ∧ (¬ K r.toNatClampNeg = 1 → post (-1000000) (qn, ec, pn, go, K, ly, wd, E, U, S, py, P, Z, gy, R, A, L, F, Ww, Q, fl, pp, qy, O)))))))) → wpY_spawn post (qn, ec, pn, go, K, ly, wd, E, U, S, py, P, Z, gy, R, A, L, F, Ww, Q, fl, pp, qy, O) x1 x2 := by
    intro post h
    unfold wpY_spawn
    exact yr_smallestProcess hf (yr_named (d := 0) (by decide) hr h)
  have bad : (∀ post : Int32 → SX → Prop, post (-1000000) (fu, nk, lv, qa, qz, ec, pn, st, kb, ch, kw, K, lx, bo, lk, oc, eN, eV, U, F, Ww, Q, os, ps, pc, pw, rd, wr, S, pr, P, Z, gx, R, L, D, bh, O) → wpX_spawn post (fu, nk, lv, qa, qz, ec, pn, st, kb, ch, kw, K, lx, bo, lk, oc, eN, eV, U, F, Ww, Q, os, ps, pc, pw, rd, wr, S, pr, P, Z, gx, R, L, D, bh, O) x1 x2) → (∀ post : Int32 → SY → Prop, post (-1000000) (qn, ec, pn, go, K, ly, wd, E, U, S, py, P, Z, gy, R, A, L, F, Ww, Q, fl, pp, qy, O) → wpY_spawn post (qn, ec, pn, go, K, ly, wd, E, U, S, py, P, Z, gy, R, A, L, F, Ww, Q, fl, pp, qy, O) x1 x2) → ∃ (r : Int32) (u' : SX) (v' : SY), zz_R B 5 u' v' ∧ (∀ post : Int32 → SX → Prop, post r u' → wpX_spawn post (fu, nk, lv, qa, qz, ec, pn, st, kb, ch, kw, K, lx, bo, lk, oc, eN, eV, U, F, Ww, Q, os, ps, pc, pw, rd, wr, S, pr, P, Z, gx, R, L, D, bh, O) x1 x2) ∧ ∀ post : Int32 → SY → Prop, post r v' → wpY_spawn post (qn, ec, pn, go, K, ly, wd, E, U, S, py, P, Z, gy, R, A, L, F, Ww, Q, fl, pp, qy, O) x1 x2 := fun hX hY => ⟨-1000000, (fu, nk, lv, qa, qz, ec, pn, st, kb, ch, kw, K, lx, bo, lk, oc, eN, eV, U, F, Ww, Q, os, ps, pc, pw, rd, wr, S, pr, P, Z, gx, R, L, D, bh, O), (qn, ec, pn, go, K, ly, wd, E, U, S, py, P, Z, gy, R, A, L, F, Ww, Q, fl, pp, qy, O), zz_mk I, hX, hY⟩
  have hf' := hf
  rcases hf' with ⟨ef, _⟩ | ⟨c, hc, ef, hc0, _⟩
  · exact bad (fun post h => hXp post (br_t (by rw [ef]; decide) h)) (fun post h => hYp post (br_t (by rw [ef]; decide) h))
  · subst ef
    rcases zn_cs t3 (by decide) hr with er | ⟨n, m', n1, hn, hm', em', eE, er, hK0⟩
    · exact bad (fun post h => hXp post (br_f (nI_pos (by omega)) (br_t (by rw [er]; decide) h))) (fun post h => hYp post (br_f (nI_pos (by omega)) (br_t (by rw [er]; decide) h)))
    · subst er
      by_cases hK1 : K n = 1
      · have hdc0 : ∀ i, i < 4 → dc (4 * c + i) = 0 := fun i hi => i3.2.2.2.2.2 c hc (by rw [hc0]; decide) (by rw [hc0]; decide) i hi
        have hD0 : ∀ i, i < 4 → D (4 * c + i) = 0 := fun i hi => (zo_D0 i3.1 (by omega)).1.mpr (hdc0 i hi)
        have hA0 : ∀ i, i < 4 → A (4 * c + i) = 0 := fun i hi => (zo_D0 i3.1 (by omega)).2.mpr (hdc0 i hi)
        have hcq : c ∉ ql := fun y => by
          have := ((q8 c hc).mp y).1
          rw [hc0] at this; exact absurd this (by decide)
        have hlen := zq_len q1 q2
        have hSn : ∀ q, q ≠ c → upd S c 1 q = S q := fun q h => pk_un h
        obtain ⟨HS, HF, HY⟩ := i2
        obtain ⟨hl, el⟩ := HF.1 n hn hK1
        obtain ⟨ey, hwd⟩ := HY n hn hK1
        generalize eRR : upd (upd (upd (upd R (4 * c + 0) x2) (4 * c + 1) 0) (4 * c + 2) 0) (4 * c + 3) 0 = RR
        obtain ⟨nk', st', kb', ch', kw', gx', HS', g1, g2, gX⟩ := xo_load (fu := fu) (nk := nk) (lv := lv) (qa := qa) (qz := qz) (ec := ec) (pn := pn) (st := st) (kb := kb) (ch := ch) (kw := kw) (K := K) (lx := lx) (bo := bo) (lk := lk) (oc := oc) (eN := eN) (eV := eV) (U := U) (F := F) (Ww := Ww) (Q := Q) (os := os) (ps := ps) (pc := pc) (pw := pw) (rd := rd) (wr := wr) (S := S) (pr := upd pr c (-1)) (P := P) (Z := Z) (gx := gx) (R := RR) (L := upd L c 0) (D := D) (bh := bh) (O := O) (p := c) hc hn hK1 HS HF
        obtain ⟨gy', y1, y2, yX⟩ := yo_load (qn := qn) (ec := ec) (pn := pn) (go := go) (K := K) (ly := ly) (wd := wd) (E := E) (U := U) (S := S) (py := py) (Py := P) (Z := Z) (gy := gy) (R := R) (A := A) (L := L) (F := F) (Ww := Ww) (Q := Q) (fl := fl) (pp := pp) (qy := qy) (O := O) (p := c) (n := n) hc hn
        rw [ey, ← el] at yX
        obtain ⟨qa', bh', ea', hc', hXq⟩ := xq_enqueue (fu := fu) (nk := nk') (lv := lv) (qa := qa) (qz := qz) (ec := ec) (pn := pn) (st := st') (kb := kb') (ch := ch') (kw := kw') (K := K) (lx := lx) (bo := bo) (lk := lk) (oc := oc) (eN := eN) (eV := eV) (U := U) (F := F) (Ww := Ww) (Q := Q) (os := os) (ps := ps) (pc := pc) (pw := pw) (rd := rd) (wr := wr) (S := upd S c 1) (pr := upd pr c (-1)) (P := upd P c 0) (Z := upd Z c (lx n)) (gx := gx') (R := RR) (L := upd L c 0) (D := D) (bh := bh) (O := O) hc q1 q2 q3 q4 q5 hcq
        have I' : zz_I B 5 C ln bl dc (ql ++ [c]) fu nk' lv qa' (nI c) pn st' kb' ch' kw' K lx bo lk oc eN eV U F Q os ps pc pw rd wr (upd S c 1) (upd pr c (-1)) (upd P c 0) (upd Z c (lx n)) gx' (upd L c 0) D bh' (nI (ql.length + 1)) ly wd E (upd py c (-1)) gy' A fl pp (upd qy ql.length (nI c)) := by
          refine ⟨⟨t1, t2, t3, t4, ?_, t6, t7⟩, ⟨HS', HF, HY⟩, ⟨i3.1, i3.2.1, i3.2.2.1, i3.2.2.2.1, i3.2.2.2.2.1, ?_⟩, i4, ⟨⟨?_, ?_, ea', (zq_la c ql).symm, hc', ?_, ?_⟩, ?_⟩, ?_, ?_, ?_, ?_, j5⟩
          · intro q hq h
            by_cases e : q = c
            · subst e; exact ⟨0, by decide, by rw [pk_us]; rfl, t1.2⟩
            · rw [hSn q e] at h; rw [pk_un e]; exact t5 q hq h
          · intro q hq h1 h2 i hi
            have hqc : q ≠ c := fun e => by rw [e] at h1; exact h1 pk_us
            rw [hSn q hqc] at h1 h2
            exact i3.2.2.2.2.2 q hq h1 h2 i hi
          · intro q hq
            rcases List.mem_append.mp hq with y | y
            · exact q1 q y
            · rw [List.mem_singleton.mp y]; exact hc
          · rw [List.nodup_append]
            exact ⟨q2, by simp, fun x hx y hy e => hcq (by rw [List.mem_singleton.mp hy] at e; rw [← e]; exact hx)⟩
          · rw [List.length_append]; rfl
          · rw [zq_ya]
            exact ⟨zq_yu (Or.inr (by omega)) q7, by rw [Nat.zero_add]; exact pk_us, trivial⟩
          · intro q hq
            rw [List.mem_append, List.mem_singleton, q8 q hq]
            by_cases e : q = c
            · subst e; rw [pk_us]; exact ⟨fun _ => ⟨rfl, by omega⟩, fun _ => Or.inr rfl⟩
            · rw [hSn q e]; exact ⟨fun y => y.elim id (fun y => absurd y e), Or.inl⟩
          · intro q hq
            by_cases e : q = c
            · subst e; rw [pk_us]; exact Or.inr (Or.inl rfl)
            · rw [hSn q e]; exact j1 q hq
          · intro q hq h
            by_cases e : q = c
            · subst e; rw [pk_us, pk_us]; exact ⟨rfl, fun y => zi_m1ne (n := q) (by omega) y.symm⟩
            · rw [hSn q e] at h; rw [pk_un e, pk_un e]; exact j2 q hq h
          · rw [el]
            exact zr_PGl j3 (fun q e h => by rw [hSn q e] at h; exact h) hl (fun k hk => by rw [g1 k hk, y1 k (by omega), hwd k hk]) g2 y2
          · intro q hq h
            have e : q ≠ c := fun e => by rw [e, pk_us] at h; exact absurd h (by decide)
            rw [hSn q e] at h
            rw [pk_un e, pk_un e]
            exact j4 q hq h
        refine ⟨nI c, (fu, nk', lv, qa', nI c, ec, pn, st', kb', ch', kw', K, lx, bo, lk, oc, eN, eV, U, F, Ww, Q, os, ps, pc, pw, rd, wr, upd S c 1, upd pr c (-1), upd P c 0, upd Z c (lx n), gx', RR, upd L c 0, D, bh', O), (nI (ql.length + 1), ec, pn, go, K, ly, wd, E, U, upd S c 1, upd py c (-1), upd P c 0, upd Z c (lx n), gy', RR, A, upd L c 0, F, Ww, Q, fl, pp, upd qy ql.length (nI c), O), zz_mk I', fun post h => hXp post ?_, fun post h => hYp post (br_f (nI_pos (by omega)) (br_f (nI_pos (by omega)) ⟨vp_in_nI hn (by decide), br_t ((zcl (by omega)).trans hK1) ?_⟩))⟩
        · unfold wX_spawn_23
          rw [zcl (f := K) (by omega), nI_clamp (n := c) (by omega), zb_m1, zb_0]
          refine br_f (nI_pos (by omega)) (br_f (nI_pos (by omega)) ⟨vp_in_nI hn (by decide), br_t hK1 ⟨vp_in_nI hc (by decide), nm_e ⟨vp_in_nI hc (by decide), nm_e (nm_r (e' := nI (4 * c + 0)) (zi_m4 c) ⟨5, ?_⟩)⟩⟩⟩)
          refine xo_s67 (i := 0) hc (by decide) (hD0 0 (by decide)) (xo_s67 (i := 1) hc (by decide) (hD0 1 (by decide)) (xo_s67 (i := 2) hc (by decide) (hD0 2 (by decide)) (xo_s67 (i := 3) hc (by decide) (hD0 3 (by decide)) ?_)))
          have e4 : 4 * nI c + 4 = nI (4 * c + (3 + 1)) := by rw [zi_m4, zi_a4]
          refine br_t (by rw [e4]; exact nI_le (Nat.le_refl _) (by omega)) ?_
          rw [zi_m4, nI_clamp (n := 4 * c) (by omega), zr_sp, eRR]
          refine ⟨vp_in_nI (by omega) (by decide), nm_e (gX _ ⟨vp_in_nI hc (by decide), ?_⟩)⟩
          rw [nI_clamp (n := c) (by omega), zb_1]
          exact nm_e (hXq _ h)
        · refine yX _ ⟨vp_in_nI hc (by decide), ?_⟩
          rw [nI_clamp (n := c) (by omega)]
          refine nm_e ⟨vp_in_nI hc (by decide), nm_e (nm_r (e' := nI (4 * c + 0)) (zi_m4 c) ⟨5, ?_⟩)⟩
          refine yo_s62 (i := 0) hc (by decide) (hA0 0 (by decide)) (yo_s62 (i := 1) hc (by decide) (hA0 1 (by decide)) (yo_s62 (i := 2) hc (by decide) (hA0 2 (by decide)) (yo_s62 (i := 3) hc (by decide) (hA0 3 (by decide)) ?_)))
          rw [if_pos rfl, if_neg (by decide), if_neg (by decide), if_neg (by decide), eRR]
          have e4 : 4 * nI c + 4 = nI (4 * c + (3 + 1)) := by rw [zi_m4, zi_a4]
          exact br_t (by rw [e4]; exact nI_le (Nat.le_refl _) (by omega)) (yo_join hc q6 hlen h)
      · exact bad (fun post h => hXp post (br_f (nI_pos (by omega)) (br_f (nI_pos (by omega)) ⟨vp_in_nI hn (by decide), br_f (fun y => hK1 ((zcl (by omega)).symm.trans y)) h⟩))) (fun post h => hYp post (br_f (nI_pos (by omega)) (br_f (nI_pos (by omega)) ⟨vp_in_nI hn (by decide), br_f (fun y => hK1 ((zcl (by omega)).symm.trans y)) h⟩)))
end
section
/-! what is seen from outside: one answer for both -/
section
variable {B : Nat} {C : Nat → Int32} {ln bl dc : Nat → Nat} {ql : List Nat} {fu : Int64} {nk lv qa qz : Int32} {ec : Int64} {pn : Int32} {st kb ch kw K lx bo lk oc eN eV U F Ww Q os ps pc pw rd wr S pr P Z gx R L D bh O : Nat → Int32} {qn go : Int32} {ly wd E py gy A fl pp qy : Nat → Int32}
theorem zo_state {x : Int32} : ∃ r : Int32, (∀ post : Int32 → Prop, post r → wpX_state post (fu, nk, lv, qa, qz, ec, pn, st, kb, ch, kw, K, lx, bo, lk, oc, eN, eV, U, F, Ww, Q, os, ps, pc, pw, rd, wr, S, pr, P, Z, gx, R, L, D, bh, O) x) ∧ ∀ post : Int32 → Prop, post r → wpY_state post (qn, ec, pn, go, K, ly, wd, E, U, S, py, P, Z, gy, R, A, L, F, Ww, Q, fl, pp, qy, O) x := by
  rcases Classical.em (za_r 5 x) with ⟨q, hq, e⟩ | hz
  · subst e
    refine ⟨S q, fun post h => ?_, fun post h => ?_⟩
    · unfold wpX_state
      exact xr_isProcess (fun _ => br_f (by decide) ⟨vp_in_nI hq (by decide), by rw [zcl (f := S) (by omega)]; exact h⟩) (fun y => absurd ⟨q, hq, rfl⟩ y)
    · unfold wpY_state
      exact yr_in0 (h := 4) (by decide) (fun _ => br_f (by decide) ⟨vp_in_nI hq (by decide), by rw [zcl (f := S) (by omega)]; exact h⟩) (fun y => absurd ⟨q, hq, rfl⟩ y)
  · refine ⟨-1000000, fun post h => ?_, fun post h => ?_⟩
    · unfold wpX_state
      exact xr_isProcess (fun y => absurd y hz) (fun _ => br_t rfl h)
    · unfold wpY_state
      exact yr_in0 (h := 4) (by decide) (fun y => absurd y hz) (fun _ => br_t rfl h)
theorem zo_spot {x : Int32} : ∃ r : Int32, (∀ post : Int32 → Prop, post r → wpX_spot post (fu, nk, lv, qa, qz, ec, pn, st, kb, ch, kw, K, lx, bo, lk, oc, eN, eV, U, F, Ww, Q, os, ps, pc, pw, rd, wr, S, pr, P, Z, gx, R, L, D, bh, O) x) ∧ ∀ post : Int32 → Prop, post r → wpY_spot post (qn, ec, pn, go, K, ly, wd, E, U, S, py, P, Z, gy, R, A, L, F, Ww, Q, fl, pp, qy, O) x := by
  rcases Classical.em (za_r 5 x) with ⟨q, hq, e⟩ | hz
  · subst e
    refine ⟨if S q = 0 then -1000000 else P q, fun post h => ?_, fun post h => ?_⟩
    · unfold wpX_spot
      refine xr_isProcess (fun _ => br_f (by decide) ⟨vp_in_nI hq (by decide), ?_⟩) (fun y => absurd ⟨q, hq, rfl⟩ y)
      rw [zcl (f := S) (by omega), zcl (f := P) (by omega)]
      by_cases c : S q = 0
      · rw [if_pos c] at h; exact br_t c h
      · rw [if_neg c] at h; exact br_f c ⟨vp_in_nI hq (by decide), h⟩
    · unfold wpY_spot
      refine yr_in0 (h := 4) (by decide) (fun _ => br_f (by decide) ⟨vp_in_nI hq (by decide), ?_⟩) (fun y => absurd ⟨q, hq, rfl⟩ y)
      rw [zcl (f := S) (by omega), zcl (f := P) (by omega)]
      by_cases c : S q = 0
      · rw [if_pos c] at h; exact br_t c h
      · rw [if_neg c] at h; exact br_f c ⟨vp_in_nI hq (by decide), h⟩
  · refine ⟨-1000000, fun post h => ?_, fun post h => ?_⟩
    · unfold wpX_spot
      exact xr_isProcess (fun y => absurd y hz) (fun _ => br_t rfl h)
    · unfold wpY_spot
      exact yr_in0 (h := 4) (by decide) (fun y => absurd y hz) (fun _ => br_t rfl h)
theorem zo_register {x y : Int32} : ∃ r : Int32, (∀ post : Int32 → Prop, post r → wpX_register post (fu, nk, lv, qa, qz, ec, pn, st, kb, ch, kw, K, lx, bo, lk, oc, eN, eV, U, F, Ww, Q, os, ps, pc, pw, rd, wr, S, pr, P, Z, gx, R, L, D, bh, O) x y) ∧ ∀ post : Int32 → Prop, post r → wpY_register post (qn, ec, pn, go, K, ly, wd, E, U, S, py, P, Z, gy, R, A, L, F, Ww, Q, fl, pp, qy, O) x y := by
  by_cases hok : za_l S x ∧ za_r 4 y
  · obtain ⟨⟨q, hq, e, hal⟩, j, hj, ej⟩ := hok
    subst e ej
    have ei : 4 * nI q + nI j = nI (4 * q + j) := by rw [zi_m4, nI_add]
    refine ⟨R (4 * q + j), fun post h => ?_, fun post h => ?_⟩
    · unfold wpX_register
      refine xr_isAlive (fun _ => br_f (by decide) (br_f (nI_pos (by omega)) (br_f (nI_nlt (a := 3) (by omega) (by decide)) ?_))) (fun y => absurd ⟨q, hq, rfl, hal⟩ y)
      rw [ei, zcl (f := R) (by omega)]
      exact ⟨vp_in_nI (by omega) (by decide), h⟩
    · unfold wpY_register
      refine yr_isLive (fun _ => br_f (by decide) (yr_in0 (h := 3) (by decide) (fun _ => br_f (by decide) ?_) (fun y => absurd ⟨j, hj, rfl⟩ y))) (fun y => absurd ⟨q, hq, rfl, hal⟩ y)
      rw [ei, zcl (f := R) (by omega)]
      exact ⟨vp_in_nI (by omega) (by decide), h⟩
  · refine ⟨0, fun post h => ?_, fun post h => ?_⟩
    · unfold wpX_register
      refine xr_isAlive (fun hl => br_f (by decide) ?_) (fun _ => br_t rfl h)
      rcases pk_ix y (n := 4) (by decide) with c | c | ⟨j, hj, ej⟩
      · exact br_t c h
      · exact br_f (zlt_le c (by decide)) (br_t (Int32.lt_of_lt_of_le (by decide) c) h)
      · exact absurd ⟨hl, j, hj, ej⟩ hok
    · unfold wpY_register
      exact yr_isLive (fun hl => br_f (by decide) (yr_in0 (h := 3) (by decide) (fun y => absurd ⟨hl, y⟩ hok) (fun _ => br_t rfl h))) (fun _ => br_t rfl h)
theorem zo_dv : ∀ j, j < 2 → 4096 + nI j = 4096 + nI (101 + j) - 101 ∧ 8192 + nI j = 8192 + nI (201 + j) - 201 := by decide
theorem zo_descriptor (I : zz_I B 5 C ln bl dc ql fu nk lv qa qz pn st kb ch kw K lx bo lk oc eN eV U F Q os ps pc pw rd wr S pr P Z gx L D bh qn ly wd E py gy A fl pp qy) {x y : Int32} : ∃ r : Int32, (∀ post : Int32 → Prop, post r → wpX_descriptor post (fu, nk, lv, qa, qz, ec, pn, st, kb, ch, kw, K, lx, bo, lk, oc, eN, eV, U, F, Ww, Q, os, ps, pc, pw, rd, wr, S, pr, P, Z, gx, R, L, D, bh, O) x y) ∧ ∀ post : Int32 → Prop, post r → wpY_descriptor post (qn, ec, pn, go, K, ly, wd, E, U, S, py, P, Z, gy, R, A, L, F, Ww, Q, fl, pp, qy, O) x y := by
  by_cases hok : za_l S x ∧ za_r 4 y
  · obtain ⟨⟨q, hq, e, hal⟩, k, hk, ek⟩ := hok
    subst e ek
    have ei : 4 * nI q + nI k = nI (4 * q + k) := by rw [zi_m4, nI_add]
    obtain ⟨hc12, eD, eA⟩ := I.2.2.1.1 (4 * q + k) (by omega)
    have hXp : ∀ post : Int32 → Prop, ((D (4 * q + k) = 0 → post 0) ∧ (¬ D (4 * q + k) = 0 → ((D (4 * q + k) < 16 → (vp_in (D (4 * q + k) - 1) 8 ∧ post ((1 + (16 * (Q (D (4 * q + k) - 1).toNatClampNeg))) + (512 * (D (4 * q + k) - 1))))) ∧ (¬ D (4 * q + k) < 16 → wpX_isReading (fun r_48 => (((r_48 = 0 → (wpX_pipeOf (fun r_88 => (post (8192 + r_88))) (fu, nk, lv, qa, qz, ec, pn, st, kb, ch, kw, K, lx, bo, lk, oc, eN, eV, U, F, Ww, Q, os, ps, pc, pw, rd, wr, S, pr, P, Z, gx, R, L, D, bh, O) (D (4 * q + k)))) ∧ (¬ r_48 = 0 → (wpX_pipeOf (fun r_127 => (post (4096 + r_127))) (fu, nk, lv, qa, qz, ec, pn, st, kb, ch, kw, K, lx, bo, lk, oc, eN, eV, U, F, Ww, Q, os, ps, pc, pw, rd, wr, S, pr, P, Z, gx, R, L, D, bh, O) (D (4 * q + k))))))) (fu, nk, lv, qa, qz, ec, pn, st, kb, ch, kw, K, lx, bo, lk, oc, eN, eV, U, F, Ww, Q, os, ps, pc, pw, rd, wr, S, pr, P, Z, gx, R, L, D, bh, O) (D (4 * q + k)))))) → wpX_descriptor post (fu, nk, lv, qa, qz, ec, pn, st, kb, ch, kw, K, lx, bo, lk, oc, eN, eV, U, F, Ww, Q, os, ps, pc, pw, rd, wr, S, pr, P, Z, gx, R, L, D, bh, O) (nI q) (nI k) := by
      intro post h
      unfold wpX_descriptor
      refine xr_isAlive (fun _ => br_f (by decide) (br_f (nI_pos (by omega)) (br_t (nI_le (b := 3) (by omega) (by decide)) ?_))) (fun y => absurd ⟨q, hq, rfl, hal⟩ y)
      rw [ei, zcl (f := D) (by omega)]
      exact ⟨vp_in_nI (by omega) (by decide), nm_e h⟩
    have hYp : ∀ post : Int32 → Prop, ((A (4 * q + k) ≤ 200 → ((A (4 * q + k) ≤ 100 → ((A (4 * q + k) = 0 → post 0) ∧ (¬ A (4 * q + k) = 0 → (vp_in (A (4 * q + k) - 1) 8 ∧ post ((1 + (16 * (Q (A (4 * q + k) - 1).toNatClampNeg))) + (512 * (A (4 * q + k) - 1))))))) ∧ (¬ A (4 * q + k) ≤ 100 → post ((4096 + A (4 * q + k)) - 101)))) ∧ (¬ A (4 * q + k) ≤ 200 → post ((8192 + A (4 * q + k)) - 201))) → wpY_descriptor post (qn, ec, pn, go, K, ly, wd, E, U, S, py, P, Z, gy, R, A, L, F, Ww, Q, fl, pp, qy, O) (nI q) (nI k) := by
      intro post h
      unfold wpY_descriptor
      refine yr_isLive (fun _ => br_f (by decide) (yr_in0 (h := 3) (by decide) (fun _ => br_f (by decide) ?_) (fun y => absurd ⟨k, hk, rfl⟩ y))) (fun y => absurd ⟨q, hq, rfl, hal⟩ y)
      rw [ei, zcl (f := A) (by omega)]
      exact ⟨vp_in_nI (by omega) (by decide), nm_e h⟩
    rw [eD] at hXp
    rw [eA] at hYp
    rcases zx_cs hc12 with e | ⟨o, ho, e⟩ | ⟨j, hj, e⟩ | ⟨j, hj, e⟩
    · rw [e] at hXp hYp
      exact ⟨0, fun post h => hXp post (br_t rfl h), fun post h => hYp post (br_t (by decide) (br_t (by decide) (br_t rfl h)))⟩
    · rw [e, zx_o ho] at hXp
      rw [e, zy_o ho] at hYp
      exact ⟨(1 + (16 * (Q (nI (1 + o) - 1).toNatClampNeg))) + (512 * (nI (1 + o) - 1)), fun post h => hXp post (br_f (nI_ne0 (by omega) (by omega)) (br_t (nI_lt (b := 16) (by omega) (by decide)) ⟨by rw [zx_opn o ho]; exact vp_in_nI ho (by decide), h⟩)),
        fun post h => hYp post (br_t (nI_le (b := 200) (by omega) (by decide)) (br_t (nI_le (b := 100) (by omega) (by decide)) (br_f (nI_ne0 (by omega) (by omega)) ⟨by rw [zx_opn o ho]; exact vp_in_nI ho (by decide), h⟩)))⟩
    · rw [e, zx_r hj] at hXp
      rw [e, zy_r hj] at hYp
      exact ⟨4096 + nI j, fun post h => hXp post (br_f (nI_ne0 (by omega) (by omega)) (br_f (nI_nlt (b := 16) (by omega) (by omega)) (xr_isRd0 hj (br_f (by decide) (xr_pipe0 hj h))))),
        fun post h => hYp post (br_t (nI_le (b := 200) (by omega) (by decide)) (br_f (nI_ge (a := 100) (by omega) (by omega)) (by rw [← (zo_dv j hj).1]; exact h)))⟩
    · rw [e, zx_w hj] at hXp
      rw [e, zy_w hj] at hYp
      exact ⟨8192 + nI j, fun post h => hXp post (br_f (nI_ne0 (by omega) (by omega)) (br_f (nI_nlt (b := 16) (by omega) (by omega)) (xr_isRd1 hj (br_t rfl (xr_pipe1 hj h))))),
        fun post h => hYp post (br_f (nI_ge (a := 200) (by omega) (by omega)) (by rw [← (zo_dv j hj).2]; exact h))⟩
  · refine ⟨0, fun post h => ?_, fun post h => ?_⟩
    · unfold wpX_descriptor
      refine xr_isAlive (fun hl => br_f (by decide) ?_) (fun _ => br_t rfl h)
      rcases pk_ix y (n := 4) (by decide) with c | c | ⟨j, hj, ej⟩
      · exact br_t c h
      · exact br_f (zlt_le c (by decide)) (br_f (fun y => absurd (Int32.le_trans c y) (by decide)) h)
      · exact absurd ⟨hl, j, hj, ej⟩ hok
    · unfold wpY_descriptor
      exact yr_isLive (fun hl => br_f (by decide) (yr_in0 (h := 3) (by decide) (fun y => absurd ⟨hl, y⟩ hok) (fun _ => br_t rfl h))) (fun _ => br_t rfl h)
theorem zo_entry (I : zz_I B 5 C ln bl dc ql fu nk lv qa qz pn st kb ch kw K lx bo lk oc eN eV U F Q os ps pc pw rd wr S pr P Z gx L D bh qn ly wd E py gy A fl pp qy) {x y : Int32} : ∃ r : Int32, (∀ post : Int32 → Prop, post r → wpX_entry post (fu, nk, lv, qa, qz, ec, pn, st, kb, ch, kw, K, lx, bo, lk, oc, eN, eV, U, F, Ww, Q, os, ps, pc, pw, rd, wr, S, pr, P, Z, gx, R, L, D, bh, O) x y) ∧ ∀ post : Int32 → Prop, post r → wpY_entry post (qn, ec, pn, go, K, ly, wd, E, U, S, py, P, Z, gy, R, A, L, F, Ww, Q, fl, pp, qy, O) x y := by
  obtain ⟨⟨t1, t2, t3, t4, t5, t6, t7⟩, _⟩ := I
  by_cases hok : ∃ n, n < 10 ∧ x = nI n ∧ K n = 2 ∧ za_r 16 y
  · obtain ⟨n, hn, e, hK, j, hj, ej⟩ := hok
    subst e ej
    by_cases c15 : j = 15
    · subst c15
      refine ⟨U n, fun post h => ?_, fun post h => ?_⟩
      · unfold wpX_entry
        refine xr_isNode (fun _ => br_f (by decide) ⟨vp_in_nI hn (by decide), br_t ((zcl (by omega)).trans hK) (br_f (by decide) (br_t (by decide) (br_t (by decide) ⟨vp_in_nI hn (by decide), ?_⟩)))⟩) (fun y => absurd ⟨n, hn, rfl⟩ y)
        rw [zcl (f := U) (by omega)]; exact h
      · unfold wpY_entry
        refine yr_in0 (h := 9) (by decide) (fun _ => br_f (by decide) ⟨vp_in_nI hn (by decide), br_t ((zcl (by omega)).trans hK) (yr_in0 (h := 15) (by decide) (fun _ => br_f (by decide) (br_t (by decide) ⟨vp_in_nI hn (by decide), ?_⟩)) (fun y => absurd ⟨15, by decide, rfl⟩ y))⟩) (fun y => absurd ⟨n, hn, rfl⟩ y)
        rw [zcl (f := U) (by omega)]; exact h
    · have n15 : ¬ nI j = 15 := fun y => c15 (zi_inj (b := 15) (by omega) (by decide) y)
      refine ⟨E (15 * n + j), fun post h => ?_, fun post h => ?_⟩
      · unfold wpX_entry
        exact xr_isNode (fun _ => br_f (by decide) ⟨vp_in_nI hn (by decide), br_t ((zcl (by omega)).trans hK) (br_f (nI_pos (by omega)) (br_t (nI_le (b := 15) (by omega) (by decide)) (br_f n15 (xr_find hn hK t6 (Or.inl ⟨j, by omega, rfl, rfl⟩) h))))⟩) (fun y => absurd ⟨n, hn, rfl⟩ y)
      · unfold wpY_entry
        refine yr_in0 (h := 9) (by decide) (fun _ => br_f (by decide) ⟨vp_in_nI hn (by decide), br_t ((zcl (by omega)).trans hK) (yr_in0 (h := 15) (by decide) (fun _ => br_f (by decide) (br_f n15 ?_)) (fun y => absurd ⟨j, hj, rfl⟩ y))⟩) (fun y => absurd ⟨n, hn, rfl⟩ y)
        rw [zi_m15, nI_add, zcl (f := E) (by omega)]
        exact ⟨vp_in_nI (by omega) (by decide), h⟩
  · refine ⟨-1000000, fun post h => ?_, fun post h => ?_⟩
    · unfold wpX_entry
      refine xr_isNode (fun ⟨n, hn, e⟩ => br_f (by decide) ?_) (fun _ => br_t rfl h)
      subst e
      rw [zcl (f := K) (by omega)]
      refine ⟨vp_in_nI hn (by decide), ?_⟩
      by_cases hK : K n = 2
      · refine br_t hK ?_
        rcases pk_ix y (n := 16) (by decide) with c | c | ⟨j, hj, ej⟩
        · exact br_t c h
        · exact br_f (zlt_le c (by decide)) (br_f (fun y => absurd (Int32.le_trans c y) (by decide)) h)
        · exact absurd ⟨n, hn, rfl, hK, j, hj, ej⟩ hok
      · exact br_f hK h
    · unfold wpY_entry
      refine yr_in0 (h := 9) (by decide) (fun ⟨n, hn, e⟩ => br_f (by decide) ?_) (fun _ => br_t rfl h)
      subst e
      rw [zcl (f := K) (by omega)]
      refine ⟨vp_in_nI hn (by decide), ?_⟩
      by_cases hK : K n = 2
      · exact br_t hK (yr_in0 (h := 15) (by decide) (fun y => absurd ⟨n, hn, rfl, hK, y⟩ hok) (fun _ => br_t rfl h))
      · exact br_f hK h
theorem zo_kind {x : Int32} : ∃ r : Int32, (∀ post : Int32 → Prop, post r → wpX_kind post (fu, nk, lv, qa, qz, ec, pn, st, kb, ch, kw, K, lx, bo, lk, oc, eN, eV, U, F, Ww, Q, os, ps, pc, pw, rd, wr, S, pr, P, Z, gx, R, L, D, bh, O) x) ∧ ∀ post : Int32 → Prop, post r → wpY_kind post (qn, ec, pn, go, K, ly, wd, E, U, S, py, P, Z, gy, R, A, L, F, Ww, Q, fl, pp, qy, O) x := by
  rcases Classical.em (za_r 10 x) with ⟨q, hq, e⟩ | hz
  · subst e
    refine ⟨K q, fun post h => ?_, fun post h => ?_⟩
    · unfold wpX_kind
      exact xr_isNode (fun _ => br_f (by decide) ⟨vp_in_nI hq (by decide), by rw [zcl (f := K) (by omega)]; exact h⟩) (fun y => absurd ⟨q, hq, rfl⟩ y)
    · unfold wpY_kind
      exact yr_in0 (h := 9) (by decide) (fun _ => br_f (by decide) ⟨vp_in_nI hq (by decide), by rw [zcl (f := K) (by omega)]; exact h⟩) (fun y => absurd ⟨q, hq, rfl⟩ y)
  · refine ⟨-1000000, fun post h => ?_, fun post h => ?_⟩
    · unfold wpX_kind
      exact xr_isNode (fun y => absurd y hz) (fun _ => br_t rfl h)
    · unfold wpY_kind
      exact yr_in0 (h := 9) (by decide) (fun y => absurd y hz) (fun _ => br_t rfl h)
theorem zo_size (I : zz_I B 5 C ln bl dc ql fu nk lv qa qz pn st kb ch kw K lx bo lk oc eN eV U F Q os ps pc pw rd wr S pr P Z gx L D bh qn ly wd E py gy A fl pp qy) {x : Int32} : ∃ r : Int32, (∀ post : Int32 → Prop, post r → wpX_size post (fu, nk, lv, qa, qz, ec, pn, st, kb, ch, kw, K, lx, bo, lk, oc, eN, eV, U, F, Ww, Q, os, ps, pc, pw, rd, wr, S, pr, P, Z, gx, R, L, D, bh, O) x) ∧ ∀ post : Int32 → Prop, post r → wpY_size post (qn, ec, pn, go, K, ly, wd, E, U, S, py, P, Z, gy, R, A, L, F, Ww, Q, fl, pp, qy, O) x := by
  obtain ⟨⟨t1, t2, t3, t4, t5, t6, t7⟩, ⟨_, fx, fy⟩, _⟩ := I
  by_cases hok : ∃ n, n < 10 ∧ x = nI n ∧ K n ≠ 0
  · obtain ⟨n, hn, e, hK⟩ := hok
    subst e
    have hval : (K n = 1 → lx n = ly n) ∧ (K n ≠ 1 → lx n = nI (zc (fun m => E (15 * n + m) ≠ -1) 15)) := by
      refine ⟨fun h => ?_, fun h => ?_⟩
      · rw [(fx.1 n hn h).2, (fy n hn h).1]
      · have h2 : K n = 2 := by
          rcases t1.1 n hn with q | q | q
          · exact absurd q hK
          · exact absurd q h
          · exact q
        obtain ⟨l, _, el, hDD⟩ := t6 n hn h2
        rw [el, hDD.2.2.2]
    have hKp : ¬ K n ≤ 0 := by
      rcases t1.1 n hn with q | q | q
      · exact absurd q hK
      · rw [q]; decide
      · rw [q]; decide
    refine ⟨lx n, fun post h => ?_, fun post h => ?_⟩
    · unfold wpX_size
      refine xr_isNode (fun _ => br_f (by decide) ⟨vp_in_nI hn (by decide), ?_⟩) (fun y => absurd ⟨n, hn, rfl⟩ y)
      rw [zcl (f := K) (by omega), zcl (f := lx) (by omega)]
      exact br_f hK ⟨vp_in_nI hn (by decide), h⟩
    · unfold wpY_size
      refine yr_in0 (h := 9) (by decide) (fun _ => br_f (by decide) ⟨vp_in_nI hn (by decide), ?_⟩) (fun y => absurd ⟨n, hn, rfl⟩ y)
      rw [zcl (f := K) (by omega)]
      exact br_f hKp (yo_sizeOf hn t3 (fun q => hval.1 q ▸ h) (fun q => hval.2 q ▸ h))
  · refine ⟨-1000000, fun post h => ?_, fun post h => ?_⟩
    · unfold wpX_size
      refine xr_isNode (fun ⟨n, hn, e⟩ => br_f (by decide) ?_) (fun _ => br_t rfl h)
      subst e
      rw [zcl (f := K) (by omega)]
      exact ⟨vp_in_nI hn (by decide), br_t (Classical.byContradiction fun y => hok ⟨n, hn, rfl, y⟩) h⟩
    · unfold wpY_size
      refine yr_in0 (h := 9) (by decide) (fun ⟨n, hn, e⟩ => br_f (by decide) ?_) (fun _ => br_t rfl h)
      subst e
      rw [zcl (f := K) (by omega)]
      have hK : K n = 0 := Classical.byContradiction fun y => hok ⟨n, hn, rfl, y⟩
      exact ⟨vp_in_nI hn (by decide), br_t (by rw [hK]; decide) h⟩
theorem zo_pipe (I : zz_I B 5 C ln bl dc ql fu nk lv qa qz pn st kb ch kw K lx bo lk oc eN eV U F Q os ps pc pw rd wr S pr P Z gx L D bh qn ly wd E py gy A fl pp qy) {x : Int32} : ∃ r : Int32, (∀ post : Int32 → Prop, post r → wpX_pipe post (fu, nk, lv, qa, qz, ec, pn, st, kb, ch, kw, K, lx, bo, lk, oc, eN, eV, U, F, Ww, Q, os, ps, pc, pw, rd, wr, S, pr, P, Z, gx, R, L, D, bh, O) x) ∧ ∀ post : Int32 → Prop, post r → wpY_pipe post (qn, ec, pn, go, K, ly, wd, E, U, S, py, P, Z, gy, R, A, L, F, Ww, Q, fl, pp, qy, O) x := by
  obtain ⟨_, _, i3, i4, _⟩ := I
  rcases pk_ix x (n := 2) (by decide) with c | c | ⟨j, hj, ej⟩
  · refine ⟨-1000000, fun post h => br_t c h, fun post h => ?_⟩
    unfold wpY_pipe
    exact yr_in0 (h := 1) (by decide) (fun y => absurd y (za_neg (by decide) c)) (fun _ => br_t rfl h)
  · refine ⟨-1000000, fun post h => br_f (zlt_le c (by decide)) (br_f (fun y => absurd (Int32.le_trans c y) (by decide)) h), fun post h => ?_⟩
    unfold wpY_pipe
    exact yr_in0 (h := 1) (by decide) (fun y => absurd y (za_big (by decide) c)) (fun _ => br_t rfl h)
  · subst ej
    have e1 : 101 + nI j = nI (zyn (9 + j)) := by rw [zi_101a, zy_r hj]
    have e2 : 201 + nI j = nI (zyn (11 + j)) := by rw [zi_201a, zy_w hj]
    by_cases hth : zh_o dc (9 + j) ∨ zh_o dc (11 + j)
    · obtain ⟨s0, c0, _, _, _, epc, efl, _⟩ := i4 j hj hth
      refine ⟨nI c0, fun post h => br_f (nI_pos (by omega)) (br_t (nI_le (b := 1) (by omega) (by decide)) (xr_isThere hj i3.2.1 (fun _ => br_f (by decide) ⟨vp_in_nI hj (by decide), ?_⟩) (fun y1 y2 => absurd hth (fun z => z.elim y1 y2)))), fun post h => ?_⟩
      · rw [zcl (f := pc) (by omega), epc]; exact h
      · unfold wpY_pipe
        refine yr_in0 (h := 1) (by decide) (fun _ => br_f (by decide) ?_) (fun y => absurd ⟨j, hj, rfl⟩ y)
        rw [e1, e2, zcl (f := fl) (by omega), efl]
        refine yr_has i3.1 (by omega) (fun _ => br_f (by decide) ⟨vp_in_nI hj (by decide), h⟩) (fun y => br_t rfl (yr_has i3.1 (by omega) (fun _ => br_f (by decide) ⟨vp_in_nI hj (by decide), h⟩) (fun y2 => absurd hth (fun z => z.elim y y2))))
    · refine ⟨-1, fun post h => br_f (nI_pos (by omega)) (br_t (nI_le (b := 1) (by omega) (by decide)) (xr_isThere hj i3.2.1 (fun y => absurd y hth) (fun _ _ => br_t rfl h))), fun post h => ?_⟩
      unfold wpY_pipe
      refine yr_in0 (h := 1) (by decide) (fun _ => br_f (by decide) ?_) (fun y => absurd ⟨j, hj, rfl⟩ y)
      rw [e1, e2]
      exact yr_has i3.1 (by omega) (fun y => absurd (Or.inl y) hth) (fun _ => br_t rfl (yr_has i3.1 (by omega) (fun y => absurd (Or.inr y) hth) (fun _ => br_t rfl h)))
theorem zo_output {x : Int32} : ∃ r : Int32, (∀ post : Int32 → Prop, post r → wpX_output post (fu, nk, lv, qa, qz, ec, pn, st, kb, ch, kw, K, lx, bo, lk, oc, eN, eV, U, F, Ww, Q, os, ps, pc, pw, rd, wr, S, pr, P, Z, gx, R, L, D, bh, O) x) ∧ ∀ post : Int32 → Prop, post r → wpY_output post (qn, ec, pn, go, K, ly, wd, E, U, S, py, P, Z, gy, R, A, L, F, Ww, Q, fl, pp, qy, O) x := by
  rcases pk_ix x (n := 32) (by decide) with c | c | ⟨j, hj, ej⟩
  · refine ⟨0, fun post h => br_t c h, fun post h => ?_⟩
    unfold wpY_output
    exact yr_in0 (h := 31) (by decide) (fun y => absurd y (za_neg (by decide) c)) (fun _ => br_t rfl h)
  · refine ⟨0, fun post h => br_f (zlt_le c (by decide)) (br_c (fun _ => h) (fun _ => br_f (fun y => absurd (Int32.le_trans c y) (by decide)) h)), fun post h => ?_⟩
    unfold wpY_output
    exact yr_in0 (h := 31) (by decide) (fun y => absurd y (za_big (by decide) c)) (fun _ => br_t rfl h)
  · subst ej
    by_cases cp : pn ≤ nI j
    · refine ⟨0, fun post h => br_f (nI_pos (by omega)) (br_t cp h), fun post h => ?_⟩
      unfold wpY_output
      exact yr_in0 (h := 31) (by decide) (fun _ => br_f (by decide) (br_t cp h)) (fun y => absurd ⟨j, hj, rfl⟩ y)
    · refine ⟨O j, fun post h => br_f (nI_pos (by omega)) (br_f cp (br_t (nI_le (b := 31) (by omega) (by decide)) ⟨vp_in_nI hj (by decide), ?_⟩)), fun post h => ?_⟩
      · rw [zcl (f := O) (by omega)]; exact h
      · unfold wpY_output
        refine yr_in0 (h := 31) (by decide) (fun _ => br_f (by decide) (br_f cp ⟨vp_in_nI hj (by decide), ?_⟩)) (fun y => absurd ⟨j, hj, rfl⟩ y)
        rw [zcl (f := O) (by omega)]; exact h
theorem zo_word (I : zz_I B 5 C ln bl dc ql fu nk lv qa qz pn st kb ch kw K lx bo lk oc eN eV U F Q os ps pc pw rd wr S pr P Z gx L D bh qn ly wd E py gy A fl pp qy) {x y : Int32} : ∃ (r : Int32) (u' : SX), zz_R B 5 u' (qn, ec, pn, go, K, ly, wd, E, U, S, py, P, Z, gy, R, A, L, F, Ww, Q, fl, pp, qy, O) ∧ (∀ post : Int32 → SX → Prop, post r u' → wpX_word post (fu, nk, lv, qa, qz, ec, pn, st, kb, ch, kw, K, lx, bo, lk, oc, eN, eV, U, F, Ww, Q, os, ps, pc, pw, rd, wr, S, pr, P, Z, gx, R, L, D, bh, O) x y) ∧ ∀ post : Int32 → Prop, post r → wpY_word post (qn, ec, pn, go, K, ly, wd, E, U, S, py, P, Z, gy, R, A, L, F, Ww, Q, fl, pp, qy, O) x y := by
  obtain ⟨i1, i2, i3, i4, i5, i6⟩ := id I
  by_cases hok : ∃ n i, n < 10 ∧ x = nI n ∧ K n = 1 ∧ y = nI i ∧ i < ln n
  · obtain ⟨n, i, hn, e, hK, ei, hi⟩ := hok
    subst e ei
    obtain ⟨hl, el⟩ := i2.2.1.1 n hn hK
    obtain ⟨ey, hwd⟩ := i2.2.2 n hn hK
    have hv : zr_V K ln (5 * n + i / 4) := by
      have e5 : (5 * n + i / 4) / 5 = n := by omega
      refine ⟨by rw [e5]; exact hK, ?_⟩
      rw [e5]; omega
    obtain ⟨b1, b2, b3⟩ := i2.2.1.2.1 _ (by omega) hv
    obtain ⟨nk', st', kb', ch', kw', HS', hXw⟩ := xs_wordAt (fu := fu) (nk := nk) (lv := lv) (qa := qa) (qz := qz) (ec := ec) (pn := pn) (st := st) (kb := kb) (ch := ch) (kw := kw) (K := K) (lx := lx) (bo := bo) (lk := lk) (oc := oc) (eN := eN) (eV := eV) (U := U) (F := F) (Ww := Ww) (Q := Q) (os := os) (ps := ps) (pc := pc) (pw := pw) (rd := rd) (wr := wr) (S := S) (pr := pr) (P := P) (Z := Z) (gx := gx) (R := R) (L := L) (D := D) (bh := bh) (O := O) (n := n) (i := i) i2.1 hn (by omega) b1 b3 b2
    refine ⟨wd (20 * n + i), (fu, nk', lv, qa, qz, ec, pn, st', kb', ch', kw', K, lx, bo, lk, oc, eN, eV, U, F, Ww, Q, os, ps, pc, pw, rd, wr, S, pr, P, Z, gx, R, L, D, bh, O), zz_mk ⟨i1, ⟨HS', i2.2⟩, i3, i4, i5, i6⟩, fun post h => ?_, fun post h => ?_⟩
    · unfold wpX_word
      refine xr_isNode (fun _ => br_f (by decide) ⟨vp_in_nI hn (by decide), br_t ((zcl (by omega)).trans hK) (br_f (nI_pos (by omega)) ⟨vp_in_nI hn (by decide), ?_⟩)⟩) (fun y => absurd ⟨n, hn, rfl⟩ y)
      rw [zcl (f := lx) (by omega), el]
      rw [hwd i hi] at h
      exact br_t (nI_lt hi (by omega)) (hXw _ h)
    · unfold wpY_word
      refine yr_in0 (h := 9) (by decide) (fun _ => br_f (by decide) ⟨vp_in_nI hn (by decide), br_t ((zcl (by omega)).trans hK) (br_f (nI_pos (by omega)) ⟨vp_in_nI hn (by decide), ?_⟩)⟩) (fun y => absurd ⟨n, hn, rfl⟩ y)
      rw [zcl (f := ly) (by omega), ey, zi_m20, nI_add, zcl (f := wd) (by omega)]
      exact br_f (nI_ge hi (by omega)) ⟨vp_in_nI (by omega) (by decide), h⟩
  · refine ⟨0, (fu, nk, lv, qa, qz, ec, pn, st, kb, ch, kw, K, lx, bo, lk, oc, eN, eV, U, F, Ww, Q, os, ps, pc, pw, rd, wr, S, pr, P, Z, gx, R, L, D, bh, O), zz_mk I, fun post h => ?_, fun post h => ?_⟩
    · unfold wpX_word
      refine xr_isNode (fun ⟨n, hn, e⟩ => br_f (by decide) ?_) (fun _ => br_t rfl h)
      subst e
      rw [zcl (f := K) (by omega)]
      refine ⟨vp_in_nI hn (by decide), ?_⟩
      by_cases hK : K n = 1
      · obtain ⟨hl, el⟩ := i2.2.1.1 n hn hK
        refine br_t hK ?_
        by_cases c : y < 0
        · exact br_t c h
        · obtain ⟨j, hj, ej⟩ := nI_of c
          subst ej
          rw [zcl (f := lx) (by omega), el]
          refine br_f c ⟨vp_in_nI hn (by decide), br_f (fun q => ?_) h⟩
          rw [nI_ltI hj (by omega)] at q
          exact hok ⟨n, j, hn, rfl, hK, rfl, q⟩
      · exact br_f hK h
    · unfold wpY_word
      refine yr_in0 (h := 9) (by decide) (fun ⟨n, hn, e⟩ => br_f (by decide) ?_) (fun _ => br_t rfl h)
      subst e
      rw [zcl (f := K) (by omega)]
      refine ⟨vp_in_nI hn (by decide), ?_⟩
      by_cases hK : K n = 1
      · obtain ⟨hl, el⟩ := i2.2.1.1 n hn hK
        have ey := (i2.2.2 n hn hK).1
        refine br_t hK ?_
        by_cases c : y < 0
        · exact br_t c h
        · obtain ⟨j, hj, ej⟩ := nI_of c
          subst ej
          rw [zcl (f := ly) (by omega), ey]
          refine br_f c ⟨vp_in_nI hn (by decide), br_t ?_ h⟩
          rw [nI_leI (by omega) hj]
          rcases Nat.lt_or_ge j (ln n) with q | q
          · exact absurd ⟨n, j, hn, rfl, hK, rfl, q⟩ hok
          · exact q
      · exact br_f hK h
end
end
section
/-! level; the beginning -/
theorem zs_lv {fu : Int64} {nk lv lv' : Int32} {st kb ch kw C : Nat → Int32} (H : zr_SO fu nk lv st kb ch kw C) (h : lv' = 0 → ∀ s, s < 3 → kb s = -1) : zr_SO fu nk lv' st kb ch kw C := ⟨H.1, H.2.1, H.2.2.1, h, H.2.2.2.2⟩
theorem zo_level {B : Nat} {x : Int32} {C : Nat → Int32} {ln bl dc : Nat → Nat} {ql : List Nat} {fu : Int64} {nk lv qa qz : Int32} {ec : Int64} {pn : Int32} {st kb ch kw K lx bo lk oc eN eV U F Ww Q os ps pc pw rd wr S pr P Z gx R L D bh O : Nat → Int32} {qn go : Int32} {ly wd E py gy A fl pp qy : Nat → Int32} (I : zz_I B 5 C ln bl dc ql fu nk lv qa qz pn st kb ch kw K lx bo lk oc eN eV U F Q os ps pc pw rd wr S pr P Z gx L D bh qn ly wd E py gy A fl pp qy) : ∃ (r : Int32) (u' : SX), zz_R B 5 u' (qn, ec, pn, go, K, ly, wd, E, U, S, py, P, Z, gy, R, A, L, F, Ww, Q, fl, pp, qy, O) ∧ (∀ post : Int32 → SX → Prop, post r u' → wpX_level post (fu, nk, lv, qa, qz, ec, pn, st, kb, ch, kw, K, lx, bo, lk, oc, eN, eV, U, F, Ww, Q, os, ps, pc, pw, rd, wr, S, pr, P, Z, gx, R, L, D, bh, O) x) ∧ ∀ post : Int32 → Prop, post r → wpY_level post (qn, ec, pn, go, K, ly, wd, E, U, S, py, P, Z, gy, R, A, L, F, Ww, Q, fl, pp, qy, O) x := by
  obtain ⟨i1, i2, i3, i4, i5, i6⟩ := id I
  rcases pk_ix x (n := 2) (by decide) with c | c | ⟨j, hj, ej⟩
  · exact ⟨0, (fu, nk, lv, qa, qz, ec, pn, st, kb, ch, kw, K, lx, bo, lk, oc, eN, eV, U, F, Ww, Q, os, ps, pc, pw, rd, wr, S, pr, P, Z, gx, R, L, D, bh, O), zz_mk I, fun post h => br_t c h, fun post h => br_f (fun e => by rw [e] at c; exact absurd c (by decide)) (br_f (fun e => by rw [e] at c; exact absurd c (by decide)) h)⟩
  · exact ⟨0, (fu, nk, lv, qa, qz, ec, pn, st, kb, ch, kw, K, lx, bo, lk, oc, eN, eV, U, F, Ww, Q, os, ps, pc, pw, rd, wr, S, pr, P, Z, gx, R, L, D, bh, O), zz_mk I, fun post h => br_f (zlt_le c (by decide)) (br_f (fun y => absurd (Int32.le_trans c y) (by decide)) h), fun post h => br_f (fun e => by rw [e] at c; exact absurd c (by decide)) (br_f (fun e => by rw [e] at c; exact absurd c (by decide)) h)⟩
  · subst ej
    rcases (show j = 0 ∨ j = 1 by omega) with e | e
    · subst e
      obtain ⟨st1, HS1, hX1⟩ := xs_writeBack (fu := fu) (nk := nk) (lv := lv) (qa := qa) (qz := qz) (ec := ec) (pn := pn) (st := st) (kb := kb) (ch := ch) (kw := kw) (K := K) (lx := lx) (bo := bo) (lk := lk) (oc := oc) (eN := eN) (eV := eV) (U := U) (F := F) (Ww := Ww) (Q := Q) (os := os) (ps := ps) (pc := pc) (pw := pw) (rd := rd) (wr := wr) (S := S) (pr := pr) (P := P) (Z := Z) (gx := gx) (R := R) (L := L) (D := D) (bh := bh) (O := O) (s := 0) i2.1 (by decide)
      obtain ⟨st2, HS2, hX2⟩ := xs_writeBack (fu := fu) (nk := nk) (lv := lv) (qa := qa) (qz := qz) (ec := ec) (pn := pn) (st := st1) (kb := upd kb 0 (-1)) (ch := upd ch 0 0) (kw := kw) (K := K) (lx := lx) (bo := bo) (lk := lk) (oc := oc) (eN := eN) (eV := eV) (U := U) (F := F) (Ww := Ww) (Q := Q) (os := os) (ps := ps) (pc := pc) (pw := pw) (rd := rd) (wr := wr) (S := S) (pr := pr) (P := P) (Z := Z) (gx := gx) (R := R) (L := L) (D := D) (bh := bh) (O := O) (s := 1) HS1 (by decide)
      obtain ⟨st3, HS3, hX3⟩ := xs_writeBack (fu := fu) (nk := nk) (lv := lv) (qa := qa) (qz := qz) (ec := ec) (pn := pn) (st := st2) (kb := upd (upd kb 0 (-1)) 1 (-1)) (ch := upd (upd ch 0 0) 1 0) (kw := kw) (K := K) (lx := lx) (bo := bo) (lk := lk) (oc := oc) (eN := eN) (eV := eV) (U := U) (F := F) (Ww := Ww) (Q := Q) (os := os) (ps := ps) (pc := pc) (pw := pw) (rd := rd) (wr := wr) (S := S) (pr := pr) (P := P) (Z := Z) (gx := gx) (R := R) (L := L) (D := D) (bh := bh) (O := O) (s := 2) HS2 (by decide)
      refine ⟨1, (fu, nk, nI 0, qa, qz, ec, pn, st3, upd (upd (upd kb 0 (-1)) 1 (-1)) 2 (-1), upd (upd (upd ch 0 0) 1 0) 2 0, kw, K, lx, bo, lk, oc, eN, eV, U, F, Ww, Q, os, ps, pc, pw, rd, wr, S, pr, P, Z, gx, R, L, D, bh, O), zz_mk ⟨i1, ⟨zs_lv HS3 ?_, i2.2⟩, i3, i4, i5, i6⟩, fun post h => br_f (by decide) (br_t (by decide) (br_t rfl ⟨4, ?_⟩)), fun post h => br_t rfl h⟩
      · intro _ s hs
        rcases (show s = 0 ∨ s = 1 ∨ s = 2 by omega) with e | e | e <;> subst e
        · rw [pk_un (by decide), pk_un (by decide), pk_us]
        · rw [pk_un (by decide), pk_us]
        · rw [pk_us]
      · refine br_f (by decide) (hX1 _ (nm_r (e' := nI 1) rfl ?_))
        refine br_f (by decide) (hX2 _ (nm_r (e' := nI 2) rfl ?_))
        refine br_f (by decide) (hX3 _ (nm_r (e' := nI 3) rfl ?_))
        exact br_t (by decide) h
    · subst e
      exact ⟨1, (fu, nk, nI 1, qa, qz, ec, pn, st, kb, ch, kw, K, lx, bo, lk, oc, eN, eV, U, F, Ww, Q, os, ps, pc, pw, rd, wr, S, pr, P, Z, gx, R, L, D, bh, O), zz_mk ⟨i1, ⟨zs_lv i2.1 (fun y => absurd y (by decide)), i2.2⟩, i3, i4, i5, i6⟩, fun post h => br_f (by decide) (br_t (by decide) (br_f (by decide) h)), fun post h => br_f (by decide) (br_t rfl h)⟩
section
variable {fu : Int64} {nk lv qa qz : Int32} {ec : Int64} {pn : Int32} {st kb ch kw K lx bo lk oc eN eV U F Ww Q os ps pc pw rd wr S pr P Z gx R L D bh O : Nat → Int32}
theorem xi_265 {post : SX → Prop} {n i : Nat} (hi : i < 3) (h : wX_init_265 post fu nk lv qa qz ec pn n (nI (i + 1)) st (upd kb i (-1)) ch kw K lx bo lk oc eN eV U F Ww Q os ps pc pw rd wr S pr P Z gx R L D bh O) : wX_init_265 post fu nk lv qa qz ec pn (n + 1) (nI i) st kb ch kw K lx bo lk oc eN eV U F Ww Q os ps pc pw rd wr S pr P Z gx R L D bh O := by
  refine br_f (nI_ge (b := 3) hi (by decide)) ⟨vp_in_nI hi (by decide), ?_⟩
  rw [nI_clamp (by omega), zb_m1]
  exact nm_e (nm_r (nI_1 i) h)
theorem xi_285 {post : SX → Prop} {n i : Nat} (hi : i < 5) (h : wX_init_285 post fu nk lv qa qz ec pn n (nI (i + 1)) st kb ch kw K lx bo lk oc eN eV U F Ww Q os ps pc pw rd wr S (upd pr i (-1)) P Z gx R L D bh O) : wX_init_285 post fu nk lv qa qz ec pn (n + 1) (nI i) st kb ch kw K lx bo lk oc eN eV U F Ww Q os ps pc pw rd wr S pr P Z gx R L D bh O := by
  refine br_f (nI_ge (b := 5) hi (by decide)) ⟨vp_in_nI hi (by decide), ?_⟩
  rw [nI_clamp (by omega), zb_m1]
  exact nm_e (nm_r (nI_1 i) h)
end
section
variable {qn : Int32} {ec : Int64} {pn go : Int32} {K ly wd E U S py Py Z gy R A L F Ww Q fl pp qy O : Nat → Int32}
theorem yi_177 : ∀ (t i : Nat) (E : Nat → Int32), i + t = 150 → ∃ E' : Nat → Int32, (∀ k, i ≤ k → k < 150 → E' k = -1) ∧ (∀ k, k < i → E' k = E k) ∧ ∀ post : SY → Prop, post (qn, ec, pn, go, upd K 0 2, ly, wd, E', U, S, py, Py, Z, gy, R, A, L, F, Ww, Q, fl, pp, qy, O) → wY_init_177 post qn ec pn go (t + 1) (nI i) K ly wd E U S py Py Z gy R A L F Ww Q fl pp qy O := by
  intro t
  induction t with
  | zero =>
    intro i E hi
    have e : i = 150 := by omega
    subst e
    exact ⟨E, fun k a b => by omega, fun _ _ => rfl, fun post h => br_t (nI_le (a := 150) (b := 150) (by decide) (by decide)) (nm_e h)⟩
  | succ t ih =>
    intro i E hi
    obtain ⟨E', g1, g2, gX⟩ := ih (i + 1) (upd E i (-1)) (by omega)
    refine ⟨E', fun k a b => ?_, fun k hk => ?_, fun post h => ?_⟩
    · by_cases c : k = i
      · subst c; rw [g2 k (by omega), pk_us]
      · exact g1 k (by omega) b
    · rw [g2 k (by omega), pk_un (by omega)]
    · refine br_f (nI_ge (b := 150) (by omega) (by decide)) ⟨vp_in_nI (by omega) (by decide), ?_⟩
      rw [nI_clamp (by omega)]
      exact nm_e (nm_r (nI_1 i) (gX post h))
end
theorem zi_00 {E kb pr : Nat → Int32} (hE : ∀ k, k < 150 → E k = -1) (hkb : ∀ s, s < 3 → kb s = -1) :
    zz_I 0 5 (fun _ => 0) (fun _ => 0) (fun _ => 0) (fun _ => 0) ([]) 0 0 1 (-1) (-1) 0 (fun _ => 0) kb (fun _ => 0) (fun _ => 0) (upd (fun _ => 0) 0 2) (fun _ => 0) (fun _ => 0) (fun _ => 0) (fun _ => 0) (fun _ => 0) (fun _ => 0) (fun _ => 0) (fun _ => 0) (fun _ => 0) (fun _ => 0) (fun _ => 0) (fun _ => 0) (fun _ => 0) (fun _ => 0) (fun _ => 0) (fun _ => 0) pr (fun _ => 0) (fun _ => 0) (fun _ => 0) (fun _ => 0) (fun _ => 0) (fun _ => 0) 0 (fun _ => 0) (fun _ => 0) E (fun _ => 0) (fun _ => 0) (fun _ => 0) (fun _ => 0) (fun _ => 0) (fun _ => 0) := by
  have hKn : ∀ n, n ≠ 0 → upd (fun _ => (0 : Int32)) 0 2 n = 0 := fun n h => pk_un h
  have hK0 : upd (fun _ => (0 : Int32)) 0 2 0 = 2 := pk_us
  have h2 : ∀ n, upd (fun _ => (0 : Int32)) 0 2 n = 2 → n = 0 := fun n h => Classical.byContradiction fun y => by rw [hKn n y] at h; exact absurd h (by decide)
  have h1 : ∀ n, ¬ upd (fun _ => (0 : Int32)) 0 2 n = 1 := by
    intro n h
    by_cases c : n = 0
    · subst c; rw [hK0] at h; exact absurd h (by decide)
    · rw [hKn n c] at h; exact absurd h (by decide)
  have hV : ∀ q, ¬ zr_V (upd (fun _ => (0 : Int32)) 0 2) (fun _ => 0) q := fun q h => h1 _ h.1
  have hno : ∀ c, c ≠ 0 → ¬ zh_o (fun _ => 0) c := fun c hc ⟨_, _, e⟩ => hc e.symm
  have n01 : ¬ (0 : Int32) = 1 := by decide
  have n02 : ¬ (0 : Int32) = 2 := by decide
  refine ⟨⟨⟨fun n hn => ?_, hK0⟩, ⟨rfl, fun n hn h => ⟨0, by decide, rfl, hK0⟩⟩, fun k hk => Or.inl (hE k hk), fun n n1 hn h => ?_, fun p hp h => ?_, fun d hd h => ?_, fun n hn h => ?_⟩, ⟨⟨⟨0, by decide, rfl⟩, fun s hs => Or.inl (hkb s hs), fun s s' hs hs' e ne => absurd (hkb s hs) ne, fun y => absurd y (by decide), fun s b hs hb e => absurd (e.symm.trans (hkb s hs)) (zi_m1ne (by omega)), fun b hb _ k hk => rfl, fun s b hs hb e => absurd (e.symm.trans (hkb s hs)) (zi_m1ne (by omega))⟩, ⟨fun n hn h => absurd h (h1 n), fun q hq h => absurd h (hV q), fun q q' _ _ h => absurd h (hV q), fun b hb h => ?_⟩, fun n hn h => absurd h (h1 n)⟩,
    ⟨fun k hk => ⟨by show 0 ≤ 12; decide, rfl, rfl⟩, ⟨fun o ho => ?_, fun j hj => ⟨?_, ?_⟩⟩, fun o ho h => absurd h (hno _ (by omega)), fun n hn h => ?_, fun n hn h => absurd h (h1 n), fun p hp _ _ i hi => rfl⟩, fun j hj h => absurd h (fun y => y.elim (hno _ (by omega)) (hno _ (by omega))),
    ⟨⟨fun p hp => absurd hp (by simp), List.nodup_nil, rfl, rfl, trivial, rfl, trivial⟩, fun q hq => ⟨fun y => absurd y (by simp), fun y => absurd y.1 n01⟩⟩, fun p hp => Or.inl rfl, fun p hp h => absurd rfl h, fun p hp h => absurd h (fun y => y.elim n01 n02), fun p hp h => absurd h n02, by decide, 0, by decide, rfl⟩
  · by_cases c : n = 0
    · subst c; exact Or.inr (Or.inr hK0)
    · exact Or.inl (hKn n c)
  · have := h2 n h; omega
  · exact absurd h (fun y => y.elim n01 n02)
  · have := h2 d h
    subst this
    refine ⟨0, by decide, rfl, fun e he => absurd he (by omega), fun e e' he => absurd he (by omega), fun m hm y => absurd (hE _ (by omega)) y, zc_none fun m hm y => y (hE _ (by omega))⟩
  · rw [zc_none (fun k hk y => zi_m1ne (n := n) (by omega) (y.symm.trans (hE k hk)))]; rfl
  · rw [zub_0] at h; exact absurd h (by decide)
  · rw [zc_none (fun k hk (y : 0 = 1 + o) => by omega)]; rfl
  · rw [zc_none (fun k hk (y : 0 = 9 + j) => by omega)]; rfl
  · rw [zc_none (fun k hk (y : 0 = 11 + j) => by omega)]; rfl
  · rw [zc_none (fun o ho y => hno _ (by omega) y.2)]; rfl
end
section
/-! what is owed -/
def i_Rel (k : Nat) (u : SX) (v : SY) : Prop := zz_R (min (60 * k) 122880) 5 u v
theorem i_up {k : Nat} {u : SX} {v : SY} (h : i_Rel k u v) : i_Rel (k + 4) u v := zz_Rm (by omega) (by omega) h
theorem i_vc0 : wpX_init (fun u => wpY_init (fun v => i_Rel 0 u v)) := by
  refine nm_r (e' := upd (fun _ => 0) 0 2) (by rw [zb_2]) ⟨4, ?_⟩
  refine xi_265 (i := 0) (by decide) (xi_265 (i := 1) (by decide) (xi_265 (i := 2) (by decide) ?_))
  refine br_t (by decide) ⟨6, ?_⟩
  refine xi_285 (i := 0) (by decide) (xi_285 (i := 1) (by decide) (xi_285 (i := 2) (by decide) (xi_285 (i := 3) (by decide) (xi_285 (i := 4) (by decide) ?_))))
  refine br_t (by decide) ?_
  obtain ⟨E', g1, _, gX⟩ := yi_177 (qn := 0) (ec := 0) (pn := 0) (go := 0) (K := fun _ => 0) (ly := fun _ => 0) (wd := fun _ => 0) (U := fun _ => 0) (S := fun _ => 0) (py := fun _ => 0) (Py := fun _ => 0) (Z := fun _ => 0) (gy := fun _ => 0) (R := fun _ => 0) (A := fun _ => 0) (L := fun _ => 0) (F := fun _ => 0) (Ww := fun _ => 0) (Q := fun _ => 0) (fl := fun _ => 0) (pp := fun _ => 0) (qy := fun _ => 0) (O := fun _ => 0) 150 0 (fun _ => 0) (by decide)
  refine ⟨151, gX _ ?_⟩
  refine zz_mk (zi_00 (fun k hk => g1 k (by omega) hk) (fun s hs => ?_))
  rcases (show s = 0 ∨ s = 1 ∨ s = 2 by omega) with e | e | e <;> subst e
  · rw [pk_un (by decide), pk_un (by decide), pk_us]
  · rw [pk_un (by decide), pk_us]
  · rw [pk_us]
theorem i_vc_file {k : Nat} {u : SX} {v : SY} (I : i_Rel k u v) (hk : k + 4 ≤ 2048) (v1 : Int32) (v2 : Int32) (v3 : Int32) : wpX_file (fun r u' => wpY_file (fun r' v' => r' = r ∧ i_Rel (k + 4) u' v') v v1 v2 v3) u v1 v2 v3 := by
  refine zz_el (Φ := fun u v => wpX_file (fun r u' => wpY_file (fun r' v' => r' = r ∧ i_Rel (k + 4) u' v') v v1 v2 v3) u v1 v2 v3) ?_ I
  intro C ln bl dc ql fu nk lv qa qz ec pn st kb ch kw K lx bo lk oc eN eV U F Ww Q os ps pc pw rd wr S pr P Z gx R L D bh O qn go ly wd E py gy A fl pp qy I
  obtain ⟨r, u', v', H, hX, hY⟩ := zj_file (x1 := v1) (x2 := v2) (x3 := v3) (ec := ec) (R := R) (O := O) (Ww := Ww) (go := go) I
  exact hX _ (hY _ ⟨rfl, i_up H⟩)
theorem i_vc_spawn {k : Nat} {u : SX} {v : SY} (I : i_Rel k u v) (hk : k + 4 ≤ 2048) (v1 : Int32) (v2 : Int32) : wpX_spawn (fun r u' => wpY_spawn (fun r' v' => r' = r ∧ i_Rel (k + 4) u' v') v v1 v2) u v1 v2 := by
  refine zz_el (Φ := fun u v => wpX_spawn (fun r u' => wpY_spawn (fun r' v' => r' = r ∧ i_Rel (k + 4) u' v') v v1 v2) u v1 v2) ?_ I
  intro C ln bl dc ql fu nk lv qa qz ec pn st kb ch kw K lx bo lk oc eN eV U F Ww Q os ps pc pw rd wr S pr P Z gx R L D bh O qn go ly wd E py gy A fl pp qy I
  obtain ⟨r, u', v', H, hX, hY⟩ := zj_spawn (x1 := v1) (x2 := v2) (ec := ec) (R := R) (O := O) (Ww := Ww) (go := go) I
  exact hX _ (hY _ ⟨rfl, i_up H⟩)
theorem zv_run {k Lm : Nat} {u : SX} {v : SY} (I : i_Rel k u v) (hk : k + 4 ≤ 2048) (hL : Lm ≤ 80) : ∃ (r : Int32) (u' : SX) (v' : SY), i_Rel (k + 4) u' v' ∧ (∀ post : Int32 → SX → Prop, post r u' → ∃ n, zX_run post (nI Lm) n 0 1 u) ∧ ∀ post : Int32 → SY → Prop, post r v' → ∃ n, zY_run post (nI Lm) n 0 v := by
  obtain ⟨r, u', v', H, hX, hY⟩ := zj_run hL Lm 0 (min (60 * k) 122880) u v (by omega) (by omega) I
  exact ⟨r, u', v', zz_Rm (by omega) (by omega) H, fun post h => ⟨_, hX post h⟩, fun post h => ⟨_, hY post h⟩⟩
theorem i_vc_run {k : Nat} {u : SX} {v : SY} (I : i_Rel k u v) (hk : k + 4 ≤ 2048) (v1 : Int32) : wpX_run (fun r u' => wpY_run (fun r' v' => r' = r ∧ i_Rel (k + 4) u' v') v v1) u v1 := by
  by_cases c0 : 0 ≤ v1
  · by_cases c80 : v1 ≤ 80
    · obtain ⟨j, hj, ej⟩ := nI_of (x := v1) (Int32.not_lt.mpr c0)
      subst ej
      have hj80 : j ≤ 80 := (nI_leI (b := 80) hj (by decide)).mp c80
      obtain ⟨r, u', v', H, hX, hY⟩ := zv_run I hk hj80
      exact br_t c0 (br_t c80 (hX _ (br_t c0 (br_t c80 (hY _ ⟨rfl, H⟩)))))
    · obtain ⟨r, u', v', H, hX, hY⟩ := zv_run (Lm := 80) I hk (by decide)
      exact br_t c0 (br_f c80 (hX _ (br_t c0 (br_f c80 (hY _ ⟨rfl, H⟩)))))
  · obtain ⟨r, u', v', H, hX, hY⟩ := zv_run (Lm := 0) I hk (by decide)
    exact br_f c0 (hX _ (br_f c0 (hY _ ⟨rfl, H⟩)))
theorem i_vc_state {k : Nat} {u : SX} {v : SY} (I : i_Rel k u v) (hk : k + 4 ≤ 2048) (v1 : Int32) : wpX_state (fun r => wpY_state (fun r' => r' = r ∧ i_Rel (k + 4) u v) v v1) u v1 := by
  refine zz_el (Φ := fun u v => i_Rel (k + 4) u v → wpX_state (fun r => wpY_state (fun r' => r' = r ∧ i_Rel (k + 4) u v) v v1) u v1) ?_ I (i_up I)
  intro C ln bl dc ql fu nk lv qa qz ec pn st kb ch kw K lx bo lk oc eN eV U F Ww Q os ps pc pw rd wr S pr P Z gx R L D bh O qn go ly wd E py gy A fl pp qy I H
  obtain ⟨r, hX, hY⟩ := zo_state (fu := fu) (nk := nk) (lv := lv) (qa := qa) (qz := qz) (ec := ec) (pn := pn) (st := st) (kb := kb) (ch := ch) (kw := kw) (K := K) (lx := lx) (bo := bo) (lk := lk) (oc := oc) (eN := eN) (eV := eV) (U := U) (F := F) (Ww := Ww) (Q := Q) (os := os) (ps := ps) (pc := pc) (pw := pw) (rd := rd) (wr := wr) (S := S) (pr := pr) (P := P) (Z := Z) (gx := gx) (R := R) (L := L) (D := D) (bh := bh) (O := O) (qn := qn) (go := go) (ly := ly) (wd := wd) (E := E) (py := py) (gy := gy) (A := A) (fl := fl) (pp := pp) (qy := qy) (x := v1)
  exact hX _ (hY _ ⟨rfl, H⟩)
theorem i_vc_spot {k : Nat} {u : SX} {v : SY} (I : i_Rel k u v) (hk : k + 4 ≤ 2048) (v1 : Int32) : wpX_spot (fun r => wpY_spot (fun r' => r' = r ∧ i_Rel (k + 4) u v) v v1) u v1 := by
  refine zz_el (Φ := fun u v => i_Rel (k + 4) u v → wpX_spot (fun r => wpY_spot (fun r' => r' = r ∧ i_Rel (k + 4) u v) v v1) u v1) ?_ I (i_up I)
  intro C ln bl dc ql fu nk lv qa qz ec pn st kb ch kw K lx bo lk oc eN eV U F Ww Q os ps pc pw rd wr S pr P Z gx R L D bh O qn go ly wd E py gy A fl pp qy I H
  obtain ⟨r, hX, hY⟩ := zo_spot (fu := fu) (nk := nk) (lv := lv) (qa := qa) (qz := qz) (ec := ec) (pn := pn) (st := st) (kb := kb) (ch := ch) (kw := kw) (K := K) (lx := lx) (bo := bo) (lk := lk) (oc := oc) (eN := eN) (eV := eV) (U := U) (F := F) (Ww := Ww) (Q := Q) (os := os) (ps := ps) (pc := pc) (pw := pw) (rd := rd) (wr := wr) (S := S) (pr := pr) (P := P) (Z := Z) (gx := gx) (R := R) (L := L) (D := D) (bh := bh) (O := O) (qn := qn) (go := go) (ly := ly) (wd := wd) (E := E) (py := py) (gy := gy) (A := A) (fl := fl) (pp := pp) (qy := qy) (x := v1)
  exact hX _ (hY _ ⟨rfl, H⟩)
theorem i_vc_register {k : Nat} {u : SX} {v : SY} (I : i_Rel k u v) (hk : k + 4 ≤ 2048) (v1 : Int32) (v2 : Int32) : wpX_register (fun r => wpY_register (fun r' => r' = r ∧ i_Rel (k + 4) u v) v v1 v2) u v1 v2 := by
  refine zz_el (Φ := fun u v => i_Rel (k + 4) u v → wpX_register (fun r => wpY_register (fun r' => r' = r ∧ i_Rel (k + 4) u v) v v1 v2) u v1 v2) ?_ I (i_up I)
  intro C ln bl dc ql fu nk lv qa qz ec pn st kb ch kw K lx bo lk oc eN eV U F Ww Q os ps pc pw rd wr S pr P Z gx R L D bh O qn go ly wd E py gy A fl pp qy I H
  obtain ⟨r, hX, hY⟩ := zo_register (fu := fu) (nk := nk) (lv := lv) (qa := qa) (qz := qz) (ec := ec) (pn := pn) (st := st) (kb := kb) (ch := ch) (kw := kw) (K := K) (lx := lx) (bo := bo) (lk := lk) (oc := oc) (eN := eN) (eV := eV) (U := U) (F := F) (Ww := Ww) (Q := Q) (os := os) (ps := ps) (pc := pc) (pw := pw) (rd := rd) (wr := wr) (S := S) (pr := pr) (P := P) (Z := Z) (gx := gx) (R := R) (L := L) (D := D) (bh := bh) (O := O) (qn := qn) (go := go) (ly := ly) (wd := wd) (E := E) (py := py) (gy := gy) (A := A) (fl := fl) (pp := pp) (qy := qy) (x := v1) (y := v2)
  exact hX _ (hY _ ⟨rfl, H⟩)
theorem i_vc_descriptor {k : Nat} {u : SX} {v : SY} (I : i_Rel k u v) (hk : k + 4 ≤ 2048) (v1 : Int32) (v2 : Int32) : wpX_descriptor (fun r => wpY_descriptor (fun r' => r' = r ∧ i_Rel (k + 4) u v) v v1 v2) u v1 v2 := by
  refine zz_el (Φ := fun u v => i_Rel (k + 4) u v → wpX_descriptor (fun r => wpY_descriptor (fun r' => r' = r ∧ i_Rel (k + 4) u v) v v1 v2) u v1 v2) ?_ I (i_up I)
  intro C ln bl dc ql fu nk lv qa qz ec pn st kb ch kw K lx bo lk oc eN eV U F Ww Q os ps pc pw rd wr S pr P Z gx R L D bh O qn go ly wd E py gy A fl pp qy I H
  obtain ⟨r, hX, hY⟩ := zo_descriptor (fu := fu) (nk := nk) (lv := lv) (qa := qa) (qz := qz) (ec := ec) (pn := pn) (st := st) (kb := kb) (ch := ch) (kw := kw) (K := K) (lx := lx) (bo := bo) (lk := lk) (oc := oc) (eN := eN) (eV := eV) (U := U) (F := F) (Ww := Ww) (Q := Q) (os := os) (ps := ps) (pc := pc) (pw := pw) (rd := rd) (wr := wr) (S := S) (pr := pr) (P := P) (Z := Z) (gx := gx) (R := R) (L := L) (D := D) (bh := bh) (O := O) (qn := qn) (go := go) (ly := ly) (wd := wd) (E := E) (py := py) (gy := gy) (A := A) (fl := fl) (pp := pp) (qy := qy) I (x := v1) (y := v2)
  exact hX _ (hY _ ⟨rfl, H⟩)
theorem i_vc_entry {k : Nat} {u : SX} {v : SY} (I : i_Rel k u v) (hk : k + 4 ≤ 2048) (v1 : Int32) (v2 : Int32) : wpX_entry (fun r => wpY_entry (fun r' => r' = r ∧ i_Rel (k + 4) u v) v v1 v2) u v1 v2 := by
  refine zz_el (Φ := fun u v => i_Rel (k + 4) u v → wpX_entry (fun r => wpY_entry (fun r' => r' = r ∧ i_Rel (k + 4) u v) v v1 v2) u v1 v2) ?_ I (i_up I)
  intro C ln bl dc ql fu nk lv qa qz ec pn st kb ch kw K lx bo lk oc eN eV U F Ww Q os ps pc pw rd wr S pr P Z gx R L D bh O qn go ly wd E py gy A fl pp qy I H
  obtain ⟨r, hX, hY⟩ := zo_entry (fu := fu) (nk := nk) (lv := lv) (qa := qa) (qz := qz) (ec := ec) (pn := pn) (st := st) (kb := kb) (ch := ch) (kw := kw) (K := K) (lx := lx) (bo := bo) (lk := lk) (oc := oc) (eN := eN) (eV := eV) (U := U) (F := F) (Ww := Ww) (Q := Q) (os := os) (ps := ps) (pc := pc) (pw := pw) (rd := rd) (wr := wr) (S := S) (pr := pr) (P := P) (Z := Z) (gx := gx) (R := R) (L := L) (D := D) (bh := bh) (O := O) (qn := qn) (go := go) (ly := ly) (wd := wd) (E := E) (py := py) (gy := gy) (A := A) (fl := fl) (pp := pp) (qy := qy) I (x := v1) (y := v2)
  exact hX _ (hY _ ⟨rfl, H⟩)
theorem i_vc_kind {k : Nat} {u : SX} {v : SY} (I : i_Rel k u v) (hk : k + 4 ≤ 2048) (v1 : Int32) : wpX_kind (fun r => wpY_kind (fun r' => r' = r ∧ i_Rel (k + 4) u v) v v1) u v1 := by
  refine zz_el (Φ := fun u v => i_Rel (k + 4) u v → wpX_kind (fun r => wpY_kind (fun r' => r' = r ∧ i_Rel (k + 4) u v) v v1) u v1) ?_ I (i_up I)
  intro C ln bl dc ql fu nk lv qa qz ec pn st kb ch kw K lx bo lk oc eN eV U F Ww Q os ps pc pw rd wr S pr P Z gx R L D bh O qn go ly wd E py gy A fl pp qy I H
  obtain ⟨r, hX, hY⟩ := zo_kind (fu := fu) (nk := nk) (lv := lv) (qa := qa) (qz := qz) (ec := ec) (pn := pn) (st := st) (kb := kb) (ch := ch) (kw := kw) (K := K) (lx := lx) (bo := bo) (lk := lk) (oc := oc) (eN := eN) (eV := eV) (U := U) (F := F) (Ww := Ww) (Q := Q) (os := os) (ps := ps) (pc := pc) (pw := pw) (rd := rd) (wr := wr) (S := S) (pr := pr) (P := P) (Z := Z) (gx := gx) (R := R) (L := L) (D := D) (bh := bh) (O := O) (qn := qn) (go := go) (ly := ly) (wd := wd) (E := E) (py := py) (gy := gy) (A := A) (fl := fl) (pp := pp) (qy := qy) (x := v1)
  exact hX _ (hY _ ⟨rfl, H⟩)
theorem i_vc_size {k : Nat} {u : SX} {v : SY} (I : i_Rel k u v) (hk : k + 4 ≤ 2048) (v1 : Int32) : wpX_size (fun r => wpY_size (fun r' => r' = r ∧ i_Rel (k + 4) u v) v v1) u v1 := by
  refine zz_el (Φ := fun u v => i_Rel (k + 4) u v → wpX_size (fun r => wpY_size (fun r' => r' = r ∧ i_Rel (k + 4) u v) v v1) u v1) ?_ I (i_up I)
  intro C ln bl dc ql fu nk lv qa qz ec pn st kb ch kw K lx bo lk oc eN eV U F Ww Q os ps pc pw rd wr S pr P Z gx R L D bh O qn go ly wd E py gy A fl pp qy I H
  obtain ⟨r, hX, hY⟩ := zo_size (fu := fu) (nk := nk) (lv := lv) (qa := qa) (qz := qz) (ec := ec) (pn := pn) (st := st) (kb := kb) (ch := ch) (kw := kw) (K := K) (lx := lx) (bo := bo) (lk := lk) (oc := oc) (eN := eN) (eV := eV) (U := U) (F := F) (Ww := Ww) (Q := Q) (os := os) (ps := ps) (pc := pc) (pw := pw) (rd := rd) (wr := wr) (S := S) (pr := pr) (P := P) (Z := Z) (gx := gx) (R := R) (L := L) (D := D) (bh := bh) (O := O) (qn := qn) (go := go) (ly := ly) (wd := wd) (E := E) (py := py) (gy := gy) (A := A) (fl := fl) (pp := pp) (qy := qy) I (x := v1)
  exact hX _ (hY _ ⟨rfl, H⟩)
theorem i_vc_word {k : Nat} {u : SX} {v : SY} (I : i_Rel k u v) (hk : k + 4 ≤ 2048) (v1 : Int32) (v2 : Int32) : wpX_word (fun r u' => wpY_word (fun r' => r' = r ∧ i_Rel (k + 4) u' v) v v1 v2) u v1 v2 := by
  refine zz_el (Φ := fun u v => wpX_word (fun r u' => wpY_word (fun r' => r' = r ∧ i_Rel (k + 4) u' v) v v1 v2) u v1 v2) ?_ I
  intro C ln bl dc ql fu nk lv qa qz ec pn st kb ch kw K lx bo lk oc eN eV U F Ww Q os ps pc pw rd wr S pr P Z gx R L D bh O qn go ly wd E py gy A fl pp qy I
  obtain ⟨r, u', H, hX, hY⟩ := zo_word (fu := fu) (nk := nk) (lv := lv) (qa := qa) (qz := qz) (ec := ec) (pn := pn) (st := st) (kb := kb) (ch := ch) (kw := kw) (K := K) (lx := lx) (bo := bo) (lk := lk) (oc := oc) (eN := eN) (eV := eV) (U := U) (F := F) (Ww := Ww) (Q := Q) (os := os) (ps := ps) (pc := pc) (pw := pw) (rd := rd) (wr := wr) (S := S) (pr := pr) (P := P) (Z := Z) (gx := gx) (R := R) (L := L) (D := D) (bh := bh) (O := O) (qn := qn) (go := go) (ly := ly) (wd := wd) (E := E) (py := py) (gy := gy) (A := A) (fl := fl) (pp := pp) (qy := qy) I (x := v1) (y := v2)
  exact hX _ (hY _ ⟨rfl, i_up H⟩)
theorem i_vc_pipe {k : Nat} {u : SX} {v : SY} (I : i_Rel k u v) (hk : k + 4 ≤ 2048) (v1 : Int32) : wpX_pipe (fun r => wpY_pipe (fun r' => r' = r ∧ i_Rel (k + 4) u v) v v1) u v1 := by
  refine zz_el (Φ := fun u v => i_Rel (k + 4) u v → wpX_pipe (fun r => wpY_pipe (fun r' => r' = r ∧ i_Rel (k + 4) u v) v v1) u v1) ?_ I (i_up I)
  intro C ln bl dc ql fu nk lv qa qz ec pn st kb ch kw K lx bo lk oc eN eV U F Ww Q os ps pc pw rd wr S pr P Z gx R L D bh O qn go ly wd E py gy A fl pp qy I H
  obtain ⟨r, hX, hY⟩ := zo_pipe (fu := fu) (nk := nk) (lv := lv) (qa := qa) (qz := qz) (ec := ec) (pn := pn) (st := st) (kb := kb) (ch := ch) (kw := kw) (K := K) (lx := lx) (bo := bo) (lk := lk) (oc := oc) (eN := eN) (eV := eV) (U := U) (F := F) (Ww := Ww) (Q := Q) (os := os) (ps := ps) (pc := pc) (pw := pw) (rd := rd) (wr := wr) (S := S) (pr := pr) (P := P) (Z := Z) (gx := gx) (R := R) (L := L) (D := D) (bh := bh) (O := O) (qn := qn) (go := go) (ly := ly) (wd := wd) (E := E) (py := py) (gy := gy) (A := A) (fl := fl) (pp := pp) (qy := qy) I (x := v1)
  exact hX _ (hY _ ⟨rfl, H⟩)
theorem i_vc_executed {k : Nat} {u : SX} {v : SY} (I : i_Rel k u v) (hk : k + 4 ≤ 2048) : wpX_executed (fun r => wpY_executed (fun r' => r' = r ∧ i_Rel (k + 4) u v) v) u := by
  refine zz_el (Φ := fun u v => i_Rel (k + 4) u v → wpX_executed (fun r => wpY_executed (fun r' => r' = r ∧ i_Rel (k + 4) u v) v) u) ?_ I (i_up I)
  intro C ln bl dc ql fu nk lv qa qz ec pn st kb ch kw K lx bo lk oc eN eV U F Ww Q os ps pc pw rd wr S pr P Z gx R L D bh O qn go ly wd E py gy A fl pp qy I H
  exact ⟨rfl, H⟩
theorem i_vc_printed {k : Nat} {u : SX} {v : SY} (I : i_Rel k u v) (hk : k + 4 ≤ 2048) : wpX_printed (fun r => wpY_printed (fun r' => r' = r ∧ i_Rel (k + 4) u v) v) u := by
  refine zz_el (Φ := fun u v => i_Rel (k + 4) u v → wpX_printed (fun r => wpY_printed (fun r' => r' = r ∧ i_Rel (k + 4) u v) v) u) ?_ I (i_up I)
  intro C ln bl dc ql fu nk lv qa qz ec pn st kb ch kw K lx bo lk oc eN eV U F Ww Q os ps pc pw rd wr S pr P Z gx R L D bh O qn go ly wd E py gy A fl pp qy I H
  exact ⟨rfl, H⟩
theorem i_vc_output {k : Nat} {u : SX} {v : SY} (I : i_Rel k u v) (hk : k + 4 ≤ 2048) (v1 : Int32) : wpX_output (fun r => wpY_output (fun r' => r' = r ∧ i_Rel (k + 4) u v) v v1) u v1 := by
  refine zz_el (Φ := fun u v => i_Rel (k + 4) u v → wpX_output (fun r => wpY_output (fun r' => r' = r ∧ i_Rel (k + 4) u v) v v1) u v1) ?_ I (i_up I)
  intro C ln bl dc ql fu nk lv qa qz ec pn st kb ch kw K lx bo lk oc eN eV U F Ww Q os ps pc pw rd wr S pr P Z gx R L D bh O qn go ly wd E py gy A fl pp qy I H
  obtain ⟨r, hX, hY⟩ := zo_output (fu := fu) (nk := nk) (lv := lv) (qa := qa) (qz := qz) (ec := ec) (pn := pn) (st := st) (kb := kb) (ch := ch) (kw := kw) (K := K) (lx := lx) (bo := bo) (lk := lk) (oc := oc) (eN := eN) (eV := eV) (U := U) (F := F) (Ww := Ww) (Q := Q) (os := os) (ps := ps) (pc := pc) (pw := pw) (rd := rd) (wr := wr) (S := S) (pr := pr) (P := P) (Z := Z) (gx := gx) (R := R) (L := L) (D := D) (bh := bh) (O := O) (qn := qn) (go := go) (ly := ly) (wd := wd) (E := E) (py := py) (gy := gy) (A := A) (fl := fl) (pp := pp) (qy := qy) (x := v1)
  exact hX _ (hY _ ⟨rfl, H⟩)
theorem i_vc_level {k : Nat} {u : SX} {v : SY} (I : i_Rel k u v) (hk : k + 4 ≤ 2048) (v1 : Int32) : wpX_level (fun r u' => wpY_level (fun r' => r' = r ∧ i_Rel (k + 4) u' v) v v1) u v1 := by
  refine zz_el (Φ := fun u v => wpX_level (fun r u' => wpY_level (fun r' => r' = r ∧ i_Rel (k + 4) u' v) v v1) u v1) ?_ I
  intro C ln bl dc ql fu nk lv qa qz ec pn st kb ch kw K lx bo lk oc eN eV U F Ww Q os ps pc pw rd wr S pr P Z gx R L D bh O qn go ly wd E py gy A fl pp qy I
  obtain ⟨r, u', H, hX, hY⟩ := zo_level (x := v1) (ec := ec) (R := R) (O := O) (Ww := Ww) (go := go) I
  exact hX _ (hY _ ⟨rfl, i_up H⟩)
end
