section
/-! rows pasted from kit/rows (starting text): numbers, bits -/
theorem pk_us {f : Nat → Int32} {k : Nat} {x : Int32} : upd f k x k = x := if_pos rfl
theorem pk_un {f : Nat → Int32} {k j : Nat} {x : Int32} (h : j ≠ k) : upd f k x j = f j := if_neg h
theorem pk_sub {a b : Nat} (h : b ≤ a) : nI a - nI b = nI (a - b) := by
  obtain ⟨c, rfl⟩ : ∃ c, a = c + b := ⟨a - b, by omega⟩
  rw [← nI_add, Int32.add_sub_cancel, Nat.add_sub_cancel]
theorem pk_m1 (n : Nat) : nI (n + 1) + (-1) = nI n := by
  rw [← nI_1, Int32.add_assoc, show (1 : Int32) + (-1) = 0 from rfl, Int32.add_zero]
theorem pk_mul (a b : Nat) : nI a * nI b = nI (a * b) := (Int32.ofNat_mul a b).symm
theorem pk_div {a d : Nat} (ha : a < 2 ^ 31) (h0 : 0 < d) (hd : d < 2 ^ 31) : nI a / nI d = nI (a / d) := by
  apply Int32.toInt_inj.mp
  rw [lg_idiv_nonneg (by rw [nI_toInt ha]; omega) (by rw [nI_toInt hd]; omega), nI_toInt ha, nI_toInt hd, nI_toInt (Nat.lt_of_le_of_lt (Nat.div_le_self a d) ha)]
  first | rfl | exact (Int.natCast_ediv _ _).symm
theorem pk_rem {a d : Nat} (ha : a < 2 ^ 31) (h0 : 0 < d) (hd : d < 2 ^ 31) : nI a - nI a / nI d * nI d = nI (a % d) := by
  rw [pk_div ha h0 hd, pk_mul, pk_sub (Nat.div_mul_le_self a d)]
  exact congrArg nI (by have := Nat.div_add_mod' a d; omega)
theorem pk_sub_toInt {a b : Nat} (ha : a < 2 ^ 30) (hb : b < 2 ^ 30) : (nI a - nI b).toInt = (a : Int) - b := by
  rw [Int32.toInt_sub, nI_toInt (by omega), nI_toInt (by omega)]
  exact Int.bmod_eq_of_le (by omega) (by omega)
theorem pk_sneg {a b : Nat} (hb : b < 2 ^ 30) (h : a < b) : nI a - nI b < 0 := by
  rw [Int32.lt_iff_toInt_lt, pk_sub_toInt (by omega) hb, show (0 : Int32).toInt = 0 from by decide]
  omega
theorem pk_ix (x : Int32) {n : Nat} (hn : n < 2 ^ 31) : x < 0 ∨ nI n ≤ x ∨ ∃ j : Nat, j < n ∧ x = nI j := by
  by_cases h : x < 0
  · exact Or.inl h
  · obtain ⟨j, hj, rfl⟩ := nI_of h
    by_cases h2 : j < n
    · exact Or.inr (Or.inr ⟨j, h2, rfl⟩)
    · exact Or.inr (Or.inl (nI_le (by omega) hj))
theorem pk_le {x y : Int32} {A B : Prop} (a b : Nat) (f : a ≤ b → A) (g : b < a → B) (hx : x = nI a := by rfl) (hy : y = nI b := by rfl) (ha : a < 2 ^ 31 := by omega) (hb : b < 2 ^ 31 := by omega) : (x ≤ y → A) ∧ (¬ x ≤ y → B) := by
  subst hx hy
  rw [nI_leI ha hb]
  exact ⟨f, fun z => g (by omega)⟩
theorem pk_lt {x y : Int32} {A B : Prop} (a b : Nat) (f : a < b → A) (g : b ≤ a → B) (hx : x = nI a := by rfl) (hy : y = nI b := by rfl) (ha : a < 2 ^ 31 := by omega) (hb : b < 2 ^ 31 := by omega) : (x < y → A) ∧ (¬ x < y → B) := by
  subst hx hy
  rw [nI_ltI ha hb]
  exact ⟨f, fun z => g (by omega)⟩
theorem pk_eq {x y : Int32} {A B : Prop} (a b : Nat) (f : a = b → A) (g : a ≠ b → B) (hx : x = nI a := by rfl) (hy : y = nI b := by rfl) (ha : a < 2 ^ 31 := by omega) (hb : b < 2 ^ 31 := by omega) : (x = y → A) ∧ (¬ x = y → B) := by
  subst hx hy
  rw [nI_eq ha hb]
  exact ⟨f, g⟩
theorem pk_in {x : Int32} (n N : Nat) (h : n < N) (hx : x = nI n := by rfl) (hN : N < 2 ^ 31 := by omega) : vp_in x N := by
  subst hx
  exact vp_in_nI h hN
theorem pk_cl {x : Int32} (n : Nat) (hx : x = nI n := by rfl) (h : n < 2 ^ 31 := by omega) : x.toNatClampNeg = n := by
  subst hx
  exact nI_clamp h
theorem pk_tn {n : Nat} (h : n < 2 ^ 32) : (nI n).toBitVec.toNat = n := Nat.mod_eq_of_lt h
theorem pk_and (x : Int32) {m : Int32} (k : Nat) (hm : m.toBitVec.toNat = 2 ^ k - 1) : x &&& m = nI (x.toBitVec.toNat % 2 ^ k) := by
  apply Int32.toBitVec_inj.mp
  apply BitVec.eq_of_toNat_eq
  rw [Int32.toBitVec_and, BitVec.toNat_and, hm, Nat.and_two_pow_sub_one_eq_mod]
  show _ = (BitVec.ofNat 32 _).toNat
  rw [BitVec.toNat_ofNat]
  exact (Nat.mod_eq_of_lt (Nat.lt_of_le_of_lt (Nat.mod_le _ _) x.toBitVec.isLt)).symm
theorem pk_andN {n : Nat} (h : n < 2 ^ 32) {m : Int32} (k : Nat) (hm : m.toBitVec.toNat = 2 ^ k - 1) : nI n &&& m = nI (n % 2 ^ k) := by
  rw [pk_and _ k hm, pk_tn h]
theorem pk_andE (x : Int32) {m : Int32} (k : Nat) (hm : m.toBitVec.toNat = 2 ^ k - 1) : ∃ j : Nat, j < 2 ^ k ∧ x &&& m = nI j := ⟨_, Nat.mod_lt _ (Nat.two_pow_pos k), pk_and x k hm⟩
theorem pk_andIn (x : Int32) {m : Int32} (k : Nat) (hm : m.toBitVec.toNat = 2 ^ k - 1) (hk : k ≤ 30) : vp_in (x &&& m) (2 ^ k) := by
  obtain ⟨j, hj, e⟩ := pk_andE x k hm
  rw [e]
  exact vp_in_nI hj (Nat.lt_of_le_of_lt (Nat.pow_le_pow_right (by decide) hk) (by decide))
theorem pk_shl (a s : Int32) (k : Nat) (hs : (s.toBitVec.smod 32).toNat = k) : (a <<< s).toBitVec.toNat = a.toBitVec.toNat * 2 ^ k % 2 ^ 32 := by
  show (a.toBitVec <<< (s.toBitVec.smod 32).toNat).toNat = _
  rw [hs, BitVec.toNat_shiftLeft, Nat.shiftLeft_eq]
theorem pk_shlN {n : Nat} (s : Int32) (k : Nat) (hs : (s.toBitVec.smod 32).toNat = k) (h : n * 2 ^ k < 2 ^ 32) : nI n <<< s = nI (n * 2 ^ k) := by
  apply Int32.toBitVec_inj.mp
  apply BitVec.eq_of_toNat_eq
  have hn : n < 2 ^ 32 := Nat.lt_of_le_of_lt (Nat.le_mul_of_pos_right n (Nat.two_pow_pos k)) h
  rw [pk_shl _ _ k hs, pk_tn hn, pk_tn h, Nat.mod_eq_of_lt h]
theorem pk_shr (a s : Int32) (k : Nat) (hs : (s.toBitVec.smod 32).toNat = k) : (a >>> s).toInt = a.toInt >>> k := by
  show (a.toBitVec.sshiftRight (s.toBitVec.smod 32).toNat).toInt = _
  rw [hs, BitVec.toInt_sshiftRight]
  rfl
theorem pk_shrN {n : Nat} (h : n < 2 ^ 31) (s : Int32) (k : Nat) (hs : (s.toBitVec.smod 32).toNat = k) : nI n >>> s = nI (n / 2 ^ k) := by
  apply Int32.toInt_inj.mp
  have h2 : n / 2 ^ k ≤ n := Nat.div_le_self _ _
  rw [pk_shr _ _ k hs, nI_toInt h, nI_toInt (by omega), Int.shiftRight_eq_div_pow]
  rfl
theorem pk_ushr (x s : Int32) (k : Nat) (hs : ((s.toUInt32 &&& Int32.toUInt32 31).toBitVec % 32).toNat = k) : (x.toUInt32 >>> (s.toUInt32 &&& Int32.toUInt32 31)).toInt32.toBitVec.toNat = x.toBitVec.toNat / 2 ^ k := by
  have e : (x.toUInt32 >>> (s.toUInt32 &&& Int32.toUInt32 31)).toInt32.toBitVec = x.toBitVec >>> k := by
    rw [← hs]
    exact UInt32.toBitVec_shiftRight _ _
  rw [e, BitVec.toNat_ushiftRight, Nat.shiftRight_eq_div_pow]
theorem pk_ushrN {n : Nat} (hn : n < 2 ^ 32) (s : Int32) (k : Nat) (hs : ((s.toUInt32 &&& Int32.toUInt32 31).toBitVec % 32).toNat = k) : ((nI n).toUInt32 >>> (s.toUInt32 &&& Int32.toUInt32 31)).toInt32 = nI (n / 2 ^ k) := by
  apply Int32.toBitVec_inj.mp
  apply BitVec.eq_of_toNat_eq
  rw [pk_ushr _ s k hs, pk_tn hn, pk_tn (Nat.lt_of_le_of_lt (Nat.div_le_self _ _) hn)]
theorem pk_nb (z : Int32) : narrow .byte (.int z.toInt8.toInt32) = .int z.toInt8.toInt32 := congrArg Value.int (by simp)
theorem pk_ns (z : Int32) : narrow .short (.int z.toInt16.toInt32) = .int z.toInt16.toInt32 := congrArg Value.int (by simp)
theorem pk_fb (r : Int32) : fits .byte (.int r.toInt8.toInt32) = true := by
  have ⟨a, b⟩ := lg_i2b_range r
  have h1 : (-128 : Int32).toInt = -128 := by decide
  have h2 : (127 : Int32).toInt = 127 := by decide
  simp only [fits, Bool.and_eq_true, decide_eq_true_eq, Int32.le_iff_toInt_le, h1, h2]
  omega
theorem pk_fs (r : Int32) : fits .short (.int r.toInt16.toInt32) = true := by
  have ⟨a, b⟩ := lg_i2s_range r
  have h1 : (-32768 : Int32).toInt = -32768 := by decide
  have h2 : (32767 : Int32).toInt = 32767 := by decide
  simp only [fits, Bool.and_eq_true, decide_eq_true_eq, Int32.le_iff_toInt_le, h1, h2]
  omega
theorem pk_vb (z : Int32) : vp_nar .byte z.toInt8.toInt32 = z.toInt8.toInt32 := by rw [vp_nar_byte]; simp
theorem pk_least (P : Nat → Prop) (h : ∃ k, P k) : ∃ k, P k ∧ ∀ j, j < k → ¬ P j := by
  obtain ⟨k, hk⟩ := h
  induction k using Nat.strongRecOn with
  | ind k ih =>
    by_cases e : ∃ j, j < k ∧ P j
    · obtain ⟨j, hj, pj⟩ := e
      exact ih j hj pj
    · exact ⟨k, hk, fun j hj pj => e ⟨j, hj, pj⟩⟩
/-! ===== Int32 by its bits: bt x i ===== -/
def bt (x : Int32) (i : Nat) : Bool := x.toBitVec.getLsbD i
theorem b_ext {x y : Int32} (h : ∀ i, i < 32 → bt x i = bt y i) : x = y := Int32.toBitVec_inj.mp (BitVec.eq_of_getLsbD_eq (fun i hi => h i hi))
theorem b_or (x y : Int32) (i : Nat) : bt (x ||| y) i = (bt x i || bt y i) := by unfold bt; rw [Int32.toBitVec_or, BitVec.getLsbD_or]
theorem b_and (x y : Int32) (i : Nat) : bt (x &&& y) i = (bt x i && bt y i) := by unfold bt; rw [Int32.toBitVec_and, BitVec.getLsbD_and]
theorem b_xor (x y : Int32) (i : Nat) : bt (x ^^^ y) i = (bt x i ^^ bt y i) := by unfold bt; rw [Int32.toBitVec_xor, BitVec.getLsbD_xor]
theorem b_big {x : Int32} {i : Nat} (h : 32 ≤ i) : bt x i = false := BitVec.getLsbD_of_ge _ _ h
theorem b_255 (i : Nat) : bt 255 i = decide (i < 8) := by
  rcases Nat.lt_or_ge i 32 with h | h
  · exact (by decide +kernel : ∀ i, i < 32 → bt 255 i = decide (i < 8)) i h
  · rw [b_big h, decide_eq_false (by omega)]
theorem b_65535 (i : Nat) : bt 65535 i = decide (i < 16) := by
  rcases Nat.lt_or_ge i 32 with h | h
  · exact (by decide +kernel : ∀ i, i < 32 → bt 65535 i = decide (i < 16)) i h
  · rw [b_big h, decide_eq_false (by omega)]
theorem b_m1 : ∀ i, i < 32 → bt (-1) i = true := by decide +kernel
theorem b_0 (i : Nat) : bt 0 i = false := BitVec.getLsbD_zero
theorem s_l : ∀ n, n < 32 → ((nI n &&& 31).toBitVec.smod 32).toNat = n := by decide +kernel
theorem s_u : ∀ n, n < 32 → (((nI n).toUInt32 &&& Int32.toUInt32 31).toBitVec % 32).toNat = n := by decide +kernel
theorem b_shl (n : Nat) (hn : n < 32) (x : Int32) {i : Nat} (hi : i < 32) : bt (x <<< (nI n &&& 31)) i = (decide (n ≤ i) && bt x (i - n)) := by
  unfold bt
  rw [Int32.toBitVec_shiftLeft]
  show (x.toBitVec <<< ((nI n &&& 31).toBitVec.smod 32).toNat).getLsbD i = _
  rw [s_l n hn, BitVec.getLsbD_shiftLeft]
  rcases Nat.lt_or_ge i n with h | h
  · simp [h, Nat.not_le.mpr h]
  · simp [hi, h, Nat.not_lt.mpr h]
theorem b_ushr (n : Nat) (hn : n < 32) (x : Int32) (i : Nat) : bt ((x.toUInt32 >>> ((nI n).toUInt32 &&& Int32.toUInt32 31)).toInt32) i = bt x (n + i) := by
  show (x.toUInt32 >>> ((nI n).toUInt32 &&& Int32.toUInt32 31)).toBitVec.getLsbD i = x.toUInt32.toBitVec.getLsbD (n + i)
  rw [UInt32.toBitVec_shiftRight]
  show (x.toUInt32.toBitVec >>> (((nI n).toUInt32 &&& Int32.toUInt32 31).toBitVec % 32).toNat).getLsbD i = _
  rw [s_u n hn, BitVec.getLsbD_ushiftRight]
theorem b_sshr (n : Nat) (hn : n < 32) (x : Int32) {i : Nat} (hi : i < 32) : bt (x >>> (nI n &&& 31)) i = if n + i < 32 then bt x (n + i) else bt x 31 := by
  unfold bt
  rw [Int32.toBitVec_shiftRight]
  show (x.toBitVec.sshiftRight ((nI n &&& 31).toBitVec.smod 32).toNat).getLsbD i = _
  rw [s_l n hn, BitVec.getLsbD_sshiftRight, BitVec.msb_eq_getLsbD_last]
  simp [hi]
end
section
/-! own rows on numbers: codes -1 or a small number, bytes, single bits -/
theorem rk_m1lt : (-1 : Int32) < 0 := by decide
theorem rk_m1nle : ¬ (0 : Int32) ≤ -1 := by decide
theorem rk_nI_m1 {b : Nat} (h : b < 2 ^ 31) : ¬ nI b = -1 := fun e => nI_pos h (by rw [e]; exact rk_m1lt)
theorem rk_inj {a b : Nat} (ha : a < 2 ^ 31) (hb : b < 2 ^ 31) (h : nI a = nI b) : a = b := (nI_eq ha hb).mp h
theorem rk_i8 {b : Nat} (h : b < 128) : (nI b).toInt8.toInt32 = nI b := (by decide +kernel : ∀ b, b < 128 → (nI b).toInt8.toInt32 = nI b) b h
theorem rk_i8m : (-1 : Int32).toInt8.toInt32 = -1 := by decide
theorem rk_vb {b : Nat} (h : b < 128) : vp_nar .byte (nI b) = nI b := by rw [vp_nar_byte, rk_i8 h]
theorem rk_vb8 {b : Nat} (h : b < 128) : vp_nar .byte (nI b).toInt8.toInt32 = nI b := by rw [rk_i8 h, rk_vb h]
theorem rk_vbm : vp_nar .byte (-1) = -1 := by rw [vp_nar_byte, rk_i8m]
theorem rk_vbm8 : vp_nar .byte ((-1 : Int32).toInt8.toInt32) = -1 := by rw [rk_i8m, rk_vbm]
theorem rk_vb0 : vp_nar .byte 0 = 0 := rk_vb (b := 0) (by decide)
theorem rk_vb1 : vp_nar .byte 1 = 1 := rk_vb (b := 1) (by decide)
theorem rk_vb4 : vp_nar .byte 4 = 4 := rk_vb (b := 4) (by decide)
theorem rk_vt0 : vp_nar .boolean 0 = 0 := rfl
theorem rk_vt1 : vp_nar .boolean 1 = 1 := rfl
/-- a code: -1, or a number below n -/
def rk_cd (n : Nat) (x : Int32) : Prop := x = -1 ∨ ∃ b : Nat, b < n ∧ x = nI b
theorem rk_vbc {x : Int32} {n : Nat} (hn : n ≤ 128) (h : rk_cd n x) : vp_nar .byte x = x := by
  rcases h with rfl | ⟨b, hb, rfl⟩
  · exact rk_vbm
  · exact rk_vb (by omega)
theorem rk_vbc8 {x : Int32} {n : Nat} (hn : n ≤ 128) (h : rk_cd n x) : vp_nar .byte x.toInt8.toInt32 = x := by
  rcases h with rfl | ⟨b, hb, rfl⟩
  · exact rk_vbm8
  · exact rk_vb8 (by omega)
theorem rk_in {n N : Nat} (h : n < N) (hN : N ≤ 160 := by decide) : vp_in (nI n) N := vp_in_nI h (by omega)
theorem rk_cl {n : Nat} (h : n < 160) : (nI n).toNatClampNeg = n := nI_clamp (by omega)
theorem rk_upp (f : Nat → Int32) (k : Nat) : upd f k (f k) = f := by
  funext j
  by_cases h : j = k
  · subst h; exact pk_us
  · exact pk_un h
/-! one bit -/
theorem rk_b1 (q i : Nat) (hq : q < 32) (hi : i < 32) : bt ((1 : Int32) <<< (nI q &&& 31)) i = decide (i = q) :=
  (by decide +kernel : ∀ q, q < 32 → ∀ i, i < 32 → bt ((1 : Int32) <<< (nI q &&& 31)) i = decide (i = q)) q hq i hi
theorem rk_bset (x : Int32) {q i : Nat} (hq : q < 32) (hi : i < 32) : bt (x ||| ((1 : Int32) <<< (nI q &&& 31))) i = (bt x i || decide (i = q)) := by
  rw [b_or, rk_b1 q i hq hi]
theorem rk_bclr (x : Int32) {q i : Nat} (hq : q < 32) (hi : i < 32) : bt (x &&& (((1 : Int32) <<< (nI q &&& 31)) ^^^ (-1))) i = (bt x i && !decide (i = q)) := by
  rw [b_and, b_xor, rk_b1 q i hq hi, b_m1 i hi, Bool.xor_true]
theorem rk_bit1 (i : Nat) (hi : i < 32) : bt 1 i = decide (i = 0) := (by decide +kernel : ∀ i, i < 32 → bt 1 i = decide (i = 0)) i hi
theorem rk_btst (x : Int32) {q : Nat} (hq : q < 32) : ((x >>> (nI q &&& 31)) &&& 1) = if bt x q then 1 else 0 := by
  apply b_ext
  intro i hi
  rw [b_and, rk_bit1 i hi, b_sshr q hq x hi]
  by_cases h0 : i = 0
  · subst h0
    rw [if_pos (by omega : q + 0 < 32), Nat.add_zero]
    cases h : bt x q
    · simp [b_0]
    · simp [rk_bit1]
  · rw [decide_eq_false h0, Bool.and_false]
    cases h : bt x q
    · simp [b_0]
    · simp [rk_bit1 i hi, h0]
theorem rk_btst0 (x : Int32) {q : Nat} (hq : q < 32) : ((x >>> (nI q &&& 31)) &&& 1) = 0 ↔ bt x q = false := by
  rw [rk_btst x hq]
  cases bt x q
  · simp
  · simp
theorem rk_btst1 (x : Int32) {q : Nat} (hq : q < 32) : ((x >>> (nI q &&& 31)) &&& 1) = 1 ↔ bt x q = true := by
  rw [rk_btst x hq]
  cases bt x q
  · simp
  · simp
/-! counts below a bound -/
def rk_cn (p : Nat → Bool) : Nat → Nat
  | 0 => 0
  | n + 1 => rk_cn p n + (if p n then 1 else 0)
theorem rk_cn_le (p : Nat → Bool) (n : Nat) : rk_cn p n ≤ n := by
  induction n with
  | zero => exact Nat.le_refl 0
  | succ n ih => unfold rk_cn; split <;> omega
theorem rk_cn_congr {p q : Nat → Bool} {n : Nat} (h : ∀ i, i < n → p i = q i) : rk_cn p n = rk_cn q n := by
  induction n with
  | zero => rfl
  | succ n ih => unfold rk_cn; rw [ih (fun i hi => h i (by omega)), h n (by omega)]
theorem rk_cn_add {p q : Nat → Bool} {n s : Nat} (hs : s < n) (h : ∀ i, i < n → i ≠ s → p i = q i) (hp : p s = false) (hq : q s = true) : rk_cn q n = rk_cn p n + 1 := by
  induction n with
  | zero => omega
  | succ n ih =>
    unfold rk_cn
    by_cases e : s = n
    · subst e
      rw [rk_cn_congr (p := q) (q := p) (fun i hi => (h i (by omega) (by omega)).symm), hp, hq]
      simp
    · rw [ih (by omega) (fun i hi => h i (by omega)), h n (by omega) (by omega)]
      omega
theorem rk_cn_pos {p : Nat → Bool} {n : Nat} : 0 < rk_cn p n ↔ ∃ i, i < n ∧ p i = true := by
  induction n with
  | zero => exact ⟨fun h => absurd h (Nat.lt_irrefl 0), fun ⟨i, hi, _⟩ => absurd hi (Nat.not_lt_zero i)⟩
  | succ n ih =>
    unfold rk_cn
    by_cases e : p n = true
    · rw [if_pos e]
      exact ⟨fun _ => ⟨n, by omega, e⟩, fun _ => by omega⟩
    · rw [if_neg e, Nat.add_zero, ih]
      constructor
      · rintro ⟨i, hi, h⟩; exact ⟨i, by omega, h⟩
      · rintro ⟨i, hi, h⟩
        refine ⟨i, ?_, h⟩
        rcases Nat.lt_or_ge i n with z | z
        · exact z
        · have : i = n := by omega
          subst this
          exact absurd h e
theorem rk_cn_zero {p : Nat → Bool} {n : Nat} (h : ∀ i, i < n → p i = false) : rk_cn p n = 0 := by
  induction n with
  | zero => rfl
  | succ n ih => unfold rk_cn; rw [ih (fun i hi => h i (by omega)), h n (by omega)]; simp
end
section
/-! linked lists by an order: S the members, m their keys; the successor, the predecessor, the first, the last as codes -/
def rk_Nx (S : Nat → Prop) (m : Nat → Int) (s : Nat) (v : Int32) : Prop :=
  (v = -1 ∧ ∀ t, S t → m t ≤ m s) ∨ ∃ b : Nat, v = nI b ∧ S b ∧ m s < m b ∧ ∀ t, S t → m t ≤ m s ∨ m b ≤ m t
def rk_Pv (S : Nat → Prop) (m : Nat → Int) (s : Nat) (v : Int32) : Prop :=
  (v = -1 ∧ ∀ t, S t → m s ≤ m t) ∨ ∃ b : Nat, v = nI b ∧ S b ∧ m b < m s ∧ ∀ t, S t → m t ≤ m b ∨ m s ≤ m t
def rk_Hd (S : Nat → Prop) (m : Nat → Int) (v : Int32) : Prop :=
  (v = -1 ∧ ∀ t, ¬ S t) ∨ ∃ b : Nat, v = nI b ∧ S b ∧ ∀ t, S t → m b ≤ m t
def rk_Tl (S : Nat → Prop) (m : Nat → Int) (v : Int32) : Prop :=
  (v = -1 ∧ ∀ t, ¬ S t) ∨ ∃ b : Nat, v = nI b ∧ S b ∧ ∀ t, S t → m t ≤ m b
section
variable {S S' : Nat → Prop} {m m' : Nat → Int} {s a b : Nat} {v w : Int32} {f g : Nat → Int32}
theorem rk_Nx_congr (hS : ∀ t, S t ↔ S' t) (hm : ∀ t, S t → m' t = m t) (hs : S s) (h : rk_Nx S m s v) : rk_Nx S' m' s v := by
  rcases h with ⟨e, l⟩ | ⟨b, e, Sb, l, bb⟩
  · refine Or.inl ⟨e, fun t ht => ?_⟩
    have h1 := (hS t).mpr ht
    rw [hm t h1, hm s hs]
    exact l t h1
  · refine Or.inr ⟨b, e, (hS b).mp Sb, ?_, fun t ht => ?_⟩
    · rw [hm b Sb, hm s hs]; exact l
    · have h1 := (hS t).mpr ht
      rw [hm t h1, hm s hs, hm b Sb]
      exact bb t h1
theorem rk_Pv_congr (hS : ∀ t, S t ↔ S' t) (hm : ∀ t, S t → m' t = m t) (hs : S s) (h : rk_Pv S m s v) : rk_Pv S' m' s v := by
  rcases h with ⟨e, l⟩ | ⟨b, e, Sb, l, bb⟩
  · refine Or.inl ⟨e, fun t ht => ?_⟩
    have h1 := (hS t).mpr ht
    rw [hm t h1, hm s hs]
    exact l t h1
  · refine Or.inr ⟨b, e, (hS b).mp Sb, ?_, fun t ht => ?_⟩
    · rw [hm b Sb, hm s hs]; exact l
    · have h1 := (hS t).mpr ht
      rw [hm t h1, hm s hs, hm b Sb]
      exact bb t h1
theorem rk_Hd_congr (hS : ∀ t, S t ↔ S' t) (hm : ∀ t, S t → m' t = m t) (h : rk_Hd S m v) : rk_Hd S' m' v := by
  rcases h with ⟨e, l⟩ | ⟨b, e, Sb, l⟩
  · exact Or.inl ⟨e, fun t ht => l t ((hS t).mpr ht)⟩
  · refine Or.inr ⟨b, e, (hS b).mp Sb, fun t ht => ?_⟩
    have h1 := (hS t).mpr ht
    rw [hm t h1, hm b Sb]
    exact l t h1
theorem rk_Tl_congr (hS : ∀ t, S t ↔ S' t) (hm : ∀ t, S t → m' t = m t) (h : rk_Tl S m v) : rk_Tl S' m' v := by
  rcases h with ⟨e, l⟩ | ⟨b, e, Sb, l⟩
  · exact Or.inl ⟨e, fun t ht => l t ((hS t).mpr ht)⟩
  · refine Or.inr ⟨b, e, (hS b).mp Sb, fun t ht => ?_⟩
    have h1 := (hS t).mpr ht
    rw [hm t h1, hm b Sb]
    exact l t h1
/-! one goes: s, the first or behind a -/
theorem rk_del_nx1 (hl : ∀ t, S t → m s ≤ m t) (hf : ∀ t, S t → rk_Nx S m t (f t)) : ∀ t, (S t ∧ t ≠ s) → rk_Nx (fun t => S t ∧ t ≠ s) m t (f t) := by
  intro t ht
  rcases hf t ht.1 with ⟨e, l⟩ | ⟨b, e, Sb, l, bb⟩
  · exact Or.inl ⟨e, fun u hu => l u hu.1⟩
  · refine Or.inr ⟨b, e, ⟨Sb, ?_⟩, l, fun u hu => bb u hu.1⟩
    intro z
    subst z
    have := hl t ht.1
    omega
theorem rk_del_nx2 (inj : ∀ a b, S a → S b → m a = m b → a = b) (hs : S s) (Sa : S a) (la : m a < m s) (ba : ∀ t, S t → m t ≤ m a ∨ m s ≤ m t) (hf : ∀ t, S t → rk_Nx S m t (f t)) : ∀ t, (S t ∧ t ≠ s) → rk_Nx (fun t => S t ∧ t ≠ s) m t (upd f a (f s) t) := by
  intro t ht
  by_cases hta : t = a
  · subst hta
    rw [pk_us]
    rcases hf s hs with ⟨e, l⟩ | ⟨b, e, Sb, l, bb⟩
    · refine Or.inl ⟨e, fun u hu => ?_⟩
      have h1 := ba u hu.1
      have h2 := l u hu.1
      have h3 : m u ≠ m s := fun z => hu.2 (inj u s hu.1 hs z)
      omega
    · refine Or.inr ⟨b, e, ⟨Sb, ?_⟩, by omega, fun u hu => ?_⟩
      · intro z; subst z; omega
      · have h1 := ba u hu.1
        have h2 := bb u hu.1
        have h3 : m u ≠ m s := fun z => hu.2 (inj u s hu.1 hs z)
        omega
  · rw [pk_un hta]
    rcases hf t ht.1 with ⟨e, l⟩ | ⟨b, e, Sb, l, bb⟩
    · exact Or.inl ⟨e, fun u hu => l u hu.1⟩
    · refine Or.inr ⟨b, e, ⟨Sb, ?_⟩, l, fun u hu => bb u hu.1⟩
      intro z
      subst z
      have h1 := bb a Sa
      have h2 := ba t ht.1
      have h3 : m t ≠ m a := fun z => hta (inj t a ht.1 Sa z)
      omega
theorem rk_del_pv1 (hl : ∀ t, S t → m t ≤ m s) (hf : ∀ t, S t → rk_Pv S m t (f t)) : ∀ t, (S t ∧ t ≠ s) → rk_Pv (fun t => S t ∧ t ≠ s) m t (f t) := by
  intro t ht
  rcases hf t ht.1 with ⟨e, l⟩ | ⟨b, e, Sb, l, bb⟩
  · exact Or.inl ⟨e, fun u hu => l u hu.1⟩
  · refine Or.inr ⟨b, e, ⟨Sb, ?_⟩, l, fun u hu => bb u hu.1⟩
    intro z
    subst z
    have := hl t ht.1
    omega
theorem rk_del_pv2 (inj : ∀ a b, S a → S b → m a = m b → a = b) (hs : S s) (Sa : S a) (la : m s < m a) (ba : ∀ t, S t → m t ≤ m s ∨ m a ≤ m t) (hf : ∀ t, S t → rk_Pv S m t (f t)) : ∀ t, (S t ∧ t ≠ s) → rk_Pv (fun t => S t ∧ t ≠ s) m t (upd f a (f s) t) := by
  intro t ht
  by_cases hta : t = a
  · subst hta
    rw [pk_us]
    rcases hf s hs with ⟨e, l⟩ | ⟨b, e, Sb, l, bb⟩
    · refine Or.inl ⟨e, fun u hu => ?_⟩
      have h1 := ba u hu.1
      have h2 := l u hu.1
      have h3 : m u ≠ m s := fun z => hu.2 (inj u s hu.1 hs z)
      omega
    · refine Or.inr ⟨b, e, ⟨Sb, ?_⟩, by omega, fun u hu => ?_⟩
      · intro z; subst z; omega
      · have h1 := ba u hu.1
        have h2 := bb u hu.1
        have h3 : m u ≠ m s := fun z => hu.2 (inj u s hu.1 hs z)
        omega
  · rw [pk_un hta]
    rcases hf t ht.1 with ⟨e, l⟩ | ⟨b, e, Sb, l, bb⟩
    · exact Or.inl ⟨e, fun u hu => l u hu.1⟩
    · refine Or.inr ⟨b, e, ⟨Sb, ?_⟩, l, fun u hu => bb u hu.1⟩
      intro z
      subst z
      have h1 := bb a Sa
      have h2 := ba t ht.1
      have h3 : m t ≠ m a := fun z => hta (inj t a ht.1 Sa z)
      omega
theorem rk_del_hd1 (inj : ∀ a b, S a → S b → m a = m b → a = b) (hs : S s) (hl : ∀ t, S t → m s ≤ m t) (hn : rk_Nx S m s v) : rk_Hd (fun t => S t ∧ t ≠ s) m v := by
  rcases hn with ⟨e, l⟩ | ⟨b, e, Sb, l, bb⟩
  · refine Or.inl ⟨e, fun u hu => ?_⟩
    have h1 := l u hu.1
    have h2 := hl u hu.1
    exact hu.2 (inj u s hu.1 hs (by omega))
  · refine Or.inr ⟨b, e, ⟨Sb, ?_⟩, fun u hu => ?_⟩
    · intro z; subst z; omega
    · have h1 := bb u hu.1
      have h2 := hl u hu.1
      have h3 : m u ≠ m s := fun z => hu.2 (inj u s hu.1 hs z)
      omega
theorem rk_del_hd2 (Sa : S a) (la : m a < m s) (hd : rk_Hd S m v) : rk_Hd (fun t => S t ∧ t ≠ s) m v := by
  rcases hd with ⟨e, l⟩ | ⟨b, e, Sb, l⟩
  · exact absurd Sa (l a)
  · refine Or.inr ⟨b, e, ⟨Sb, ?_⟩, fun u hu => l u hu.1⟩
    intro z
    subst z
    have := l a Sa
    omega
theorem rk_del_tl1 (inj : ∀ a b, S a → S b → m a = m b → a = b) (hs : S s) (hl : ∀ t, S t → m t ≤ m s) (hn : rk_Pv S m s v) : rk_Tl (fun t => S t ∧ t ≠ s) m v := by
  rcases hn with ⟨e, l⟩ | ⟨b, e, Sb, l, bb⟩
  · refine Or.inl ⟨e, fun u hu => ?_⟩
    have h1 := l u hu.1
    have h2 := hl u hu.1
    exact hu.2 (inj u s hu.1 hs (by omega))
  · refine Or.inr ⟨b, e, ⟨Sb, ?_⟩, fun u hu => ?_⟩
    · intro z; subst z; omega
    · have h1 := bb u hu.1
      have h2 := hl u hu.1
      have h3 : m u ≠ m s := fun z => hu.2 (inj u s hu.1 hs z)
      omega
theorem rk_del_tl2 (Sa : S a) (la : m s < m a) (hd : rk_Tl S m v) : rk_Tl (fun t => S t ∧ t ≠ s) m v := by
  rcases hd with ⟨e, l⟩ | ⟨b, e, Sb, l⟩
  · exact absurd Sa (l a)
  · refine Or.inr ⟨b, e, ⟨Sb, ?_⟩, fun u hu => l u hu.1⟩
    intro z
    subst z
    have := l a Sa
    omega
/-! one comes, behind all -/
theorem rk_add_nx0 (he : ∀ t, ¬ S t) : ∀ t, (S t ∨ t = s) → rk_Nx (fun t => S t ∨ t = s) m' t (upd f s (-1) t) := by
  rintro t (ht | rfl)
  · exact absurd ht (he t)
  · rw [pk_us]
    refine Or.inl ⟨rfl, ?_⟩
    rintro u (hu | rfl)
    · exact absurd hu (he u)
    · exact Int.le_refl _
theorem rk_add_nx1 (inj : ∀ a b, S a → S b → m a = m b → a = b) (hns : ¬ S s) (hm : ∀ t, S t → m' t = m t) (hlt : ∀ t, S t → m t < m' s) (hf : ∀ t, S t → rk_Nx S m t (f t)) (Sb : S b) (hb : ∀ t, S t → m t ≤ m b) :
    ∀ t, (S t ∨ t = s) → rk_Nx (fun t => S t ∨ t = s) m' t (upd (upd f s (-1)) b (nI s) t) := by
  intro t ht
  by_cases htb : t = b
  · subst htb
    rw [pk_us]
    refine Or.inr ⟨s, rfl, Or.inr rfl, ?_, ?_⟩
    · rw [hm t Sb]; exact hlt t Sb
    · rintro u (hu | rfl)
      · left; rw [hm t Sb, hm u hu]; exact hb u hu
      · right; exact Int.le_refl _
  · rw [pk_un htb]
    rcases ht with ht | rfl
    · rw [pk_un (j := t) (k := s) (fun z => hns (z ▸ ht))]
      rcases hf t ht with ⟨e, l⟩ | ⟨c, e, Sc, l, bb⟩
      · have h1 := l b Sb
        have h2 := hb t ht
        exact absurd (inj t b ht Sb (by omega)) htb
      · refine Or.inr ⟨c, e, Or.inl Sc, ?_, ?_⟩
        · rw [hm t ht, hm c Sc]; exact l
        · rintro u (hu | rfl)
          · rw [hm t ht, hm c Sc, hm u hu]; exact bb u hu
          · right; rw [hm c Sc]; exact Int.le_of_lt (hlt c Sc)
    · rw [pk_us]
      refine Or.inl ⟨rfl, ?_⟩
      rintro u (hu | rfl)
      · rw [hm u hu]; exact Int.le_of_lt (hlt u hu)
      · exact Int.le_refl _
theorem rk_add_pv (hns : ¬ S s) (hm : ∀ t, S t → m' t = m t) (hlt : ∀ t, S t → m t < m' s) (hf : ∀ t, S t → rk_Pv S m t (f t)) (hw : rk_Tl S m w) :
    ∀ t, (S t ∨ t = s) → rk_Pv (fun t => S t ∨ t = s) m' t (upd f s w t) := by
  rintro t (ht | rfl)
  · rw [pk_un (j := t) (k := s) (fun z => hns (z ▸ ht))]
    rcases hf t ht with ⟨e, l⟩ | ⟨c, e, Sc, l, bb⟩
    · refine Or.inl ⟨e, ?_⟩
      rintro u (hu | rfl)
      · rw [hm t ht, hm u hu]; exact l u hu
      · rw [hm t ht]; exact Int.le_of_lt (hlt t ht)
    · refine Or.inr ⟨c, e, Or.inl Sc, ?_, ?_⟩
      · rw [hm t ht, hm c Sc]; exact l
      · rintro u (hu | rfl)
        · rw [hm t ht, hm c Sc, hm u hu]; exact bb u hu
        · right; rw [hm t ht]; exact Int.le_of_lt (hlt t ht)
  · rw [pk_us]
    rcases hw with ⟨e, l⟩ | ⟨c, e, Sc, l⟩
    · refine Or.inl ⟨e, ?_⟩
      rintro u (hu | rfl)
      · exact absurd hu (l u)
      · exact Int.le_refl _
    · refine Or.inr ⟨c, e, Or.inl Sc, ?_, ?_⟩
      · rw [hm c Sc]; exact hlt c Sc
      · rintro u (hu | rfl)
        · left; rw [hm c Sc, hm u hu]; exact l u hu
        · right; exact Int.le_refl _
theorem rk_add_hd0 (he : ∀ t, ¬ S t) : rk_Hd (fun t => S t ∨ t = s) m' (nI s) := by
  refine Or.inr ⟨s, rfl, Or.inr rfl, ?_⟩
  rintro u (hu | rfl)
  · exact absurd hu (he u)
  · exact Int.le_refl _
theorem rk_add_hd1 (hm : ∀ t, S t → m' t = m t) (hlt : ∀ t, S t → m t < m' s) (Sb : S b) (hd : rk_Hd S m v) : rk_Hd (fun t => S t ∨ t = s) m' v := by
  rcases hd with ⟨e, l⟩ | ⟨c, e, Sc, l⟩
  · exact absurd Sb (l b)
  · refine Or.inr ⟨c, e, Or.inl Sc, ?_⟩
    rintro u (hu | rfl)
    · rw [hm c Sc, hm u hu]; exact l u hu
    · rw [hm c Sc]; exact Int.le_of_lt (hlt c Sc)
theorem rk_add_tl (hm : ∀ t, S t → m' t = m t) (hlt : ∀ t, S t → m t < m' s) : rk_Tl (fun t => S t ∨ t = s) m' (nI s) := by
  refine Or.inr ⟨s, rfl, Or.inr rfl, ?_⟩
  rintro u (hu | rfl)
  · rw [hm u hu]; exact Int.le_of_lt (hlt u hu)
  · exact Int.le_refl _
/-- the one whose successor is b is b's predecessor -/
theorem rk_pv_of_nx (Ss : S s) (Sb : S b) (l : m s < m b) (bb : ∀ t, S t → m t ≤ m s ∨ m b ≤ m t) : rk_Pv S m b (nI s) := Or.inr ⟨s, rfl, Ss, l, bb⟩
end
/-! rows: four lists, forth and back -/
def rk_DL (S : Nat → Prop) (m : Nat → Int) (nx pv : Nat → Int32) (fr bk : Int32) : Prop :=
  (∀ t, S t → rk_Nx S m t (nx t)) ∧ (∀ t, S t → rk_Pv S m t (pv t)) ∧ rk_Hd S m fr ∧ rk_Tl S m bk
def rk_Rows (R : Nat → Nat → Prop) (m : Nat → Int) (nx pv fr bk : Nat → Int32) : Prop := ∀ p, p < 4 → rk_DL (R p) m nx pv (fr p) (bk p)
def rk_uL (f g : Nat → Int32) (s : Nat) : Nat → Int32 := if g s < 0 then f else upd f (g s).toNatClampNeg (f s)
def rk_uH (h f g : Nat → Int32) (p s : Nat) : Nat → Int32 := if g s < 0 then upd h p (f s) else h
def rk_aN (nx bk : Nat → Int32) (p s : Nat) : Nat → Int32 := if bk p < 0 then upd nx s (-1) else upd (upd nx s (-1)) (bk p).toNatClampNeg (nI s)
def rk_aF (fr bk : Nat → Int32) (p s : Nat) : Nat → Int32 := if bk p < 0 then upd fr p (nI s) else fr
section
variable {S S' : Nat → Prop} {m m' : Nat → Int} {nx nx' pv pv' fr fr' bk bk' : Nat → Int32} {s p : Nat} {R R' : Nat → Nat → Prop}
theorem rk_DL_congr {x x' y y' : Int32} (hS : ∀ t, S t ↔ S' t) (hm : ∀ t, S t → m' t = m t) (hn : ∀ t, S t → nx' t = nx t) (hp : ∀ t, S t → pv' t = pv t) (hf : x' = x) (hb : y' = y) (h : rk_DL S m nx pv x y) : rk_DL S' m' nx' pv' x' y' := by
  subst hf hb
  refine ⟨fun t ht => ?_, fun t ht => ?_, rk_Hd_congr hS hm h.2.2.1, rk_Tl_congr hS hm h.2.2.2⟩
  · have h1 := (hS t).mpr ht
    rw [hn t h1]
    exact rk_Nx_congr hS hm h1 (h.1 t h1)
  · have h1 := (hS t).mpr ht
    rw [hp t h1]
    exact rk_Pv_congr hS hm h1 (h.2.1 t h1)
theorem rk_Rows_congr (hS : ∀ q t, q < 4 → (R q t ↔ R' q t)) (hm : ∀ q t, R q t → m' t = m t) (h : rk_Rows R m nx pv fr bk) : rk_Rows R' m' nx pv fr bk :=
  fun q hq => rk_DL_congr (fun t => hS q t hq) (fun t => hm q t) (fun _ _ => rfl) (fun _ _ => rfl) rfl rfl (h q hq)
theorem rk_uL_pos {f g : Nat → Int32} {s : Nat} (h : g s = -1) : rk_uL f g s = f := if_pos (by rw [h]; exact rk_m1lt)
theorem rk_uL_neg {f g : Nat → Int32} {s a : Nat} (h : g s = nI a) (ha : a < 128) : rk_uL f g s = upd f a (f s) := by
  unfold rk_uL
  rw [if_neg (by rw [h]; exact nI_pos (by omega)), h, rk_cl (by omega)]
theorem rk_uH_pos {h f g : Nat → Int32} {p s : Nat} (e : g s = -1) : rk_uH h f g p s = upd h p (f s) := if_pos (by rw [e]; exact rk_m1lt)
theorem rk_uH_neg {h f g : Nat → Int32} {p s a : Nat} (e : g s = nI a) (ha : a < 128) : rk_uH h f g p s = h := if_neg (by rw [e]; exact nI_pos (by omega))
theorem rk_aN_pos {s p : Nat} (h : bk p = -1) : rk_aN nx bk p s = upd nx s (-1) := if_pos (by rw [h]; exact rk_m1lt)
theorem rk_aN_neg {s p a : Nat} (h : bk p = nI a) (ha : a < 128) : rk_aN nx bk p s = upd (upd nx s (-1)) a (nI s) := by
  unfold rk_aN
  rw [if_neg (by rw [h]; exact nI_pos (by omega)), h, rk_cl (by omega)]
theorem rk_aF_pos {s p : Nat} (h : bk p = -1) : rk_aF fr bk p s = upd fr p (nI s) := if_pos (by rw [h]; exact rk_m1lt)
theorem rk_aF_neg {s p a : Nat} (h : bk p = nI a) (ha : a < 128) : rk_aF fr bk p s = fr := if_neg (by rw [h]; exact nI_pos (by omega))
theorem rk_DL_del (inj : ∀ a b, S a → S b → m a = m b → a = b) (hb : ∀ t, S t → t < 10) (hs : S s) (h : rk_DL S m nx pv (fr p) (bk p)) :
    rk_DL (fun t => S t ∧ t ≠ s) m (rk_uL nx pv s) (rk_uL pv nx s) (rk_uH fr nx pv p s p) (rk_uH bk pv nx p s p) := by
  obtain ⟨h1, h2, h3, h4⟩ := h
  refine ⟨?_, ?_, ?_, ?_⟩
  · rcases h2 s hs with ⟨e, l⟩ | ⟨a, e, Sa, l, bb⟩
    · rw [rk_uL_pos e]; exact rk_del_nx1 l h1
    · rw [rk_uL_neg e (by have := hb a Sa; omega)]; exact rk_del_nx2 inj hs Sa l bb h1
  · rcases h1 s hs with ⟨e, l⟩ | ⟨a, e, Sa, l, bb⟩
    · rw [rk_uL_pos e]; exact rk_del_pv1 l h2
    · rw [rk_uL_neg e (by have := hb a Sa; omega)]; exact rk_del_pv2 inj hs Sa l bb h2
  · rcases h2 s hs with ⟨e, l⟩ | ⟨a, e, Sa, l, bb⟩
    · rw [rk_uH_pos e, pk_us]; exact rk_del_hd1 inj hs l (h1 s hs)
    · rw [rk_uH_neg e (by have := hb a Sa; omega)]; exact rk_del_hd2 Sa l h3
  · rcases h1 s hs with ⟨e, l⟩ | ⟨a, e, Sa, l, bb⟩
    · rw [rk_uH_pos e, pk_us]; exact rk_del_tl1 inj hs l (h2 s hs)
    · rw [rk_uH_neg e (by have := hb a Sa; omega)]; exact rk_del_tl2 Sa l h4
theorem rk_rows_del (hR : ∀ q t, R q t → t < 10) (hd : ∀ q q' t, R q t → R q' t → q = q') (inj : ∀ q a b, R q a → R q b → m a = m b → a = b) (hp : p < 4) (hs : R p s) (h : rk_Rows R m nx pv fr bk) :
    rk_Rows (fun q t => R q t ∧ t ≠ s) m (rk_uL nx pv s) (rk_uL pv nx s) (rk_uH fr nx pv p s) (rk_uH bk pv nx p s) := by
  intro q hq
  by_cases e : q = p
  · subst e
    exact rk_DL_del (inj q) (hR q) hs (h q hq)
  · have hS : ∀ t, R q t ↔ (R q t ∧ t ≠ s) := fun t => ⟨fun ht => ⟨ht, fun z => e (hd q p t ht (z ▸ hs))⟩, fun ht => ht.1⟩
    obtain ⟨h1, h2, h3, h4⟩ := h p hp
    refine rk_DL_congr hS (fun _ _ => rfl) ?_ ?_ ?_ ?_ (h q hq)
    · intro t ht
      rcases h2 s hs with ⟨z, l⟩ | ⟨a, z, Sa, l, bb⟩
      · rw [rk_uL_pos z]
      · rw [rk_uL_neg z (by have := hR p a Sa; omega), pk_un (j := t) (k := a) (fun y => e (hd q p t ht (y ▸ Sa)))]
    · intro t ht
      rcases h1 s hs with ⟨z, l⟩ | ⟨a, z, Sa, l, bb⟩
      · rw [rk_uL_pos z]
      · rw [rk_uL_neg z (by have := hR p a Sa; omega), pk_un (j := t) (k := a) (fun y => e (hd q p t ht (y ▸ Sa)))]
    · rcases h2 s hs with ⟨z, l⟩ | ⟨a, z, Sa, l, bb⟩
      · rw [rk_uH_pos z, pk_un e]
      · rw [rk_uH_neg z (by have := hR p a Sa; omega)]
    · rcases h1 s hs with ⟨z, l⟩ | ⟨a, z, Sa, l, bb⟩
      · rw [rk_uH_pos z, pk_un e]
      · rw [rk_uH_neg z (by have := hR p a Sa; omega)]
theorem rk_rows_add (hR : ∀ q t, R q t → t < 10) (hd : ∀ q q' t, R q t → R q' t → q = q') (inj : ∀ q a b, R q a → R q b → m a = m b → a = b) (hp : p < 4) (hns : ∀ q, ¬ R q s) (hm : ∀ t, t ≠ s → m' t = m t) (hlt : ∀ q t, R q t → m t < m' s) (h : rk_Rows R m nx pv fr bk) :
    rk_Rows (fun q t => R q t ∨ (q = p ∧ t = s)) m' (rk_aN nx bk p s) (upd pv s (bk p)) (rk_aF fr bk p s) (upd bk p (nI s)) := by
  have hm' : ∀ q t, R q t → m' t = m t := fun q t ht => hm t (fun z => hns q (z ▸ ht))
  intro q hq
  obtain ⟨h1, h2, h3, h4⟩ := h p hp
  by_cases e : q = p
  · subst e
    have hS : ∀ t, (R q t ∨ t = s) ↔ (R q t ∨ (q = q ∧ t = s)) := fun t => ⟨fun z => z.elim Or.inl (fun y => Or.inr ⟨rfl, y⟩), fun z => z.elim Or.inl (fun y => Or.inr y.2)⟩
    refine rk_DL_congr hS (fun _ _ => rfl) (fun _ _ => rfl) (fun _ _ => rfl) rfl rfl (m := m') ⟨?_, rk_add_pv (hns q) (hm' q) (hlt q) h2 h4, ?_, ?_⟩
    · rcases h4 with ⟨z, l⟩ | ⟨b, z, Sb, l⟩
      · rw [rk_aN_pos z]; exact rk_add_nx0 l
      · rw [rk_aN_neg z (by have := hR q b Sb; omega)]; exact rk_add_nx1 (inj q) (hns q) (hm' q) (hlt q) h1 Sb l
    · rcases h4 with ⟨z, l⟩ | ⟨b, z, Sb, l⟩
      · rw [rk_aF_pos z, pk_us]; exact rk_add_hd0 l
      · rw [rk_aF_neg z (by have := hR q b Sb; omega)]; exact rk_add_hd1 (hm' q) (hlt q) Sb h3
    · rw [pk_us]; exact rk_add_tl (hm' q) (hlt q)
  · have hS : ∀ t, R q t ↔ (R q t ∨ (q = p ∧ t = s)) := fun t => ⟨Or.inl, fun z => z.elim id (fun y => absurd y.1 e)⟩
    refine rk_DL_congr hS (hm' q) ?_ ?_ ?_ ?_ (h q hq)
    · intro t ht
      have hts : t ≠ s := fun z => hns q (z ▸ ht)
      rcases h4 with ⟨z, l⟩ | ⟨b, z, Sb, l⟩
      · rw [rk_aN_pos z, pk_un hts]
      · rw [rk_aN_neg z (by have := hR p b Sb; omega), pk_un (j := t) (k := b) (fun y => e (hd q p t ht (y ▸ Sb))), pk_un hts]
    · intro t ht
      exact pk_un (fun z => hns q (z ▸ ht))
    · rcases h4 with ⟨z, l⟩ | ⟨b, z, Sb, l⟩
      · rw [rk_aF_pos z, pk_un e]
      · rw [rk_aF_neg z (by have := hR p b Sb; omega)]
    · exact pk_un e
end
end
section
/-! a family of lists S q (q < n), linked forth by one array bh, with first and last by lists; one comes to list r behind all, one goes -/
def rk_SL (S : Nat → Prop) (m : Nat → Int) (bh : Nat → Int32) (fi la : Int32) : Prop := (∀ t, S t → rk_Nx S m t (bh t)) ∧ ((∃ t, S t) → rk_Hd S m fi ∧ rk_Tl S m la)
def rk_qB (bh la se : Nat → Int32) (r s : Nat) : Nat → Int32 := if se r ≤ 0 then upd bh s (-1) else upd (upd bh s (-1)) (la r).toNatClampNeg (nI s)
def rk_qF (fi se : Nat → Int32) (r s : Nat) : Nat → Int32 := if se r ≤ 0 then upd fi r (nI s) else fi
def rk_dB (bh : Nat → Int32) (pc : Int32) (s : Nat) : Nat → Int32 := if 0 ≤ pc then upd bh pc.toNatClampNeg (bh s) else bh
def rk_dF (fi bh : Nat → Int32) (pc : Int32) (r s : Nat) : Nat → Int32 := if 0 ≤ pc then fi else upd fi r (bh s)
def rk_dL (la : Nat → Int32) (pc : Int32) (r s : Nat) : Nat → Int32 := if la r = nI s then upd la r pc else la
section
variable {S : Nat → Nat → Prop} {m m' : Nat → Int} {bh fi la se : Nat → Int32} {s r n : Nat} {pc : Int32}
theorem rk_SL_congr {S S' : Nat → Prop} {m m' : Nat → Int} {f f' : Nat → Int32} {a a' b b' : Int32} (hS : ∀ t, S t ↔ S' t) (hm : ∀ t, S t → m' t = m t) (hf : ∀ t, S t → f' t = f t) (ha : a' = a) (hb : b' = b) (h : rk_SL S m f a b) : rk_SL S' m' f' a' b' := by
  subst ha hb
  refine ⟨fun t ht => ?_, fun ⟨t, ht⟩ => ?_⟩
  · have h1 := (hS t).mpr ht
    rw [hf t h1]
    exact rk_Nx_congr hS hm h1 (h.1 t h1)
  · have h1 := h.2 ⟨t, (hS t).mpr ht⟩
    exact ⟨rk_Hd_congr hS hm h1.1, rk_Tl_congr hS hm h1.2⟩
theorem rk_fam_add (inj : ∀ a b, S r a → S r b → m a = m b → a = b) (hdj : ∀ q t, S q t → S r t → q = r) (hlt : ∀ q t, S q t → t < 128) (hns : ∀ q, ¬ S q s) (hm : ∀ t, t ≠ s → m' t = m t) (hgt : ∀ t, S r t → m t < m' s) (hr : r < n)
    (hse : se r ≤ 0 ↔ ∀ t, ¬ S r t) (h : ∀ q, q < n → rk_SL (S q) m bh (fi q) (la q)) :
    ∀ q, q < n → rk_SL (fun t => S q t ∨ (q = r ∧ t = s)) m' (rk_qB bh la se r s) (rk_qF fi se r s q) (upd la r (nI s) q) := by
  have hm' : ∀ q t, S q t → m' t = m t := fun q t z => hm t (fun e => hns q (e ▸ z))
  obtain ⟨g1, g2⟩ := h r hr
  have hle : (se r ≤ 0 ∧ ∀ t, ¬ S r t) ∨ (¬ se r ≤ 0 ∧ ∃ b, la r = nI b ∧ S r b ∧ ∀ t, S r t → m t ≤ m b) := by
    by_cases c : se r ≤ 0
    · exact Or.inl ⟨c, hse.mp c⟩
    · refine Or.inr ⟨c, ?_⟩
      have z : ∃ t, S r t := Classical.byContradiction (fun z => c (hse.mpr (fun t y => z ⟨t, y⟩)))
      rcases (g2 z).2 with y | ⟨b, y1, y2, y3⟩
      · obtain ⟨t, z⟩ := z
        exact absurd z (y.2 t)
      · exact ⟨b, y1, y2, y3⟩
  intro q hq
  obtain ⟨k1, k2⟩ := h q hq
  by_cases e : q = r
  · subst e
    have hS' : ∀ t, (S q t ∨ t = s) ↔ (S q t ∨ (q = q ∧ t = s)) := fun t => ⟨fun z => z.elim Or.inl (fun y => Or.inr ⟨rfl, y⟩), fun z => z.elim Or.inl (fun y => Or.inr y.2)⟩
    refine rk_SL_congr hS' (m := m') (fun _ _ => rfl) (fun _ _ => rfl) rfl rfl ⟨?_, fun _ => ⟨?_, ?_⟩⟩
    · rcases hle with ⟨z1, z2⟩ | ⟨z1, b, z2, z3, z4⟩
      · unfold rk_qB
        rw [if_pos z1]
        exact rk_add_nx0 z2
      · unfold rk_qB
        have := hlt q b z3
        rw [if_neg z1, z2, rk_cl (by omega)]
        exact rk_add_nx1 inj (hns q) (hm' q) hgt k1 z3 z4
    · rcases hle with ⟨z1, z2⟩ | ⟨z1, b, z2, z3, z4⟩
      · unfold rk_qF
        rw [if_pos z1, pk_us]
        exact rk_add_hd0 z2
      · unfold rk_qF
        rw [if_neg z1]
        exact rk_add_hd1 (hm' q) hgt z3 (k2 ⟨b, z3⟩).1
    · rw [pk_us]
      exact rk_add_tl (hm' q) hgt
  · have hS' : ∀ t, S q t ↔ (S q t ∨ (q = r ∧ t = s)) := fun t => ⟨Or.inl, fun z => z.elim id (fun y => absurd y.1 e)⟩
    refine rk_SL_congr hS' (hm' q) ?_ ?_ (pk_un e) ⟨k1, k2⟩
    · intro t ht
      have hts : t ≠ s := fun z => hns q (z ▸ ht)
      rcases hle with ⟨z1, z2⟩ | ⟨z1, b, z2, z3, z4⟩
      · unfold rk_qB
        rw [if_pos z1, pk_un hts]
      · unfold rk_qB
        have := hlt r b z3
        rw [if_neg z1, z2, rk_cl (by omega), pk_un (j := t) (k := b) (fun y => e (hdj q t ht (y ▸ z3))), pk_un hts]
    · unfold rk_qF
      split
      · exact pk_un e
      · rfl
theorem rk_fam_del (inj : ∀ a b, S r a → S r b → m a = m b → a = b) (hdj : ∀ q t, S q t → S r t → q = r) (hlt : ∀ q t, S q t → t < 128) (hr : r < n) (hs : S r s) (hpc : rk_Pv (S r) m s pc)
    (h : ∀ q, q < n → rk_SL (S q) m bh (fi q) (la q)) :
    ∀ q, q < n → rk_SL (fun t => S q t ∧ t ≠ s) m (rk_dB bh pc s) (rk_dF fi bh pc r s q) (rk_dL la pc r s q) := by
  obtain ⟨g1, g2⟩ := h r hr
  have gh := g2 ⟨s, hs⟩
  have hs10 := hlt r s hs
  intro q hq
  obtain ⟨k1, k2⟩ := h q hq
  by_cases e : q = r
  · subst e
    refine ⟨?_, fun _ => ⟨?_, ?_⟩⟩
    · rcases hpc with ⟨z1, z2⟩ | ⟨a, z1, z2, z3, z4⟩
      · unfold rk_dB
        rw [z1, if_neg rk_m1nle]
        exact rk_del_nx1 z2 k1
      · unfold rk_dB
        have := hlt q a z2
        rw [z1, if_pos (nI_pos' (by omega)), rk_cl (by omega)]
        exact rk_del_nx2 inj hs z2 z3 z4 k1
    · rcases hpc with ⟨z1, z2⟩ | ⟨a, z1, z2, z3, z4⟩
      · unfold rk_dF
        rw [z1, if_neg rk_m1nle, pk_us]
        exact rk_del_hd1 inj hs z2 (k1 s hs)
      · unfold rk_dF
        have := hlt q a z2
        rw [z1, if_pos (nI_pos' (by omega))]
        exact rk_del_hd2 z2 z3 gh.1
    · rcases gh.2 with ⟨y1, y2⟩ | ⟨b, y1, y2, y3⟩
      · exact absurd hs (y2 s)
      · have hb10 := hlt q b y2
        by_cases eb : b = s
        · subst eb
          unfold rk_dL
          rw [if_pos y1, pk_us]
          exact rk_del_tl1 inj hs y3 hpc
        · unfold rk_dL
          rw [if_neg (by rw [y1]; exact fun z => eb (rk_inj (by omega) (by omega) z))]
          have h5 := y3 s hs
          have h6 : m s ≠ m b := fun z => eb (inj s b hs y2 z).symm
          exact rk_del_tl2 y2 (by omega) gh.2
  · have hS' : ∀ t, S q t ↔ (S q t ∧ t ≠ s) := fun t => ⟨fun z => ⟨z, fun y => e (hdj q t z (y ▸ hs))⟩, fun z => z.1⟩
    refine rk_SL_congr hS' (fun _ _ => rfl) ?_ ?_ ?_ ⟨k1, k2⟩
    · intro t ht
      rcases hpc with ⟨z1, z2⟩ | ⟨a, z1, z2, z3, z4⟩
      · unfold rk_dB
        rw [z1, if_neg rk_m1nle]
      · unfold rk_dB
        have := hlt r a z2
        rw [z1, if_pos (nI_pos' (by omega)), rk_cl (by omega), pk_un (j := t) (k := a) (fun y => e (hdj q t ht (y ▸ z2)))]
    · unfold rk_dF
      split
      · rfl
      · exact pk_un e
    · unfold rk_dL
      split
      · exact pk_un e
      · rfl
end
end
section
/-! the core: who is READY in which row, who waits for whom, who sends to whom -/
def rk_ep (be : Nat → Int32) (s : Nat) : Int32 := 16 * be s + nI s
def rk_m (mo : Nat → Int32) : Nat → Int := fun t => (mo t).toInt
def rk_wg (st : Nat → Int32) (t : Nat) : Prop := st t = 2 ∨ st t = 3 ∨ st t = 4
def rk_R (st lv : Nat → Int32) (p t : Nat) : Prop := p < 4 ∧ t < 10 ∧ st t = 1 ∧ lv t = nI p
def rk_W (st wh be : Nat → Int32) (r t : Nat) : Prop := r < 10 ∧ t < 10 ∧ rk_wg st t ∧ wh t = rk_ep be r
def rk_S (st wh be : Nat → Int32) (r t : Nat) : Prop := r < 10 ∧ t < 10 ∧ st t = 2 ∧ wh t = rk_ep be r
def rk_sb (st wh be : Nat → Int32) (r t : Nat) : Bool := decide (st t = 2 ∧ wh t = rk_ep be r)
/-- states and the ghost al: who is there -/
def rk_Tie (st al : Nat → Int32) : Prop := ∀ s, s < 10 → (st s = 0 ∧ al s = 0) ∨ ((st s = 1 ∨ rk_wg st s) ∧ al s = 1)
/-- levels, bases, ticks -/
def rk_Lev (lv bs tk : Nat → Int32) : Prop := ∀ s, s < 10 → (∃ p, p < 4 ∧ lv s = nI p) ∧ (∃ p, p < 4 ∧ bs s = nI p) ∧ (∃ t, t ≤ 4 ∧ tk s = nI t)
/-- births -/
def rk_Bir (N : Nat) (al be yb : Nat → Int32) : Prop := ∀ s, s < 10 → ∃ b, b ≤ N ∧ be s = nI b ∧ ((al s = 0 ∧ yb s = nI b) ∨ (al s = 1 ∧ yb s = nI (b + 1)))
/-- moments -/
def rk_Mom (N : Nat) (al mo : Nat → Int32) (ms : Int32) : Prop := ∃ M, M ≤ N ∧ ms = nI M ∧ (∀ s, s < 10 → al s = 1 → ∃ j, j ≤ M ∧ mo s = nI j) ∧ (∀ s t, s < 10 → t < 10 → al s = 1 → al t = 1 → mo s = mo t → s = t)
/-- rows -/
def rk_Ro (st lv mo nx pv fr bk : Nat → Int32) : Prop := rk_Rows (rk_R st lv) (rk_m mo) nx pv fr bk
/-- waits; D: those that wait for one that is dead already, as old -/
def rk_Wt (D : Nat → Prop) (old : Int32) (st al wh ot re be wt ca yc : Nat → Int32) : Prop :=
  (∀ t, t < 10 → rk_wg st t → ot t = wh t ∧ re t = 0 ∧ ((¬ D t ∧ wh t = -1 ∧ st t = 3) ∨ (¬ D t ∧ ∃ r, r < 10 ∧ r ≠ t ∧ al r = 1 ∧ wh t = rk_ep be r) ∨ (D t ∧ wh t = old))) ∧
  (∀ r t, r < 10 → t < 10 → (bt (wt r) t = true ↔ rk_W st wh be r t)) ∧
  (∀ t, t < 10 → st t = 2 → ca t = yc t ∧ (ca t = 0 ∨ ca t = 1))
/-- no cycles -/
def rk_Ac (st wh be : Nat → Int32) : Prop := ∃ f : Nat → Nat, ∀ r t, rk_W st wh be r t → f r < f t
/-- queues of senders -/
def rk_Qu (st wh be mo bh fi la se : Nat → Int32) : Prop := ∀ r, r < 10 → rk_SL (rk_S st wh be r) (rk_m mo) bh (fi r) (la r) ∧ se r = nI (rk_cn (rk_sb st wh be r) 10)
section
variable {st st' al al' lv lv' bs tk be yb mo mo' nx pv fr bk wh ot re wt wt' ca ca' yc yc' bh fi la se : Nat → Int32} {N s r p : Nat} {ms v old how : Int32} {D : Nat → Prop}
theorem rk_wg_ne1 (h : rk_wg st s) : st s ≠ 1 := by
  rcases h with h | h | h <;> rw [h] <;> decide
theorem rk_wg_ne0 (h : rk_wg st s) : st s ≠ 0 := by
  rcases h with h | h | h <;> rw [h] <;> decide
theorem rk_Tie_al (h : rk_Tie st al) (hs : s < 10) (hn : st s ≠ 0) : al s = 1 := by
  rcases h s hs with ⟨z, _⟩ | ⟨_, z⟩
  · exact absurd z hn
  · exact z
theorem rk_Tie_st (h : rk_Tie st al) (hs : s < 10) (hn : al s = 1) : st s = 1 ∨ rk_wg st s := by
  rcases h s hs with ⟨_, z⟩ | ⟨z, _⟩
  · rw [hn] at z; exact absurd z (by decide)
  · exact z
theorem rk_Tie_0 (h : rk_Tie st al) (hs : s < 10) (hn : st s = 0) : al s = 0 := by
  rcases h s hs with ⟨_, z⟩ | ⟨z, _⟩
  · exact z
  · rcases z with z | z
    · rw [hn] at z; exact absurd z (by decide)
    · exact absurd hn (rk_wg_ne0 z)
theorem rk_Tie_set (h : rk_Tie st al) (hv : v = 1 ∨ v = 2 ∨ v = 3 ∨ v = 4) (ha : al s = 1) : rk_Tie (upd st s v) al := by
  intro t ht
  by_cases e : t = s
  · subst e
    refine Or.inr ⟨?_, ha⟩
    unfold rk_wg
    rw [pk_us]
    exact hv
  · unfold rk_wg
    rw [pk_un e]
    exact h t ht
theorem rk_Tie_new (h : rk_Tie st al) : rk_Tie (upd st s 1) (upd al s 1) := by
  intro t ht
  by_cases e : t = s
  · subst e
    unfold rk_wg
    rw [pk_us, pk_us]
    exact Or.inr ⟨Or.inl rfl, rfl⟩
  · unfold rk_wg
    rw [pk_un e, pk_un e]
    exact h t ht
theorem rk_Tie_end (h : rk_Tie st al) : rk_Tie (upd st s 0) (upd al s 0) := by
  intro t ht
  by_cases e : t = s
  · subst e
    rw [pk_us, pk_us]
    exact Or.inl ⟨rfl, rfl⟩
  · unfold rk_wg
    rw [pk_un e, pk_un e]
    exact h t ht
/-! endpoints -/
theorem rk_ep_val {b : Nat} (h : be s = nI b) : rk_ep be s = nI (16 * b + s) := by
  unfold rk_ep
  rw [h, show (16 : Int32) = nI 16 from rfl, pk_mul, nI_add]
theorem rk_ep_inj (hN : N ≤ 67108864) (h : rk_Bir N al be yb) (hr : r < 10) (hs : s < 10) (e : rk_ep be r = rk_ep be s) : r = s := by
  obtain ⟨b, hb, eb, _⟩ := h r hr
  obtain ⟨c, hc, ec, _⟩ := h s hs
  rw [rk_ep_val eb, rk_ep_val ec] at e
  have := rk_inj (by omega) (by omega) e
  omega
theorem rk_ep_and (hN : N ≤ 67108864) (h : rk_Bir N al be yb) (hr : r < 10) : rk_ep be r &&& 15 = nI r := by
  obtain ⟨b, hb, eb, _⟩ := h r hr
  rw [rk_ep_val eb, pk_andN (by omega) 4 (by decide)]
  exact congrArg nI (by omega)
theorem rk_ep_pos (hN : N ≤ 67108864) (h : rk_Bir N al be yb) (hr : r < 10) : ¬ rk_ep be r < 0 := by
  obtain ⟨b, hb, eb, _⟩ := h r hr
  rw [rk_ep_val eb]
  exact nI_pos (by omega)
theorem rk_ep_m1 (hN : N ≤ 67108864) (h : rk_Bir N al be yb) (hr : r < 10) : ¬ rk_ep be r = -1 := fun e => rk_ep_pos hN h hr (by rw [e]; exact rk_m1lt)
theorem rk_ep_y (h : rk_Bir N al be yb) (hr : r < 10) (ha : al r = 1) : 16 * (yb r - 1) + nI r = rk_ep be r := by
  obtain ⟨b, hb, eb, z⟩ := h r hr
  rcases z with ⟨z, _⟩ | ⟨_, z⟩
  · rw [ha] at z; exact absurd z (by decide)
  · unfold rk_ep
    rw [z, eb, nI_pred]
theorem rk_ep_up (hr : r ≠ s) : rk_ep (upd be s v) r = rk_ep be r := by
  unfold rk_ep
  rw [pk_un hr]
/-! moments -/
theorem rk_Mom_last (hN : N + 1 < 2 ^ 31) (ha : ∀ t, t ≠ s → al' t = 1 → al t = 1) (h : rk_Mom N al mo ms) : rk_Mom (N + 1) al' (upd mo s (ms + 1)) (ms + 1) := by
  obtain ⟨M, hM, e, h1, h2⟩ := h
  refine ⟨M + 1, by omega, by rw [e, nI_1], fun t ht hl => ?_, fun a b ha' hb' la lb z => ?_⟩
  · by_cases et : t = s
    · subst et
      exact ⟨M + 1, Nat.le_refl _, by rw [pk_us, e, nI_1]⟩
    · obtain ⟨j, hj, ej⟩ := h1 t ht (ha t et hl)
      exact ⟨j, by omega, by rw [pk_un et]; exact ej⟩
  · by_cases ea : a = s
    · by_cases eb : b = s
      · rw [ea, eb]
      · exfalso
        obtain ⟨j, hj, ej⟩ := h1 b hb' (ha b eb lb)
        rw [ea, pk_us, pk_un eb, e, ej, nI_1] at z
        have := rk_inj (by omega) (by omega) z
        omega
    · by_cases eb : b = s
      · exfalso
        obtain ⟨j, hj, ej⟩ := h1 a ha' (ha a ea la)
        rw [eb, pk_us, pk_un ea, e, ej, nI_1] at z
        have := rk_inj (by omega) (by omega) z
        omega
      · rw [pk_un ea, pk_un eb] at z
        exact h2 a b ha' hb' (ha a ea la) (ha b eb lb) z
theorem rk_Mom_al (ha : ∀ t, al' t = 1 → al t = 1) (h : rk_Mom N al mo ms) : rk_Mom N al' mo ms := by
  obtain ⟨M, hM, e, h1, h2⟩ := h
  exact ⟨M, hM, e, fun t ht hl => h1 t ht (ha t hl), fun a b x y la lb z => h2 a b x y (ha a la) (ha b lb) z⟩
theorem rk_Mom_up {N' : Nat} (hN : N ≤ N') (h : rk_Mom N al mo ms) : rk_Mom N' al mo ms := by
  obtain ⟨M, hM, e, h1, h2⟩ := h
  exact ⟨M, by omega, e, h1, h2⟩
theorem rk_Mom_lt (hN : N + 1 < 2 ^ 31) (h : rk_Mom N al mo ms) (hs : s < 10) (ha : al s = 1) : (mo s).toInt < (ms + 1).toInt := by
  obtain ⟨M, hM, e, h1, h2⟩ := h
  obtain ⟨j, hj, ej⟩ := h1 s hs ha
  rw [ej, e, nI_1, nI_toInt (by omega), nI_toInt (by omega)]
  omega
theorem rk_Mom_inj (h : rk_Mom N al mo ms) {a b : Nat} (ha : a < 10) (hb : b < 10) (la : al a = 1) (lb : al b = 1) (e : rk_m mo a = rk_m mo b) : a = b := by
  obtain ⟨M, hM, z, h1, h2⟩ := h
  exact h2 a b ha hb la lb (Int32.toInt_inj.mp e)
theorem rk_m_ne {x : Int32} {t : Nat} (h : t ≠ s) : rk_m (upd mo s x) t = rk_m mo t := by
  unfold rk_m
  rw [pk_un h]
theorem rk_m_eq {x : Int32} : rk_m (upd mo s x) s = x.toInt := by
  unfold rk_m
  rw [pk_us]
/-! rows -/
theorem rk_R_lt {q t : Nat} (h : rk_R st lv q t) : t < 10 := h.2.1
theorem rk_R_dj {q q' t : Nat} (h : rk_R st lv q t) (h' : rk_R st lv q' t) : q = q' := by
  have e := h.2.2.2
  rw [h'.2.2.2] at e
  have h1 := h.1
  have h2 := h'.1
  exact (rk_inj (by omega) (by omega) e).symm
theorem rk_R_in {q a b : Nat} (hT : rk_Tie st al) (hM : rk_Mom N al mo ms) (ha : rk_R st lv q a) (hb : rk_R st lv q b) (e : rk_m mo a = rk_m mo b) : a = b :=
  rk_Mom_inj hM ha.2.1 hb.2.1 (rk_Tie_al hT ha.2.1 (by rw [ha.2.2.1]; decide)) (rk_Tie_al hT hb.2.1 (by rw [hb.2.2.1]; decide)) e
/-- one becomes READY: behind all of its row -/
theorem rk_Ro_rdy (hN : N + 1 < 2 ^ 31) (hT : rk_Tie st al) (hM : rk_Mom N al mo ms) (hs : s < 10) (hp : p < 4) (hl : lv s = nI p) (h1 : st s ≠ 1) (h : rk_Ro st lv mo nx pv fr bk) :
    rk_Ro (upd st s 1) lv (upd mo s (ms + 1)) (rk_aN nx bk p s) (upd pv s (bk p)) (rk_aF fr bk p s) (upd bk p (nI s)) := by
  refine rk_Rows_congr (R := fun q t => rk_R st lv q t ∨ (q = p ∧ t = s)) (m := rk_m (upd mo s (ms + 1))) ?_ (fun _ _ _ => rfl)
    (rk_rows_add (fun _ _ => rk_R_lt) (fun _ _ _ => rk_R_dj) (fun _ _ _ => rk_R_in hT hM) hp (fun q z => h1 z.2.2.1) (fun t ht => rk_m_ne ht) (fun q t z => ?_) h)
  · intro q t hq
    unfold rk_R
    by_cases e : t = s
    · subst e
      rw [pk_us]
      constructor
      · rintro (z | ⟨rfl, _⟩)
        · exact ⟨z.1, z.2.1, rfl, z.2.2.2⟩
        · exact ⟨hp, hs, rfl, hl⟩
      · rintro ⟨z1, z2, _, z4⟩
        rw [hl] at z4
        exact Or.inr ⟨(rk_inj (by omega) (by omega) z4).symm, rfl⟩
    · rw [pk_un e]
      exact ⟨fun z => z.elim id (fun y => absurd y.2 e), Or.inl⟩
  · rw [rk_m_eq]
    exact rk_Mom_lt hN hM z.2.1 (rk_Tie_al hT z.2.1 (by rw [z.2.2.1]; decide))
/-- a READY one leaves its row -/
theorem rk_Ro_unl (hT : rk_Tie st al) (hM : rk_Mom N al mo ms) (hs : s < 10) (hp : p < 4) (hl : lv s = nI p) (h1 : st s = 1) (hv : v ≠ 1) (h : rk_Ro st lv mo nx pv fr bk) :
    rk_Ro (upd st s v) lv mo (rk_uL nx pv s) (rk_uL pv nx s) (rk_uH fr nx pv p s) (rk_uH bk pv nx p s) := by
  refine rk_Rows_congr (R := fun q t => rk_R st lv q t ∧ t ≠ s) (m := rk_m mo) ?_ (fun _ _ _ => rfl)
    (rk_rows_del (fun _ _ => rk_R_lt) (fun _ _ _ => rk_R_dj) (fun _ _ _ => rk_R_in hT hM) hp ⟨hp, hs, h1, hl⟩ h)
  intro q t hq
  unfold rk_R
  by_cases e : t = s
  · subst e
    rw [pk_us]
    exact ⟨fun z => absurd rfl z.2, fun z => absurd z.2.2.1 hv⟩
  · rw [pk_un e]
    exact ⟨fun z => z.1, fun z => ⟨z, e⟩⟩
/-- a READY one goes to the end of another row, or of its own -/
theorem rk_Ro_mov {p' : Nat} (hN : N + 1 < 2 ^ 31) (hT : rk_Tie st al) (hM : rk_Mom N al mo ms) (hs : s < 10) (hp : p < 4) (hp' : p' < 4) (hl : lv s = nI p) (h1 : st s = 1) (h : rk_Ro st lv mo nx pv fr bk) :
    rk_Ro st (upd lv s (nI p')) (upd mo s (ms + 1)) (rk_aN (rk_uL nx pv s) (rk_uH bk pv nx p s) p' s) (upd (rk_uL pv nx s) s (rk_uH bk pv nx p s p')) (rk_aF (rk_uH fr nx pv p s) (rk_uH bk pv nx p s) p' s) (upd (rk_uH bk pv nx p s) p' (nI s)) := by
  have h2 := rk_rows_del (fun _ _ => rk_R_lt) (fun _ _ _ => rk_R_dj) (fun _ _ _ => rk_R_in hT hM) hp (s := s) ⟨hp, hs, h1, hl⟩ h
  refine rk_Rows_congr (R := fun q t => (rk_R st lv q t ∧ t ≠ s) ∨ (q = p' ∧ t = s)) (m := rk_m (upd mo s (ms + 1))) ?_ (fun _ _ _ => rfl)
    (rk_rows_add (fun _ _ z => rk_R_lt z.1) (fun _ _ _ z y => rk_R_dj z.1 y.1) (fun _ _ _ z y => rk_R_in hT hM z.1 y.1) hp' (fun q z => z.2 rfl) (fun t ht => rk_m_ne ht) (fun q t z => ?_) h2)
  · intro q t hq
    unfold rk_R
    by_cases e : t = s
    · subst e
      rw [pk_us]
      constructor
      · rintro (z | ⟨rfl, _⟩)
        · exact absurd rfl z.2
        · exact ⟨hp', hs, h1, rfl⟩
      · rintro ⟨z1, z2, _, z4⟩
        exact Or.inr ⟨(rk_inj (by omega) (by omega) z4).symm, rfl⟩
    · rw [pk_un e]
      exact ⟨fun z => z.elim (fun y => y.1) (fun y => absurd y.2 e), fun z => Or.inl ⟨z, e⟩⟩
  · rw [rk_m_eq]
    exact rk_Mom_lt hN hM z.1.2.1 (rk_Tie_al hT z.1.2.1 (by rw [z.1.2.2.1]; decide))
/-- one that isn't READY changes state, level, moment: the rows stay -/
theorem rk_Ro_same {x y : Int32} (h1 : st s ≠ 1) (hv : v ≠ 1) (h : rk_Ro st lv mo nx pv fr bk) : rk_Ro (upd st s v) (upd lv s x) (upd mo s y) nx pv fr bk := by
  refine rk_Rows_congr (R := rk_R st lv) (m := rk_m mo) ?_ ?_ h
  · intro q t hq
    unfold rk_R
    by_cases e : t = s
    · subst e
      rw [pk_us]
      exact ⟨fun z => absurd z.2.2.1 h1, fun z => absurd z.2.2.1 hv⟩
    · rw [pk_un e, pk_un e]
  · intro q t z
    exact rk_m_ne (fun e => h1 (e ▸ z.2.2.1))
end
end
section
/-! one state for both objects: C i is the i-th array (a field at 0); X's tuple and Y's tuple are read off it; what both keep alike stands there once -/
abbrev rk_ST : Type := Nat → Nat → Int32
def rk_sA (C : rk_ST) (i : Nat) (a : Nat → Int32) : rk_ST := fun j => bif Nat.beq j i then a else C j
theorem rk_sA_s (C : rk_ST) (i : Nat) (a : Nat → Int32) : rk_sA C i a i = a := by
  unfold rk_sA
  rw [Nat.beq_refl]
  rfl
theorem rk_sA_n (C : rk_ST) {i j : Nat} (a : Nat → Int32) (h : j ≠ i) : rk_sA C i a j = C j := by
  unfold rk_sA
  cases z : Nat.beq j i
  · rfl
  · exact absurd (Nat.eq_of_beq_eq_true z) h
abbrev rk_mX (C : rk_ST) : SX := (C 0 0, C 1 0, C 2 0, C 3 0, C 4 0, C 5 0, C 6 0, C 7 0, C 8, C 9, C 10, C 11, C 12, C 13, C 14, C 15, C 16, C 17, C 18, C 19, C 20, C 21, C 22, C 23, C 24, C 25, C 26, C 27, C 28, C 29, C 30, C 31, C 32, C 33, C 34, C 35, C 36, C 37, C 38, C 39, C 40, C 41, C 42, C 43, C 44, C 45, C 46, C 47, C 48, C 49, C 50, C 51, C 52, C 53, C 54, C 55, C 56)
abbrev rk_mY (C : rk_ST) : SY := (C 57 0, C 58 0, C 8, C 59, C 9, C 10, C 11, C 13, C 60, C 16, C 15, C 61, C 62, C 36, C 38, C 37, C 63, C 64, C 18, C 65, C 66, C 67, C 68, C 39, C 42, C 43, C 40, C 69, C 70, C 49, C 52, C 51, C 53, C 71, C 72, C 54, C 73, C 74, C 56)
/-! rows -/
def rk_unl (C : rk_ST) (s p : Nat) : rk_ST :=
  rk_sA (rk_sA (rk_sA (rk_sA C 19 (rk_uL (C 19) (C 20) s)) 20 (rk_uL (C 20) (C 19) s)) 21 (rk_uH (C 21) (C 19) (C 20) p s)) 22 (rk_uH (C 22) (C 20) (C 19) p s)
def rk_app (C : rk_ST) (s p : Nat) : rk_ST :=
  rk_sA (rk_sA (rk_sA (rk_sA C 19 (rk_aN (C 19) (C 22) p s)) 20 (upd (C 20) s ((C 22) p))) 21 (rk_aF (C 21) (C 22) p s)) 22 (upd (C 22) p (nI s))
theorem rk_xappend {post : SX → Prop} {C : rk_ST} {s p : Nat} (hs : s < 10) (hp : p < 4) (hl : (C 10) s = nI p) (hb : rk_cd 10 ((C 22) p)) (K : post (rk_mX (rk_app C s p))) : wpX_append post (rk_mX C) (nI s) := by
  have i10 : vp_in (nI s) 10 := rk_in hs
  have i4 : vp_in (nI p) 4 := rk_in hp
  have es : (nI s).toNatClampNeg = s := rk_cl (by omega)
  have ep : (nI p).toNatClampNeg = p := rk_cl (by omega)
  refine And.intro i10 (nm_r (e' := nI p) (by rw [es]; exact hl) ⟨i10, nm_r (e' := upd (C 19) s (-1)) (by rw [es, rk_vbm]) ⟨i4, i10, nm_r (e' := upd (C 20) s ((C 22) p)) (by rw [es, ep, rk_vbc (by decide) hb]) ⟨i4, ?_⟩⟩⟩)
  rcases hb with e | ⟨b, hb, e⟩
  · unfold rk_app at K
    rw [rk_aN_pos e, rk_aF_pos e] at K
    exact br_t (by rw [ep, e]; exact rk_m1lt) ⟨i4, nm_r (e' := upd (C 21) p (nI s)) (by rw [ep, rk_vb8 (by omega)]) ⟨i4, nm_r (e' := upd (C 22) p (nI s)) (by rw [ep, rk_vb8 (by omega)]) K⟩⟩
  · unfold rk_app at K
    rw [rk_aN_neg e (by omega), rk_aF_neg e (by omega)] at K
    exact br_f (by rw [ep, e]; exact nI_pos (by omega)) ⟨i4, by rw [ep, e]; exact rk_in hb, nm_r (e' := upd (upd (C 19) s (-1)) b (nI s)) (by rw [ep, e, rk_cl (by omega), rk_vb8 (by omega)]) ⟨i4, nm_r (e' := upd (C 22) p (nI s)) (by rw [ep, rk_vb8 (by omega)]) K⟩⟩
theorem rk_uL_g {f g g' : Nat → Int32} {s : Nat} (h : g' s = g s) : rk_uL f g' s = rk_uL f g s := by
  unfold rk_uL
  rw [h]
theorem rk_uH_g {h f g g' : Nat → Int32} {p s : Nat} (e : g' s = g s) : rk_uH h f g' p s = rk_uH h f g p s := by
  unfold rk_uH
  rw [e]
theorem rk_up_self (f : Nat → Int32) (a s : Nat) : upd f a (f s) s = f s := by
  by_cases h : s = a
  · rw [h, pk_us]
  · exact pk_un h
theorem rk_xunlink48 {post : SX → Prop} {C : rk_ST} {s p : Nat} (hs : s < 10) (hp : p < 4) (hn : rk_cd 10 ((C 19) s)) (hv : rk_cd 10 ((C 20) s))
    (K : post (rk_mX (rk_sA (rk_sA C 20 (rk_uL (C 20) (C 19) s)) 22 (rk_uH (C 22) (C 20) (C 19) p s)))) : wX_unlink_48 post (nI s) (nI p) (C 0 0) (C 1 0) (C 2 0) (C 3 0) (C 4 0) (C 5 0) (C 6 0) (C 7 0) (C 8) (C 9) (C 10) (C 11) (C 12) (C 13) (C 14) (C 15) (C 16) (C 17) (C 18) (C 19) (C 20) (C 21) (C 22) (C 23) (C 24) (C 25) (C 26) (C 27) (C 28) (C 29) (C 30) (C 31) (C 32) (C 33) (C 34) (C 35) (C 36) (C 37) (C 38) (C 39) (C 40) (C 41) (C 42) (C 43) (C 44) (C 45) (C 46) (C 47) (C 48) (C 49) (C 50) (C 51) (C 52) (C 53) (C 54) (C 55) (C 56) := by
  have i10 : vp_in (nI s) 10 := rk_in hs
  have i4 : vp_in (nI p) 4 := rk_in hp
  have es : (nI s).toNatClampNeg = s := rk_cl (by omega)
  have ep : (nI p).toNatClampNeg = p := rk_cl (by omega)
  rcases hn with e | ⟨b, hb, e⟩
  · rw [rk_uL_pos e, rk_uH_pos e] at K
    exact And.intro i10 (br_t (by rw [es, e]; exact rk_m1lt) ⟨i10, i4, nm_r (e' := upd (C 22) p ((C 20) s)) (by rw [es, ep, rk_vbc (by decide) hv]) K⟩)
  · rw [rk_uL_neg e (by omega), rk_uH_neg e (by omega)] at K
    exact And.intro i10 (br_f (by rw [es, e]; exact nI_pos (by omega)) ⟨i10, i10, by rw [es, e]; exact rk_in hb, nm_r (e' := upd (C 20) b ((C 20) s)) (by rw [es, e, rk_cl (by omega), rk_vbc (by decide) hv]) K⟩)
theorem rk_xunlink {post : SX → Prop} {C : rk_ST} {s p : Nat} (hs : s < 10) (hp : p < 4) (hl : (C 10) s = nI p) (hn : rk_cd 10 ((C 19) s)) (hv : rk_cd 10 ((C 20) s)) (K : post (rk_mX (rk_unl C s p))) : wpX_unlink post (rk_mX C) (nI s) := by
  have i10 : vp_in (nI s) 10 := rk_in hs
  have i4 : vp_in (nI p) 4 := rk_in hp
  have es : (nI s).toNatClampNeg = s := rk_cl (by omega)
  have ep : (nI p).toNatClampNeg = p := rk_cl (by omega)
  refine And.intro i10 (nm_r (e' := nI p) (by rw [es]; exact hl) ⟨i10, ?_⟩)
  unfold rk_unl at K
  have hv' := hv
  rcases hv with e | ⟨a, ha, e⟩
  · rw [rk_uL_pos (f := (C 19)) e, rk_uH_pos (h := (C 21)) e] at K
    exact br_t (by rw [es, e]; exact rk_m1lt) ⟨i10, i4, nm_r (e' := upd (C 21) p ((C 19) s)) (by rw [es, ep, rk_vbc (by decide) hn]) (rk_xunlink48 (C := rk_sA C 21 (upd (C 21) p ((C 19) s))) hs hp hn hv' K)⟩
  · rw [rk_uL_neg (f := (C 19)) e (by omega), rk_uH_neg (h := (C 21)) e (by omega)] at K
    have es' : upd (C 19) a ((C 19) s) s = (C 19) s := rk_up_self _ _ _
    rw [← rk_uL_g (f := (C 20)) es', ← rk_uH_g (h := (C 22)) (f := (C 20)) es'] at K
    exact br_f (by rw [es, e]; exact nI_pos (by omega)) ⟨i10, i10, by rw [es, e]; exact rk_in ha, nm_r (e' := upd (C 19) a ((C 19) s)) (by rw [es, e, rk_cl (by omega), rk_vbc (by decide) hn]) (rk_xunlink48 (C := rk_sA C 19 (upd (C 19) a ((C 19) s))) hs hp (by show rk_cd 10 (upd (C 19) a ((C 19) s) s); rw [es']; exact hn) hv' K)⟩
end
section
/-! the core, second part: waits, cycles, queues under one change -/
def rk_nr (st wh be : Nat → Int32) (r s : Nat) : Prop := ∃ ch : Nat → Prop, ch r ∧ (∀ a b, ch b → rk_W st wh be a b → ch a) ∧ ¬ ch s
section
variable {st st' al al' lv lv' bs tk be be' yb mo mo' nx pv fr bk wh wh' ot ot' re re' wt wt' ca ca' yc yc' bh fi la se : Nat → Int32} {N s r p : Nat} {ms v x old how : Int32} {D D' : Nat → Prop}
theorem rk_wg_ne {t : Nat} (e : t ≠ s) : rk_wg (upd st s v) t ↔ rk_wg st t := by
  unfold rk_wg
  rw [pk_un e]
theorem rk_wg_1 : ¬ rk_wg (upd st s 1) s := by
  unfold rk_wg
  rw [pk_us]
  decide
theorem rk_wg_0 : ¬ rk_wg (upd st s 0) s := by
  unfold rk_wg
  rw [pk_us]
  decide
theorem rk_Wt_rdy (hb : ∀ r t, r < 10 → t < 10 → bt (wt' r) t = (bt (wt r) t && !decide (t = s))) (hre : ∀ t, t ≠ s → re' t = re t) (hca : ∀ t, t ≠ s → ca' t = ca t) (hwh : ∀ t, t ≠ s → wh' t = wh t) (hD : ∀ t, t ≠ s → (D' t ↔ D t))
    (h : rk_Wt D old st al wh ot re be wt ca yc) : rk_Wt D' old (upd st s 1) al wh' ot re' be wt' ca' yc := by
  obtain ⟨h1, h2, h3⟩ := h
  refine ⟨fun t ht hw => ?_, fun r t hr ht => ?_, fun t ht hw => ?_⟩
  · have e : t ≠ s := fun e => rk_wg_1 (e ▸ hw)
    have h4 := h1 t ht ((rk_wg_ne e).mp hw)
    rw [hre t e, hwh t e, pk_un e, hD t e]
    exact h4
  · rw [hb r t hr ht]
    by_cases e : t = s
    · rw [decide_eq_true e]
      subst e
      simp only [Bool.not_true, Bool.and_false, Bool.false_eq_true, false_iff]
      exact fun z => rk_wg_1 z.2.2.1
    · rw [decide_eq_false e, Bool.not_false, Bool.and_true, h2 r t hr ht]
      unfold rk_W
      rw [rk_wg_ne e, hwh t e]
  · have e : t ≠ s := fun e => by subst e; rw [pk_us] at hw; exact absurd hw (by decide)
    rw [pk_un e] at hw
    rw [hca t e]
    exact h3 t ht hw
theorem rk_Wt_blk (hv : v = 2 ∨ v = 3 ∨ v = 4) (h1 : st s = 1) (hDs : ¬ D s) (hx : (x = -1 ∧ v = 3) ∨ ∃ r, r < 10 ∧ r ≠ s ∧ al r = 1 ∧ x = rk_ep be r)
    (hb : ∀ r t, r < 10 → t < 10 → bt (wt' r) t = (bt (wt r) t || decide (t = s ∧ x = rk_ep be r))) (hca : ∀ t, t ≠ s → ca' t = ca t) (hyc : ∀ t, t ≠ s → yc' t = yc t) (h2 : v = 2 → ca' s = yc' s ∧ (ca' s = 0 ∨ ca' s = 1))
    (h : rk_Wt D old st al wh ot re be wt ca yc) : rk_Wt D old (upd st s v) al (upd wh s x) (upd ot s x) (upd re s 0) be wt' ca' yc' := by
  obtain ⟨a1, a2, a3⟩ := h
  refine ⟨fun t ht hw => ?_, fun r t hr ht => ?_, fun t ht hw => ?_⟩
  · by_cases e : t = s
    · subst e
      rw [pk_us, pk_us, pk_us, pk_us]
      refine ⟨rfl, rfl, ?_⟩
      rcases hx with z | z
      · exact Or.inl ⟨hDs, z⟩
      · exact Or.inr (Or.inl ⟨hDs, z⟩)
    · rw [pk_un e, pk_un e, pk_un e, pk_un e]
      exact a1 t ht ((rk_wg_ne e).mp hw)
  · rw [hb r t hr ht]
    by_cases e : t = s
    · subst e
      have z : bt (wt r) t = false := by
        cases z : bt (wt r) t
        · rfl
        · have y := ((a2 r t hr ht).mp z).2.2.1
          exact absurd h1 (rk_wg_ne1 y)
      rw [z, Bool.false_or, decide_eq_true_iff]
      unfold rk_W rk_wg
      rw [pk_us, pk_us]
      exact ⟨fun y => ⟨hr, ht, hv, y.2⟩, fun y => ⟨rfl, y.2.2.2⟩⟩
    · rw [decide_eq_false (fun y => e y.1), Bool.or_false, a2 r t hr ht]
      unfold rk_W
      rw [rk_wg_ne e, pk_un e]
  · by_cases e : t = s
    · subst e
      rw [pk_us] at hw
      exact h2 hw
    · rw [pk_un e] at hw
      rw [hca t e, hyc t e]
      exact a3 t ht hw
theorem rk_Wt_awt (h2 : st s = 2) (hca : ∀ t, t ≠ s → ca' t = ca t) (h : rk_Wt D old st al wh ot re be wt ca yc) : rk_Wt D old (upd st s 4) al wh (upd ot s (wh s)) re be wt ca' yc := by
  obtain ⟨a1, a2, a3⟩ := h
  refine ⟨fun t ht hw => ?_, fun r t hr ht => ?_, fun t ht hw => ?_⟩
  · by_cases e : t = s
    · subst e
      have z := a1 t ht (Or.inl h2)
      rw [pk_us, pk_us]
      refine ⟨rfl, z.2.1, ?_⟩
      rcases z.2.2 with y | y | y
      · rw [h2] at y; exact absurd y.2.2 (by decide)
      · exact Or.inr (Or.inl y)
      · exact Or.inr (Or.inr y)
    · rw [pk_un e, pk_un e]
      exact a1 t ht ((rk_wg_ne e).mp hw)
  · rw [a2 r t hr ht]
    unfold rk_W
    by_cases e : t = s
    · subst e
      unfold rk_wg
      rw [pk_us, h2]
      exact ⟨fun y => ⟨y.1, y.2.1, Or.inr (Or.inr rfl), y.2.2.2⟩, fun y => ⟨y.1, y.2.1, Or.inl rfl, y.2.2.2⟩⟩
    · rw [rk_wg_ne e]
  · have e : t ≠ s := fun e => by subst e; rw [pk_us] at hw; exact absurd hw (by decide)
    rw [pk_un e] at hw
    rw [hca t e]
    exact a3 t ht hw
theorem rk_Wt_new (hl : ∀ t, al t = 1 → al' t = 1) (h0 : st s = 0) (hre : ∀ t, t ≠ s → re' t = re t) (hwh : ∀ t, t ≠ s → wh' t = wh t) (h : rk_Wt D old st al wh ot re be wt ca yc) : rk_Wt D old (upd st s 1) al' wh' ot re' be wt ca yc := by
  obtain ⟨a1, a2, a3⟩ := h
  refine ⟨fun t ht hw => ?_, fun r t hr ht => ?_, fun t ht hw => ?_⟩
  · have e : t ≠ s := fun e => rk_wg_1 (e ▸ hw)
    have h4 := a1 t ht ((rk_wg_ne e).mp hw)
    rw [hre t e, hwh t e, pk_un e]
    refine ⟨h4.1, h4.2.1, ?_⟩
    rcases h4.2.2 with y | ⟨y0, r, y1, y2, y3, y4⟩ | y
    · exact Or.inl y
    · exact Or.inr (Or.inl ⟨y0, r, y1, y2, hl r y3, y4⟩)
    · exact Or.inr (Or.inr y)
  · rw [a2 r t hr ht]
    unfold rk_W
    by_cases e : t = s
    · subst e
      exact ⟨fun y => absurd h0 (rk_wg_ne0 y.2.2.1), fun y => absurd y.2.2.1 rk_wg_1⟩
    · rw [rk_wg_ne e, hwh t e]
  · have e : t ≠ s := fun e => by subst e; rw [pk_us] at hw; exact absurd hw (by decide)
    rw [pk_un e] at hw
    exact a3 t ht hw
/-! cycles -/
theorem rk_Ac_mono (hW : ∀ r t, rk_W st' wh' be' r t → rk_W st wh be r t) (h : rk_Ac st wh be) : rk_Ac st' wh' be' := by
  obtain ⟨f, hf⟩ := h
  exact ⟨f, fun r t z => hf r t (hW r t z)⟩
theorem rk_Ac_add (hn : rk_nr st wh be r s) (hW : ∀ r' t, rk_W st' wh' be r' t → rk_W st wh be r' t ∨ (r' = r ∧ t = s)) (h : rk_Ac st wh be) : rk_Ac st' wh' be := by
  obtain ⟨f, hf⟩ := h
  obtain ⟨ch, c1, c2, c3⟩ := hn
  classical
  refine ⟨fun y => if ch y then f y else f y + f r + 1, fun a b z => ?_⟩
  show (if ch a then f a else f a + f r + 1) < (if ch b then f b else f b + f r + 1)
  rcases hW a b z with y | ⟨y1, y2⟩
  · have h4 := hf a b y
    by_cases hb : ch b
    · rw [if_pos hb, if_pos (c2 a b hb y)]
      exact h4
    · rw [if_neg hb]
      split <;> omega
  · subst y1 y2
    rw [if_pos c1, if_neg c3]
    omega
/-! queues -/
theorem rk_sb_S {t : Nat} (hr : r < 10) (ht : t < 10) : rk_sb st wh be r t = true ↔ rk_S st wh be r t := by
  unfold rk_sb rk_S
  rw [decide_eq_true_iff]
  exact ⟨fun z => ⟨hr, ht, z⟩, fun z => z.2.2⟩
theorem rk_sb_eq {t : Nat} (hr : r < 10) (ht : t < 10) (h : rk_S st' wh' be' r t ↔ rk_S st wh be r t) : rk_sb st' wh' be' r t = rk_sb st wh be r t := by
  rw [Bool.eq_iff_iff, rk_sb_S hr ht, rk_sb_S hr ht]
  exact h
theorem rk_Qu_same (hS : ∀ r t, rk_S st' wh' be' r t ↔ rk_S st wh be r t) (hm : ∀ r t, rk_S st wh be r t → rk_m mo' t = rk_m mo t) (h : rk_Qu st wh be mo bh fi la se) : rk_Qu st' wh' be' mo' bh fi la se := by
  intro r hr
  obtain ⟨h1, h2⟩ := h r hr
  refine ⟨rk_SL_congr (fun t => (hS r t).symm) (hm r) (fun _ _ => rfl) rfl rfl h1, ?_⟩
  rw [h2]
  exact congrArg nI (rk_cn_congr (fun t ht => (rk_sb_eq hr ht (hS r t)).symm))
theorem rk_se_0 (hr : r < 10) (h : rk_Qu st wh be mo bh fi la se) : se r ≤ 0 ↔ ∀ t, ¬ rk_S st wh be r t := by
  have c10 := rk_cn_le (rk_sb st wh be r) 10
  rw [(h r hr).2]
  by_cases c : 0 < rk_cn (rk_sb st wh be r) 10
  · obtain ⟨i, hi, hp⟩ := rk_cn_pos.mp c
    exact ⟨fun z => absurd z (nI_nle c (by omega)), fun z => absurd ((rk_sb_S hr hi).mp hp) (z i)⟩
  · refine ⟨fun _ t z => c (rk_cn_pos.mpr ⟨t, z.2.1, (rk_sb_S hr z.2.1).mpr z⟩), fun _ => ?_⟩
    rw [show rk_cn (rk_sb st wh be r) 10 = 0 by omega]
    decide
theorem rk_Qu_add (inj : ∀ a b, rk_S st wh be r a → rk_S st wh be r b → rk_m mo a = rk_m mo b → a = b) (hep : ∀ q t, rk_S st wh be q t → rk_S st wh be r t → q = r) (hr : r < 10) (hs : s < 10) (hns : ∀ q, ¬ rk_S st wh be q s)
    (hS : ∀ q t, rk_S st' wh' be' q t ↔ (rk_S st wh be q t ∨ (q = r ∧ t = s))) (hm : ∀ t, t ≠ s → rk_m mo' t = rk_m mo t) (hlt : ∀ t, rk_S st wh be r t → rk_m mo t < rk_m mo' s)
    (h : rk_Qu st wh be mo bh fi la se) : rk_Qu st' wh' be' mo' (rk_qB bh la se r s) (rk_qF fi se r s) (upd la r (nI s)) (upd se r (se r + 1)) := by
  have k := rk_fam_add inj hep (fun q t z => by have := z.2.1; omega) hns hm hlt hr (rk_se_0 hr h) (fun q hq => (h q hq).1)
  intro q hq
  refine ⟨rk_SL_congr (fun t => (hS q t).symm) (fun _ _ => rfl) (fun _ _ => rfl) rfl rfl (k q hq), ?_⟩
  by_cases e : q = r
  · subst e
    rw [pk_us, (h q hq).2, nI_1]
    refine congrArg nI (rk_cn_add hs (fun t ht hne => ?_) ?_ ?_).symm
    · refine (rk_sb_eq hr ht ?_).symm
      rw [hS q t]
      exact ⟨fun z => z.elim id (fun y => absurd y.2 hne), Or.inl⟩
    · cases z : rk_sb st wh be q s
      · rfl
      · exact absurd ((rk_sb_S hr hs).mp z) (hns q)
    · exact (rk_sb_S hr hs).mpr ((hS q s).mpr (Or.inr ⟨rfl, rfl⟩))
  · rw [pk_un e, (h q hq).2]
    refine congrArg nI (rk_cn_congr (fun t ht => (rk_sb_eq hq ht ?_).symm))
    rw [hS q t]
    exact ⟨fun z => z.elim id (fun y => absurd y.1 e), Or.inl⟩
theorem rk_Qu_del {pc : Int32} (inj : ∀ a b, rk_S st wh be r a → rk_S st wh be r b → rk_m mo a = rk_m mo b → a = b) (hep : ∀ q t, rk_S st wh be q t → rk_S st wh be r t → q = r) (hr : r < 10) (hs : rk_S st wh be r s) (hpc : rk_Pv (rk_S st wh be r) (rk_m mo) s pc)
    (hS : ∀ q t, rk_S st' wh' be' q t ↔ (rk_S st wh be q t ∧ t ≠ s)) (hm : ∀ t, t ≠ s → rk_m mo' t = rk_m mo t)
    (h : rk_Qu st wh be mo bh fi la se) : rk_Qu st' wh' be' mo' (rk_dB bh pc s) (rk_dF fi bh pc r s) (rk_dL la pc r s) (upd se r (se r - 1)) := by
  have k := rk_fam_del inj hep (fun q t z => by have := z.2.1; omega) hr hs hpc (fun q hq => (h q hq).1)
  have hs10 := hs.2.1
  intro q hq
  refine ⟨rk_SL_congr (fun t => (hS q t).symm) (fun t z => hm t z.2) (fun _ _ => rfl) rfl rfl (k q hq), ?_⟩
  by_cases e : q = r
  · subst e
    have c : rk_cn (rk_sb st wh be q) 10 = rk_cn (rk_sb st' wh' be' q) 10 + 1 := by
      refine rk_cn_add hs10 (fun t ht hne => ?_) ?_ ((rk_sb_S hr hs10).mpr hs)
      · refine rk_sb_eq hr ht ?_
        rw [hS q t]
        exact ⟨fun z => z.1, fun z => ⟨z, hne⟩⟩
      · cases z : rk_sb st' wh' be' q s
        · rfl
        · exact absurd rfl (((hS q s).mp ((rk_sb_S hr hs10).mp z)).2)
    rw [pk_us, (h q hq).2, c, nI_pred]
  · rw [pk_un e, (h q hq).2]
    refine congrArg nI (rk_cn_congr (fun t ht => (rk_sb_eq hq ht ?_).symm))
    rw [hS q t]
    exact ⟨fun z => z.1, fun z => ⟨z, fun y => e (hep q t z (y ▸ hs))⟩⟩
end
end
section
/-! letters: Q the cells in use, in the order of Y's list; tt whereto; sg stamps that grow along Q; F the free cells, a chain -/
def rk_Ch (ln : Nat → Int32) : Int32 → List Nat → Prop
  | v, [] => v = -1
  | v, c :: F => v = nI c ∧ rk_Ch ln (ln c) F
def rk_LY (Q : List Nat) (tt : Nat → Nat) (lf lw yf yt yx : Nat → Int32) (yl : Int32) : Prop :=
  yl = nI Q.length ∧ ∀ i c, Q[i]? = some c → yf i = lf c ∧ yt i = nI (tt c) ∧ yx i = lw c
def rk_T (Q : List Nat) (tt : Nat → Nat) (r c : Nat) : Prop := c ∈ Q ∧ tt c = r
def rk_LX (Q : List Nat) (tt : Nat → Nat) (sg : Nat → Int) (F : List Nat) (al lf ln f1 f2 lc po : Nat → Int32) (sp : Int32) : Prop :=
  (∀ c, c ∈ Q → c < 30 ∧ tt c < 10 ∧ al (tt c) = 1 ∧ ∃ a, a < 10 ∧ al a = 1 ∧ lf c = nI a) ∧
  Q.Pairwise (fun a b => sg a < sg b) ∧
  (∀ r, r < 10 → rk_SL (rk_T Q tt r) sg ln (f1 r) (f2 r)) ∧
  (∀ r, r < 10 → lc r = nI (Q.countP (fun c => tt c == r)) ∧ po r = nI (Q.countP (fun c => lf c == nI r)) ∧ Q.countP (fun c => lf c == nI r) ≤ 3) ∧
  rk_Ch ln sp F ∧ F.Nodup ∧ (∀ c, c ∈ F → c < 30 ∧ c ∉ Q) ∧ F.length + Q.length = 30
def rk_Le (al lf ln f1 f2 lc po lw : Nat → Int32) (sp yl : Int32) (yf yt yx : Nat → Int32) : Prop :=
  ∃ Q tt sg F, rk_LX Q tt sg F al lf ln f1 f2 lc po sp ∧ rk_LY Q tt lf lw yf yt yx yl
def rk_sh (f : Nat → Int32) (k n : Nat) : Nat → Int32 := fun i => if k ≤ i ∧ i < n then f (i + 1) else f i
def rk_sm (f : Nat → Nat) : Nat → Nat
  | 0 => 0
  | n + 1 => rk_sm f n + f n
section
variable {Q A1 A2 F : List Nat} {tt : Nat → Nat} {sg : Nat → Int} {al al' lf ln ln' f1 f2 lc po lw yf yt yx : Nat → Int32} {sp yl pc v x : Int32} {r c a k n : Nat}
theorem rk_Ch_congr (h : ∀ c, c ∈ F → ln' c = ln c) : ∀ v, rk_Ch ln v F → rk_Ch ln' v F := by
  induction F with
  | nil => exact fun v z => z
  | cons d F ih =>
    rintro v ⟨z1, z2⟩
    refine ⟨z1, ?_⟩
    rw [h d List.mem_cons_self]
    exact ih (fun c hc => h c (List.mem_cons_of_mem d hc)) _ z2
theorem rk_sg_nd (h : Q.Pairwise (fun a b => sg a < sg b)) : Q.Nodup := h.imp (fun {a b} z e => by subst e; omega)
theorem rk_sg_in (h : Q.Pairwise (fun a b => sg a < sg b)) : ∀ a b, a ∈ Q → b ∈ Q → sg a = sg b → a = b := by
  induction Q with
  | nil => exact fun a b z => absurd z List.not_mem_nil
  | cons d Q ih =>
    rw [List.pairwise_cons] at h
    intro a b ha hb e
    rcases List.mem_cons.mp ha with za | za
    · rcases List.mem_cons.mp hb with zb | zb
      · rw [za, zb]
      · have := h.1 b zb
        subst za
        omega
    · rcases List.mem_cons.mp hb with zb | zb
      · have := h.1 a za
        subst zb
        omega
      · exact ih h.2 a b za zb e
theorem rk_sg_max (sg : Nat → Int) (Q : List Nat) : ∃ B : Int, ∀ x, x ∈ Q → sg x < B := by
  induction Q with
  | nil => exact ⟨0, fun x z => absurd z List.not_mem_nil⟩
  | cons d Q ih =>
    obtain ⟨B, hB⟩ := ih
    refine ⟨max B (sg d + 1), fun x hx => ?_⟩
    rcases List.mem_cons.mp hx with z | z
    · subst z; omega
    · have := hB x z; omega
theorem rk_split : ∀ (Q : List Nat) (k c : Nat), Q[k]? = some c → ∃ A1 A2, Q = A1 ++ c :: A2 ∧ A1.length = k := by
  intro Q
  induction Q with
  | nil => intro k c h; simp at h
  | cons d Q ih =>
    intro k c h
    cases k with
    | zero =>
      have e : d = c := by simpa using h
      exact ⟨[], Q, by rw [e]; rfl, rfl⟩
    | succ k =>
      obtain ⟨A1, A2, e, l⟩ := ih k c (by simpa using h)
      exact ⟨d :: A1, A2, by rw [e]; rfl, by rw [List.length_cons, l]⟩
theorem rk_T_dj {q q' t : Nat} (h : rk_T Q tt q t) (h' : rk_T Q tt q' t) : q = q' := h.2.symm.trans h'.2
theorem rk_T_in (hp : Q.Pairwise (fun a b => sg a < sg b)) (r : Nat) : ∀ a b, rk_T Q tt r a → rk_T Q tt r b → sg a = sg b → a = b := fun a b ha hb e => rk_sg_in hp a b ha.1 hb.1 e
theorem rk_nd_mid (h : (A1 ++ c :: A2).Nodup) : c ∉ A1 ∧ c ∉ A2 := by
  rw [List.nodup_append] at h
  obtain ⟨_, h2, h3⟩ := h
  rw [List.nodup_cons] at h2
  exact ⟨fun z => h3 c z c List.mem_cons_self rfl, h2.1⟩
theorem rk_LX_del (ha : a < 10) (hr : tt c = r) (hf : lf c = nI a) (hpc : rk_Pv (rk_T (A1 ++ c :: A2) tt r) sg c pc) (h : rk_LX (A1 ++ c :: A2) tt sg F al lf ln f1 f2 lc po sp) :
    rk_LX (A1 ++ A2) tt sg (c :: F) al lf (upd (rk_dB ln pc c) c sp) (rk_dF f1 ln pc r c) (rk_dL f2 pc r c) (upd lc r (lc r - 1)) (upd po a (po a - 1)) (nI c) := by
  obtain ⟨h1, h2, h3, h4, h5, h6, h7, h8⟩ := h
  have hc : c ∈ A1 ++ c :: A2 := List.mem_append_right _ List.mem_cons_self
  have nd := rk_nd_mid (rk_sg_nd h2)
  have hc30 := (h1 c hc).1
  have hr10 : r < 10 := by rw [← hr]; exact (h1 c hc).2.1
  have hsub : ∀ x, x ∈ A1 ++ A2 ↔ (x ∈ A1 ++ c :: A2 ∧ x ≠ c) := by
    intro x
    rw [List.mem_append, List.mem_append, List.mem_cons]
    constructor
    · rintro (z | z)
      · exact ⟨Or.inl z, fun e => nd.1 (e ▸ z)⟩
      · exact ⟨Or.inr (Or.inr z), fun e => nd.2 (e ▸ z)⟩
    · rintro ⟨z | z | z, e⟩
      · exact Or.inl z
      · exact absurd z e
      · exact Or.inr z
  have hcF : c ∉ F := fun z => (h7 c z).2 hc
  have k := rk_fam_del (S := rk_T (A1 ++ c :: A2) tt) (rk_T_in h2 r) (fun q t z y => rk_T_dj z y) (fun q t z => by have := (h1 t z.1).1; omega) hr10 ⟨hc, hr⟩ hpc h3
  refine ⟨fun x hx => h1 x ((hsub x).mp hx).1, ?_, fun q hq => ?_, fun q hq => ?_, ⟨rfl, ?_⟩, List.nodup_cons.mpr ⟨hcF, h6⟩, ?_, ?_⟩
  · rw [List.pairwise_append] at h2 ⊢
    obtain ⟨a1, a2, a3⟩ := h2
    rw [List.pairwise_cons] at a2
    exact ⟨a1, a2.2, fun x hx y hy => a3 x hx y (List.mem_cons_of_mem c hy)⟩
  · refine rk_SL_congr (fun t => ?_) (fun _ _ => rfl) (fun t z => pk_un z.2) rfl rfl (k q hq)
    unfold rk_T
    rw [hsub t]
    exact ⟨fun z => ⟨⟨z.1.1, z.2⟩, z.1.2⟩, fun z => ⟨⟨z.1.1, z.2⟩, z.1.2⟩⟩
  · obtain ⟨b1, b2, b3⟩ := h4 q hq
    rw [List.countP_append, List.countP_cons] at b1 b2 b3
    rw [List.countP_append, List.countP_append]
    refine ⟨?_, ?_, by omega⟩
    · by_cases e : q = r
      · subst e
        rw [pk_us, b1, if_pos (by rw [hr]; exact beq_self_eq_true q), ← Nat.add_assoc, nI_pred]
      · rw [pk_un e, b1, if_neg (by rw [hr]; intro z; exact e (beq_iff_eq.mp z).symm), Nat.add_zero]
    · by_cases e : q = a
      · subst e
        rw [pk_us, b2, if_pos (by rw [hf]; exact beq_self_eq_true (nI q)), ← Nat.add_assoc, nI_pred]
      · rw [pk_un e, b2, if_neg (by rw [hf]; intro z; exact e (rk_inj (by omega) (by omega) (beq_iff_eq.mp z)).symm), Nat.add_zero]
  · rw [pk_us]
    refine rk_Ch_congr (fun x hx => ?_) sp h5
    have hxc : x ≠ c := fun e => hcF (e ▸ hx)
    rw [pk_un hxc]
    rcases hpc with ⟨z1, z2⟩ | ⟨b, z1, z2, z3, z4⟩
    · unfold rk_dB
      rw [z1, if_neg rk_m1nle]
    · unfold rk_dB
      have := (h1 b z2.1).1
      rw [z1, if_pos (nI_pos' (by omega)), rk_cl (by omega), pk_un (j := x) (k := b) (fun e => (h7 x hx).2 (e ▸ z2.1))]
  · intro x hx
    rcases List.mem_cons.mp hx with z | z
    · subst z
      exact ⟨hc30, fun y => ((hsub x).mp y).2 rfl⟩
    · exact ⟨(h7 x z).1, fun y => (h7 x z).2 ((hsub x).mp y).1⟩
  · simp only [List.length_append, List.length_cons] at h8 ⊢
    omega
theorem rk_LX_add (hr : r < 10) (hlr : al r = 1) (ha : a < 10) (hla : al a = 1) (h3c : Q.countP (fun c => lf c == nI a) < 3) (h : rk_LX Q tt sg (c :: F) al lf ln f1 f2 lc po sp) :
    ∃ sg', rk_LX (Q ++ [c]) (fun x => if x = c then r else tt x) sg' F al (upd lf c (nI a)) (rk_qB ln f2 lc r c) (rk_qF f1 lc r c) (upd f2 r (nI c)) (upd lc r (lc r + 1)) (upd po a (po a + 1)) (ln c) := by
  obtain ⟨h1, h2, h3, h4, h5, h6, h7, h8⟩ := h
  obtain ⟨B, hB⟩ := rk_sg_max sg Q
  have hcQ : c ∉ Q := (h7 c List.mem_cons_self).2
  have hc30 := (h7 c List.mem_cons_self).1
  rw [List.nodup_cons] at h6
  have hne : ∀ x, x ∈ Q → x ≠ c := fun x hx e => hcQ (e ▸ hx)
  have hse : lc r ≤ 0 ↔ ∀ t, ¬ rk_T Q tt r t := by
    have hl : Q.countP (fun c => tt c == r) ≤ Q.length := List.countP_le_length
    rw [(h4 r hr).1]
    by_cases z : 0 < Q.countP (fun c => tt c == r)
    · obtain ⟨t, y1, y2⟩ := List.countP_pos_iff.mp z
      exact ⟨fun y => absurd y (nI_nle z (by omega)), fun y => absurd ⟨y1, beq_iff_eq.mp y2⟩ (y t)⟩
    · refine ⟨fun _ t y => z (List.countP_pos_iff.mpr ⟨t, y.1, beq_iff_eq.mpr y.2⟩), fun _ => ?_⟩
      rw [show Q.countP (fun c => tt c == r) = 0 by omega]
      decide
  refine ⟨fun x => if x = c then B else sg x, ?_⟩
  have k := rk_fam_add (S := rk_T Q tt) (m := sg) (m' := fun x => if x = c then B else sg x) (se := lc) (rk_T_in h2 r) (fun q t z y => rk_T_dj z y) (fun q t z => by have := (h1 t z.1).1; omega) (fun q z => hcQ z.1) (fun t ht => if_neg ht) (fun t z => by show sg t < (if c = c then B else sg c); rw [if_pos rfl]; exact hB t z.1) hr hse h3
  have hlf : ∀ x, x ∈ Q → upd lf c (nI a) x = lf x := fun x hx => pk_un (hne x hx)
  have hcnt : ∀ b : Int32, Q.countP (fun x => upd lf c (nI a) x == b) = Q.countP (fun x => lf x == b) := fun b => List.countP_congr (fun x hx => by rw [hlf x hx])
  have htt : Q.countP (fun x => (if x = c then r else tt x) == r) = Q.countP (fun x => tt x == r) := List.countP_congr (fun x hx => by rw [if_neg (hne x hx)])
  refine ⟨fun x hx => ?_, ?_, fun q hq => ?_, fun q hq => ?_, ?_, h6.2, fun x hx => ?_, ?_⟩
  · show x < 30 ∧ (if x = c then r else tt x) < 10 ∧ al (if x = c then r else tt x) = 1 ∧ _
    rcases List.mem_append.mp hx with z | z
    · rw [if_neg (hne x z), hlf x z]
      exact h1 x z
    · have e : x = c := List.mem_singleton.mp z
      rw [if_pos e, e, pk_us]
      exact ⟨hc30, hr, hlr, a, ha, hla, rfl⟩
  · rw [List.pairwise_append]
    refine ⟨?_, List.pairwise_singleton _ _, fun x hx y hy => ?_⟩
    · refine List.Pairwise.imp_of_mem (fun {x y} hx hy z => ?_) h2
      show (if x = c then B else sg x) < (if y = c then B else sg y)
      rw [if_neg (hne x hx), if_neg (hne y hy)]
      exact z
    · have e : y = c := List.mem_singleton.mp hy
      show (if x = c then B else sg x) < (if y = c then B else sg y)
      rw [if_neg (hne x hx), if_pos e]
      exact hB x hx
  · refine rk_SL_congr (fun t => ?_) (fun _ _ => rfl) (fun _ _ => rfl) rfl rfl (k q hq)
    show (t ∈ Q ∧ tt t = q) ∨ (q = r ∧ t = c) ↔ t ∈ Q ++ [c] ∧ (if t = c then r else tt t) = q
    rw [List.mem_append, List.mem_singleton]
    by_cases e : t = c
    · rw [if_pos e]
      exact ⟨fun z => ⟨Or.inr e, z.elim (fun y => absurd y.1 (e ▸ hcQ)) (fun y => y.1.symm)⟩, fun z => Or.inr ⟨z.2.symm, e⟩⟩
    · rw [if_neg e]
      exact ⟨fun z => z.elim (fun y => ⟨Or.inl y.1, y.2⟩) (fun y => absurd y.2 e), fun z => Or.inl ⟨z.1.elim id (fun y => absurd y e), z.2⟩⟩
  · obtain ⟨b1, b2, b3⟩ := h4 q hq
    have ec : (if c = c then r else tt c) = r := if_pos rfl
    rw [List.countP_append, List.countP_append, List.countP_singleton, List.countP_singleton, hcnt, pk_us]
    dsimp only
    simp only [if_true]
    refine ⟨?_, ?_, ?_⟩
    · have e0 : Q.countP (fun x => (if x = c then r else tt x) == q) = Q.countP (fun x => tt x == q) := List.countP_congr (fun x hx => by rw [if_neg (hne x hx)])
      rw [e0]
      by_cases e : q = r
      · subst e
        rw [pk_us, b1, if_pos (beq_self_eq_true q), nI_1]
      · rw [pk_un e, b1, if_neg (fun z => e (beq_iff_eq.mp z).symm), Nat.add_zero]
    · by_cases e : q = a
      · subst e
        rw [pk_us, b2, if_pos (beq_self_eq_true (nI q)), nI_1]
      · rw [pk_un e, b2, if_neg (fun z => e (rk_inj (by omega) (by omega) (beq_iff_eq.mp z)).symm), Nat.add_zero]
    · by_cases e : q = a
      · subst e
        rw [if_pos (beq_self_eq_true (nI q))]
        omega
      · rw [if_neg (fun z => e (rk_inj (by omega) (by omega) (beq_iff_eq.mp z)).symm)]
        omega
  · refine rk_Ch_congr (fun x hx => ?_) (ln c) h5.2
    have hxc : x ≠ c := fun e => h6.1 (e ▸ hx)
    unfold rk_qB
    by_cases z : lc r ≤ 0
    · rw [if_pos z, pk_un hxc]
    · rw [if_neg z]
      have y : ∃ t, rk_T Q tt r t := Classical.byContradiction (fun y => z (hse.mpr (fun t w => y ⟨t, w⟩)))
      rcases ((h3 r hr).2 y).2 with ⟨_, w⟩ | ⟨b, w1, w2, w3⟩
      · obtain ⟨t, y⟩ := y
        exact absurd y (w t)
      · have := (h1 b w2.1).1
        rw [w1, rk_cl (by omega), pk_un (j := x) (k := b) (fun e => (h7 x (List.mem_cons_of_mem c hx)).2 (e ▸ w2.1)), pk_un hxc]
  · have z := h7 x (List.mem_cons_of_mem c hx)
    refine ⟨z.1, fun y => ?_⟩
    rcases List.mem_append.mp y with w | w
    · exact z.2 w
    · have e : x = c := List.mem_singleton.mp w
      exact h6.1 (e ▸ hx)
  · simp only [List.length_append, List.length_cons, List.length_nil] at h8 ⊢
    omega
/-! room for one more -/
theorem rk_sm_le {f : Nat → Nat} {n : Nat} (h : ∀ i, i < n → f i ≤ 3) : rk_sm f n ≤ 3 * n := by
  induction n with
  | zero => exact Nat.le_refl 0
  | succ n ih =>
    have h1 := ih (fun i hi => h i (by omega))
    have h2 := h n (by omega)
    show rk_sm f n + f n ≤ 3 * (n + 1)
    omega
theorem rk_sm_lt {f : Nat → Nat} {n j : Nat} (h : ∀ i, i < n → f i ≤ 3) (hj : j < n) (hf : f j < 3) : rk_sm f n < 3 * n := by
  induction n with
  | zero => omega
  | succ n ih =>
    show rk_sm f n + f n < 3 * (n + 1)
    have h2 := h n (by omega)
    by_cases e : j = n
    · subst e
      have h1 := rk_sm_le (fun i hi => h i (by omega) : ∀ i, i < j → f i ≤ 3)
      omega
    · have h1 := ih (fun i hi => h i (by omega)) (by omega)
      omega
theorem rk_sm_one {f g : Nat → Nat} {n j : Nat} (hj : j < n) (h : ∀ i, i < n → f i ≤ g i) (hf : f j < g j) : rk_sm f n < rk_sm g n := by
  induction n with
  | zero => omega
  | succ n ih =>
    show rk_sm f n + f n < rk_sm g n + g n
    have mono : ∀ n', n' ≤ n → rk_sm f n' ≤ rk_sm g n' := by
      intro n'
      induction n' with
      | zero => exact fun _ => Nat.le_refl 0
      | succ n' ih' =>
        intro hn
        have h1 := ih' (by omega)
        have h2 := h n' (by omega)
        show rk_sm f n' + f n' ≤ rk_sm g n' + g n'
        omega
    have h2 := h n (by omega)
    by_cases e : j = n
    · subst e
      have h1 := mono j (Nat.le_refl j)
      omega
    · have h1 := ih (by omega) (fun i hi => h i (by omega))
      omega
theorem rk_len_sm (lf : Nat → Int32) (n : Nat) : ∀ Q : List Nat, (∀ c, c ∈ Q → ∃ a, a < n ∧ lf c = nI a) → Q.length ≤ rk_sm (fun a => Q.countP (fun c => lf c == nI a)) n := by
  intro Q
  induction Q with
  | nil => exact fun _ => Nat.zero_le _
  | cons d Q ih =>
    intro h
    have h1 := ih (fun c hc => h c (List.mem_cons_of_mem d hc))
    obtain ⟨a, ha, e⟩ := h d List.mem_cons_self
    have h2 : rk_sm (fun a => Q.countP (fun c => lf c == nI a)) n < rk_sm (fun a => (d :: Q).countP (fun c => lf c == nI a)) n := by
      refine rk_sm_one ha (fun i _ => ?_) ?_
      · show Q.countP (fun c => lf c == nI i) ≤ (d :: Q).countP (fun c => lf c == nI i)
        rw [List.countP_cons]
        omega
      · show Q.countP (fun c => lf c == nI a) < (d :: Q).countP (fun c => lf c == nI a)
        rw [List.countP_cons, if_pos (by rw [e]; exact beq_self_eq_true (nI a))]
        omega
    rw [List.length_cons]
    omega
theorem rk_LX_room (ha : a < 10) (h3c : Q.countP (fun c => lf c == nI a) < 3) (h : rk_LX Q tt sg F al lf ln f1 f2 lc po sp) : Q.length < 30 ∧ ∃ c F', F = c :: F' ∧ c < 30 ∧ sp = nI c := by
  obtain ⟨h1, h2, h3, h4, h5, h6, h7, h8⟩ := h
  have z := rk_len_sm lf 10 Q (fun c hc => by obtain ⟨_, _, _, a, y1, _, y2⟩ := h1 c hc; exact ⟨a, y1, y2⟩)
  have y := rk_sm_lt (f := fun a => Q.countP (fun c => lf c == nI a)) (n := 10) (fun i hi => (h4 i hi).2.2) ha h3c
  refine ⟨by omega, ?_⟩
  cases F with
  | nil => simp only [List.length_nil] at h8; omega
  | cons d F' => exact ⟨d, F', rfl, (h7 d List.mem_cons_self).1, h5.1⟩
/-! Y's list -/
theorem rk_LY_add (hc : c ∉ Q) (h : rk_LY Q tt lf lw yf yt yx yl) : rk_LY (Q ++ [c]) (fun x => if x = c then r else tt x) (upd lf c v) (upd lw c x) (upd yf Q.length v) (upd yt Q.length (nI r)) (upd yx Q.length x) (yl + 1) := by
  obtain ⟨h1, h2⟩ := h
  refine ⟨by rw [h1, nI_1, List.length_append]; rfl, fun i d hd => ?_⟩
  show upd yf Q.length v i = upd lf c v d ∧ upd yt Q.length (nI r) i = nI (if d = c then r else tt d) ∧ upd yx Q.length x i = upd lw c x d
  rcases Nat.lt_or_ge i Q.length with z | z
  · rw [List.getElem?_append_left z] at hd
    have e : d ≠ c := fun e => hc (e ▸ List.mem_of_getElem? hd)
    have ei : i ≠ Q.length := by omega
    rw [pk_un ei, pk_un ei, pk_un ei, pk_un e, pk_un e, if_neg e]
    exact h2 i d hd
  · rw [List.getElem?_append_right z] at hd
    have hi : i - Q.length = 0 := by
      rcases Nat.eq_zero_or_pos (i - Q.length) with y | y
      · exact y
      · obtain ⟨j, hj⟩ : ∃ j, i - Q.length = j + 1 := ⟨i - Q.length - 1, by omega⟩
        rw [hj] at hd
        simp at hd
    have e : d = c := by rw [hi] at hd; simpa using hd.symm
    have ei : i = Q.length := by omega
    subst ei e
    rw [pk_us, pk_us, pk_us, pk_us, pk_us, if_pos rfl]
    exact ⟨rfl, rfl, rfl⟩
theorem rk_LY_del (h : rk_LY (A1 ++ c :: A2) tt lf lw yf yt yx yl) : rk_LY (A1 ++ A2) tt lf lw (rk_sh yf A1.length (A1.length + A2.length)) (rk_sh yt A1.length (A1.length + A2.length)) (rk_sh yx A1.length (A1.length + A2.length)) (yl - 1) := by
  obtain ⟨h1, h2⟩ := h
  refine ⟨by rw [h1, List.length_append, List.length_cons, ← Nat.add_assoc, nI_pred, List.length_append], fun i d hd => ?_⟩
  have hi : i < A1.length + A2.length := by
    have := (List.getElem?_eq_some_iff.mp hd).1
    rwa [List.length_append] at this
  unfold rk_sh
  rcases Nat.lt_or_ge i A1.length with z | z
  · rw [if_neg (by omega), if_neg (by omega), if_neg (by omega)]
    rw [List.getElem?_append_left z] at hd
    exact h2 i d (by rw [List.getElem?_append_left z]; exact hd)
  · rw [if_pos ⟨z, hi⟩, if_pos ⟨z, hi⟩, if_pos ⟨z, hi⟩]
    rw [List.getElem?_append_right z] at hd
    refine h2 (i + 1) d ?_
    rw [List.getElem?_append_right (by omega), show i + 1 - A1.length = (i - A1.length) + 1 by omega, List.getElem?_cons_succ]
    exact hd
theorem rk_sh_0 (f : Nat → Int32) (k : Nat) : rk_sh f k k = f := by
  funext i
  exact if_neg (by omega)
theorem rk_sh_s (f : Nat → Int32) {k j : Nat} (h : k ≤ j) : upd (rk_sh f k j) j (rk_sh f k j (j + 1)) = rk_sh f k (j + 1) := by
  funext i
  by_cases e : i = j
  · subst e
    rw [pk_us]
    unfold rk_sh
    rw [if_neg (by omega), if_pos ⟨h, by omega⟩]
  · rw [pk_un e]
    unfold rk_sh
    by_cases z : k ≤ i ∧ i < j
    · rw [if_pos z, if_pos ⟨z.1, by omega⟩]
    · rw [if_neg z, if_neg (by omega)]
end
end
section
/-! walks of the small methods -/
/-! Y: last -/
def rk_lst (C : rk_ST) (s : Nat) : rk_ST := rk_sA (rk_sA C 58 (fun _ => (C 58 0) + 1)) 63 (upd (C 63) s ((C 58 0) + 1))
theorem rk_ylast {post : SY → Prop} {C : rk_ST} {s : Nat} (hs : s < 10) (K : post (rk_mY (rk_lst C s))) : wpY_last post (rk_mY C) (nI s) := by
  have i10 : vp_in (nI s) 10 := rk_in hs
  have es : (nI s).toNatClampNeg = s := rk_cl (by omega)
  exact nm_r (e' := (C 58 0) + 1) rfl (And.intro i10 (nm_r (e' := upd (C 63) s ((C 58 0) + 1)) (by rw [es]) K))
def rk_rdyY (C : rk_ST) (s : Nat) (how : Int32) : rk_ST := rk_lst (rk_sA (rk_sA C 8 (upd (C 8) s 1)) 15 (upd (C 15) s how)) s
theorem rk_yready {post : SY → Prop} {C : rk_ST} {s : Nat} {how : Int32} (hs : s < 10) (K : post (rk_mY (rk_rdyY C s how))) : wpY_ready post (rk_mY C) (nI s) how := by
  have i10 : vp_in (nI s) 10 := rk_in hs
  have es : (nI s).toNatClampNeg = s := rk_cl (by omega)
  exact And.intro i10 (nm_r (e' := upd (C 8) s 1) (by rw [es]) ⟨i10, nm_r (e' := upd (C 15) s how) (by rw [es]) (rk_ylast (C := rk_sA (rk_sA C 8 (upd (C 8) s 1)) 15 (upd (C 15) s how)) hs K)⟩)
def rk_wtsY (C : rk_ST) (s : Nat) (v x : Int32) : rk_ST := rk_lst (rk_sA (rk_sA (rk_sA C 8 (upd (C 8) s v)) 60 (upd (C 60) s x)) 15 (upd (C 15) s 0)) s
theorem rk_ywaits {post : SY → Prop} {C : rk_ST} {s : Nat} {v x : Int32} (hs : s < 10) (K : post (rk_mY (rk_wtsY C s v x))) : wpY_waits post (rk_mY C) (nI s) v x := by
  have i10 : vp_in (nI s) 10 := rk_in hs
  have es : (nI s).toNatClampNeg = s := rk_cl (by omega)
  exact And.intro i10 (nm_r (e' := upd (C 8) s v) (by rw [es]) ⟨i10, nm_r (e' := upd (C 60) s x) (by rw [es]) ⟨i10, nm_r (e' := upd (C 15) s 0) (by rw [es]) (rk_ylast (C := rk_sA (rk_sA (rk_sA C 8 (upd (C 8) s v)) 60 (upd (C 60) s x)) 15 (upd (C 15) s 0)) hs K)⟩⟩)
/-! X: block, free -/
def rk_wset (wt : Nat → Int32) (x : Int32) (s : Nat) : Nat → Int32 := if x < 0 then wt else upd wt (x &&& 15).toNatClampNeg (wt (x &&& 15).toNatClampNeg ||| ((1 : Int32) <<< (nI s &&& 31)))
def rk_wclr (wt : Nat → Int32) (x : Int32) (s : Nat) : Nat → Int32 := if x < 0 then wt else upd wt (x &&& 15).toNatClampNeg (wt (x &&& 15).toNatClampNeg &&& (((1 : Int32) <<< (nI s &&& 31)) ^^^ (-1)))
def rk_tg (x : Int32) : Prop := x < 0 ∨ (¬ x < 0 ∧ vp_in (x &&& 15) 10)
def rk_blkX (C : rk_ST) (s p : Nat) (v x : Int32) : rk_ST := rk_sA (rk_sA (rk_sA (rk_sA (rk_unl C s p) 8 (upd (C 8) s v)) 14 (upd (C 14) s x)) 15 (upd (C 15) s 0)) 27 (rk_wset (C 27) x s)
theorem rk_xblock {post : SX → Prop} {C : rk_ST} {s p k : Nat} {x : Int32} (hs : s < 10) (hp : p < 4) (hk : k < 128) (hl : (C 10) s = nI p) (hn : rk_cd 10 ((C 19) s)) (hv : rk_cd 10 ((C 20) s)) (hx : rk_tg x)
    (K : post (rk_mX (rk_blkX C s p (nI k) x))) : wpX_block post (rk_mX C) (nI s) (nI k) x := by
  have i10 : vp_in (nI s) 10 := rk_in hs
  have es : (nI s).toNatClampNeg = s := rk_cl (by omega)
  unfold wpX_block
  refine rk_xunlink (C := C) hs hp hl hn hv ?_
  refine And.intro i10 (nm_r (e' := upd (C 8) s (nI k)) (by rw [es, rk_vb8 hk]; rfl) ⟨i10, nm_r (e' := upd (C 14) s x) (by rw [es]; rfl) ⟨i10, nm_r (e' := upd (C 15) s 0) (by rw [es]; rfl) ?_⟩⟩)
  unfold rk_blkX rk_wset at K
  rcases hx with h | ⟨h, h2⟩
  · rw [if_pos h] at K
    exact br_t h K
  · rw [if_neg h] at K
    exact br_f h ⟨h2, h2, nm_e K⟩
def rk_frX (C : rk_ST) (s p : Nat) (how : Int32) : rk_ST := rk_app (rk_sA (rk_sA (rk_sA (rk_sA C 27 (rk_wclr (C 27) ((C 14) s) s)) 8 (upd (C 8) s 1)) 17 (upd (C 17) s 0)) 15 (upd (C 15) s how)) s p
theorem rk_xfree31 {post : SX → Prop} {C : rk_ST} {s p : Nat} {how : Int32} (hs : s < 10) (hp : p < 4) (hl : (C 10) s = nI p) (hb : rk_cd 10 ((C 22) p))
    (K : post (rk_mX (rk_app (rk_sA (rk_sA (rk_sA C 8 (upd (C 8) s 1)) 17 (upd (C 17) s 0)) 15 (upd (C 15) s how)) s p))) : wX_free_31 post (nI s) how (C 0 0) (C 1 0) (C 2 0) (C 3 0) (C 4 0) (C 5 0) (C 6 0) (C 7 0) (C 8) (C 9) (C 10) (C 11) (C 12) (C 13) (C 14) (C 15) (C 16) (C 17) (C 18) (C 19) (C 20) (C 21) (C 22) (C 23) (C 24) (C 25) (C 26) (C 27) (C 28) (C 29) (C 30) (C 31) (C 32) (C 33) (C 34) (C 35) (C 36) (C 37) (C 38) (C 39) (C 40) (C 41) (C 42) (C 43) (C 44) (C 45) (C 46) (C 47) (C 48) (C 49) (C 50) (C 51) (C 52) (C 53) (C 54) (C 55) (C 56) := by
  have i10 : vp_in (nI s) 10 := rk_in hs
  have es : (nI s).toNatClampNeg = s := rk_cl (by omega)
  exact And.intro i10 (nm_r (e' := upd (C 8) s 1) (by rw [es, rk_vb1]) ⟨i10, nm_r (e' := upd (C 17) s 0) (by rw [es, rk_vt0]) ⟨i10, nm_r (e' := upd (C 15) s how) (by rw [es]) (rk_xappend (C := rk_sA (rk_sA (rk_sA C 8 (upd (C 8) s 1)) 17 (upd (C 17) s 0)) 15 (upd (C 15) s how)) hs hp hl hb K)⟩⟩)
theorem rk_xfree {post : SX → Prop} {C : rk_ST} {s p : Nat} {how : Int32} (hs : s < 10) (hp : p < 4) (hl : (C 10) s = nI p) (hb : rk_cd 10 ((C 22) p)) (hx : rk_tg ((C 14) s)) (K : post (rk_mX (rk_frX C s p how))) : wpX_free post (rk_mX C) (nI s) how := by
  have i10 : vp_in (nI s) 10 := rk_in hs
  have es : (nI s).toNatClampNeg = s := rk_cl (by omega)
  unfold rk_frX rk_wclr at K
  refine And.intro i10 ?_
  rcases hx with h | ⟨h, h2⟩
  · rw [if_pos h] at K
    exact br_t (by rw [es]; exact h) (rk_xfree31 (C := C) hs hp hl hb K)
  · rw [if_neg h] at K
    refine br_f (by rw [es]; exact h) ⟨i10, by rw [es]; exact h2, by rw [es]; exact h2, nm_r (by rw [es]; rfl) (rk_xfree31 (C := rk_sA C 27 (upd (C 27) ((C 14) s &&& 15).toNatClampNeg ((C 27) ((C 14) s &&& 15).toNatClampNeg &&& (((1 : Int32) <<< (nI s &&& 31)) ^^^ (-1))))) hs hp hl hb K)⟩
end
section
/-! the relation: core and rest -/
def rk_No (al no yn : Nat → Int32) : Prop :=
  (∀ r, r < 10 → ∀ k, k < 14 → yn (14 * r + k) = if bt (no r) k then 1 else 0) ∧ (∀ r, r < 10 → ∀ k, 14 ≤ k → bt (no r) k = false) ∧ (∀ r, r < 10 → ∀ k, k < 10 → bt (no r) k = true → al k = 1)
/-- alarms, reckoned from bs s -/
def rk_Am (bs : Nat → Nat) (al xa ya : Nat → Int32) : Prop :=
  ∀ s, s < 10 → (al s = 0 ∧ xa s = 0) ∨ (al s = 1 ∧ ((xa s = 0 ∧ ya s = 0) ∨ ∃ a, 1 ≤ a ∧ a ≤ 100 ∧ ya s = nI a ∧ xa s = nI (bs s + a)))
def rk_Wa (al wa yw : Nat → Int32) : Prop := ∀ k, k < 3 → ∀ q, q < 10 → bt (wa k) q = (decide (al q = 1) && bt (yw q) k)
def rk_Sk (al be th pr sv sr xl xb yl yb srv : Nat → Int32) (k : Nat) : Prop :=
  (th k = 0 ∧ sv k = 0 ∧ pr k = -1) ∨ (th k = 1 ∧ sv k = 2 ∧ pr k = -1 ∧ srv k = -1) ∨ (th k = 1 ∧ sv k = 1 ∧ ∃ p, p < 10 ∧ pr k = nI p ∧ al p = 1 ∧ sr p = nI k ∧ srv k = rk_ep be p ∧ yl k = xl p ∧ yb k = xb p)
def rk_Sv (al be th pr sv sr xl xb yl yb srv : Nat → Int32) : Prop :=
  (∀ k, k < 3 → rk_Sk al be th pr sv sr xl xb yl yb srv k) ∧ (∀ p, p < 10 → al p = 1 → sr p = -1 ∨ ∃ k, k < 3 ∧ sr p = nI k ∧ pr k = nI p)
def rk_Sr (sb pa li : Nat → Int32) : Prop := ∀ k, k < 3 → (∃ b, b < 4 ∧ sb k = nI b) ∧ (∃ j, j ≤ 8 ∧ pa k = nI j) ∧ (∃ j, j ≤ 50 ∧ li k = nI j)
def rk_Gr (kd fa ho wr yh : Nat → Int32) : Prop :=
  ∀ g, g < 40 → kd g = 0 ∨ (kd g = 1 ∧ yh g = ho g ∧ ∃ f l, wr g = nI f ∧ fa g = nI l ∧ f + l ≤ 16) ∨ (kd g = 2 ∧ ∃ j, j < 4 ∧ fa g = nI j)
def rk_To (to : Nat → Int32) (nw pr mg ng lg en co : Int32) : Prop := to 0 = nw ∧ to 1 = pr ∧ to 2 = mg ∧ to 3 = ng ∧ to 4 = lg ∧ to 5 = en ∧ to 6 = co
/-- the core over X's arrays of C and Y's own of E -/
def rk_Co (N : Nat) (D : Nat → Prop) (old : Int32) (C E : rk_ST) : Prop :=
  rk_Tie (C 8) (C 75) ∧ rk_Lev (C 10) (C 9) (C 11) ∧ rk_Bir N (C 75) (C 12) (E 59) ∧ rk_Mom N (C 75) (E 63) (E 58 0) ∧
  rk_Ro (C 8) (C 10) (E 63) (C 19) (C 20) (C 21) (C 22) ∧
  rk_Wt D old (C 8) (C 75) (C 14) (E 60) (C 15) (C 12) (C 27) (C 17) (E 64) ∧
  rk_Ac (C 8) (C 14) (C 12) ∧
  rk_Qu (C 8) (C 14) (C 12) (E 63) (C 23) (C 24) (C 25) (C 26)
def rk_LeC (C : rk_ST) : Prop := rk_Le (C 75) (C 29) (C 30) (C 31) (C 32) (C 33) (C 34) (C 35) (C 0 0) (C 57 0) (C 66) (C 67) (C 68)
def rk_Re (bs : Nat → Nat) (w : Nat) (C : rk_ST) : Prop :=
  rk_LeC C ∧
  rk_No (C 75) (C 28) (C 65) ∧ rk_Am bs (C 75) (C 44) (C 61) ∧ rk_Wa (C 75) (C 55) (C 62) ∧
  rk_Sv (C 75) (C 12) (C 48) (C 50) (C 70) (C 47) (C 46) (C 45) (C 71) (C 72) (C 73) ∧ rk_Sr (C 49) (C 51) (C 52) ∧
  rk_Gr (C 39) (C 40) (C 41) (C 43) (C 69) ∧
  rk_To (C 74) (C 1 0) (C 2 0) (C 3 0) (C 4 0) (C 5 0) (C 6 0) (C 7 0) ∧ (C 1 0) = nI w
def rk_fa : Nat → Prop := fun _ => False
def rk_In (N : Nat) (bs : Nat → Nat) (w : Nat) (C : rk_ST) : Prop := rk_Co N rk_fa 0 C C ∧ rk_Re bs w C
theorem rk_Co_up {N N' : Nat} {D : Nat → Prop} {old : Int32} {C E : rk_ST} (hN : N ≤ N') (h : rk_Co N D old C E) : rk_Co N' D old C E := by
  obtain ⟨hT, hL, hB, hM, h⟩ := h
  exact ⟨hT, hL, fun s hs => (by obtain ⟨b, h1, h2⟩ := hB s hs; exact ⟨b, by omega, h2⟩), rk_Mom_up hN hM, h⟩
theorem rk_In_up {N N' w : Nat} {bs : Nat → Nat} {C : rk_ST} (hN : N ≤ N') (h : rk_In N bs w C) : rk_In N' bs w C := ⟨rk_Co_up hN h.1, h.2⟩
end
section
/-! walks that only read: ranges, endpoints, slots, the runner -/
theorem rk_xout0 {post : Int32 → Prop} {v lo hi : Int32} (h1 : ¬ v < lo) (h2 : v ≤ hi) (K : post 0) : wpX_outside post v lo hi := br_f h1 (br_t h2 K)
theorem rk_xout1 {post : Int32 → Prop} {v lo hi : Int32} (h : v < lo ∨ ¬ v ≤ hi) (K : post 1) : wpX_outside post v lo hi := by
  by_cases h1 : v < lo
  · exact br_t h1 K
  · exact br_f h1 (br_f (h.resolve_left h1) K)
theorem rk_yin1 {post : Int32 → Prop} {v lo hi : Int32} (h1 : ¬ v < lo) (h2 : v ≤ hi) (K : post 1) : wpY_within post v lo hi := br_f h1 (br_f (Int32.not_lt.mpr h2) K)
theorem rk_yin0 {post : Int32 → Prop} {v lo hi : Int32} (h : v < lo ∨ ¬ v ≤ hi) (K : post 0) : wpY_within post v lo hi := by
  by_cases h1 : v < lo
  · exact br_t h1 K
  · exact br_f h1 (br_t (Int32.not_le.mp (h.resolve_left h1)) K)
section
variable {C : rk_ST} {N : Nat} {s r : Nat}
theorem rk_xep {post : Int32 → Prop} (hs : s < 10) (K : post (rk_ep (C 12) s)) : wpX_endpoint post (rk_mX C) (nI s) := by
  have es : (nI s).toNatClampNeg = s := rk_cl (by omega)
  refine And.intro (rk_in hs) ?_
  rw [es]
  exact K
theorem rk_yep {post : Int32 → Prop} (hB : rk_Bir N (C 75) (C 12) (C 59)) (hs : s < 10) (ha : (C 75) s = 1) (K : post (rk_ep (C 12) s)) : wpY_endpoint post (rk_mY C) (nI s) := by
  have es : (nI s).toNatClampNeg = s := rk_cl (by omega)
  refine And.intro (rk_in hs) ?_
  rw [es, rk_ep_y hB hs ha]
  exact K
theorem rk_ythere1 {post : Int32 → Prop} (hT : rk_Tie (C 8) (C 75)) (hs : s < 10) (ha : (C 75) s = 1) (K : post 1) : wpY_isThere post (rk_mY C) (nI s) := by
  have es : (nI s).toNatClampNeg = s := rk_cl (by omega)
  unfold wpY_isThere
  refine rk_yin1 (nI_pos (by omega)) (nI_le (b := 9) (by omega) (by omega)) (br_f (by decide) ⟨rk_in hs, br_f ?_ K⟩)
  rw [es]
  rcases rk_Tie_st hT hs ha with h | h | h | h <;> rw [h] <;> decide
theorem rk_ythere0 {post : Int32 → Prop} (hs : s < 10) (h0 : (C 8) s = 0) (K : post 0) : wpY_isThere post (rk_mY C) (nI s) := by
  have es : (nI s).toNatClampNeg = s := rk_cl (by omega)
  unfold wpY_isThere
  refine rk_yin1 (nI_pos (by omega)) (nI_le (b := 9) (by omega) (by omega)) (br_f (by decide) ⟨rk_in hs, br_t ?_ K⟩)
  rw [es, h0]
  decide
theorem rk_ythereO {post : Int32 → Prop} {v : Int32} (h : v < 0 ∨ ¬ v ≤ 9) (K : post 0) : wpY_isThere post (rk_mY C) v := by
  unfold wpY_isThere
  exact rk_yin0 h (br_t rfl K)
/-- a slot of an endpoint: v -/
def rk_sl (C : rk_ST) (e v : Int32) : Prop := (v = -1 ∧ ∀ s, s < 10 → (C 75) s = 1 → e ≠ rk_ep (C 12) s) ∨ ∃ s, s < 10 ∧ v = nI s ∧ (C 75) s = 1 ∧ e = rk_ep (C 12) s
theorem rk_slot (hN : N ≤ 67108864) (hT : rk_Tie (C 8) (C 75)) (hB : rk_Bir N (C 75) (C 12) (C 59)) (e : Int32) :
    ∃ v, rk_sl C e v ∧ (∀ post : Int32 → Prop, post v → wpX_slotOf post (rk_mX C) e) ∧ (∀ post : Int32 → Prop, post v → wpY_slotOf post (rk_mY C) e) := by
  by_cases h : e < 0
  · refine ⟨-1, Or.inl ⟨rfl, fun s hs ha z => rk_ep_pos hN hB hs (z ▸ h)⟩, fun post K => nm_e (br_t h K), fun post K => nm_e (br_t h K)⟩
  · obtain ⟨j, hj, rfl⟩ := nI_of h
    have e15 : nI j &&& 15 = nI (j % 16) := pk_andN (by omega) 4 (by decide)
    have e4 : nI j >>> ((4 : Int32) &&& 31) = nI (j / 16) := pk_shrN hj _ 4 (by decide)
    have key : ∀ s, s < 10 → nI j = rk_ep (C 12) s → j % 16 = s := by
      intro s hs z
      have y := rk_ep_and hN hB hs
      rw [← z, e15] at y
      exact rk_inj (by omega) (by omega) y
    by_cases h10 : j % 16 < 10
    · have es : (nI (j % 16)).toNatClampNeg = j % 16 := rk_cl (by omega)
      have n10 : ¬ (10 : Int32) ≤ nI (j % 16) := nI_ge (b := 10) h10 (by omega)
      by_cases h0 : (C 8) (j % 16) = 0
      · refine ⟨-1, Or.inl ⟨rfl, fun s hs ha z => ?_⟩, fun post K => nm_r (e' := nI (j % 16)) e15 (br_f h (br_f n10 ⟨rk_in h10, br_t (by rw [es]; exact h0) K⟩)), fun post K => nm_r (e' := nI (j % 16)) e15 (br_f h (rk_ythere0 h10 h0 (br_t rfl K)))⟩
        have y := key s hs z
        rw [← y, rk_Tie_0 hT h10 h0] at ha
        exact absurd ha (by decide)
      · have ha := rk_Tie_al hT h10 h0
        obtain ⟨b, hb, eb, _⟩ := hB (j % 16) h10
        by_cases hbj : b = j / 16
        · have ee : nI j = rk_ep (C 12) (j % 16) := by
            rw [rk_ep_val eb]
            exact congrArg nI (by omega)
          refine ⟨nI (j % 16), Or.inr ⟨j % 16, h10, rfl, ha, ee⟩, fun post K => nm_r (e' := nI (j % 16)) e15 (br_f h (br_f n10 ⟨rk_in h10, br_f (by rw [es]; exact h0) ⟨rk_in h10, br_t (by rw [es, e4, eb, hbj]) K⟩⟩)), fun post K => nm_r (e' := nI (j % 16)) e15 (br_f h (rk_ythere1 hT h10 ha (br_f (by decide) (rk_yep hB h10 ha (br_t ee.symm K)))))⟩
        · have ne : ¬ rk_ep (C 12) (j % 16) = nI j := by
            rw [rk_ep_val eb]
            intro z
            have := rk_inj (by omega) (by omega) z
            omega
          refine ⟨-1, Or.inl ⟨rfl, fun s hs _ z => ?_⟩, fun post K => nm_r (e' := nI (j % 16)) e15 (br_f h (br_f n10 ⟨rk_in h10, br_f (by rw [es]; exact h0) ⟨rk_in h10, br_f (by rw [es, e4, eb]; exact fun z => hbj (rk_inj (by omega) (by omega) z)) K⟩⟩)), fun post K => nm_r (e' := nI (j % 16)) e15 (br_f h (rk_ythere1 hT h10 ha (br_f (by decide) (rk_yep hB h10 ha (br_f ne K)))))⟩
          have y := key s hs z
          rw [← y] at z
          exact ne z.symm
    · refine ⟨-1, Or.inl ⟨rfl, fun s hs ha z => ?_⟩, fun post K => nm_r (e' := nI (j % 16)) e15 (br_f h (br_t (nI_le (a := 10) (by omega) (by omega)) K)), fun post K => nm_r (e' := nI (j % 16)) e15 (br_f h (rk_ythereO (Or.inr (nI_ge (a := 9) (b := j % 16) (by omega) (by omega))) (br_t rfl K)))⟩
      have := key s hs z
      omega
/-! the runner -/
def rk_bet (st lv mo : Nat → Int32) (a b : Nat) : Prop := ∃ p q, p < 4 ∧ q < 4 ∧ lv a = nI p ∧ lv b = nI q ∧ (p < q ∨ (p = q ∧ rk_m mo a ≤ rk_m mo b))
def rk_run (C : rk_ST) (v : Int32) : Prop := (v = -1 ∧ ∀ t, t < 10 → (C 8) t ≠ 1) ∨ ∃ r, r < 10 ∧ v = nI r ∧ (C 8) r = 1 ∧ ∀ t, t < 10 → (C 8) t = 1 → rk_bet (C 8) (C 10) (C 63) r t
theorem rk_run_uni (hT : rk_Tie (C 8) (C 75)) (hM : rk_Mom N (C 75) (C 63) (C 58 0)) {v v' : Int32} (h : rk_run C v) (h' : rk_run C v') : v = v' := by
  rcases h with ⟨e, l⟩ | ⟨r, hr, e, s1, l⟩
  · rcases h' with ⟨e', l'⟩ | ⟨r', hr', e', s1', l'⟩
    · rw [e, e']
    · exact absurd s1' (l r' hr')
  · rcases h' with ⟨e', l'⟩ | ⟨r', hr', e', s1', l'⟩
    · exact absurd s1 (l' r hr)
    · obtain ⟨p, q, hp, hq, a1, a2, a3⟩ := l r' hr' s1'
      obtain ⟨q', p', hq', hp', b1, b2, b3⟩ := l' r hr s1
      have h1 : q = q' := rk_inj (by omega) (by omega) (a2.symm.trans b1)
      have h2 : p = p' := rk_inj (by omega) (by omega) (a1.symm.trans b2)
      have h3 : rk_m (C 63) r = rk_m (C 63) r' := by omega
      have h4 : r = r' := rk_Mom_inj hM hr hr' (rk_Tie_al hT hr (by rw [s1]; decide)) (rk_Tie_al hT hr' (by rw [s1']; decide)) h3
      rw [e, e', h4]
theorem rk_xrun (hL : rk_Lev (C 10) (C 9) (C 11)) (hR : rk_Ro (C 8) (C 10) (C 63) (C 19) (C 20) (C 21) (C 22)) :
    ∀ d p, p + d = 4 → (∀ q t, q < p → ¬ rk_R (C 8) (C 10) q t) → ∃ v, rk_run C v ∧ ∀ post : Int32 → Prop, post v → wX_runner_2 post (C 0 0) (C 1 0) (C 2 0) (C 3 0) (C 4 0) (C 5 0) (C 6 0) (C 7 0) (C 8) (C 9) (C 10) (C 11) (C 12) (C 13) (C 14) (C 15) (C 16) (C 17) (C 18) (C 19) (C 20) (C 21) (C 22) (C 23) (C 24) (C 25) (C 26) (C 27) (C 28) (C 29) (C 30) (C 31) (C 32) (C 33) (C 34) (C 35) (C 36) (C 37) (C 38) (C 39) (C 40) (C 41) (C 42) (C 43) (C 44) (C 45) (C 46) (C 47) (C 48) (C 49) (C 50) (C 51) (C 52) (C 53) (C 54) (C 55) (C 56) (d + 1) (nI p) := by
  intro d
  induction d with
  | zero =>
    intro p hp he
    have e4 : p = 4 := by omega
    subst e4
    refine ⟨-1, Or.inl ⟨rfl, fun t ht z => ?_⟩, fun post K => br_t (nI_le (a := 4) (by omega) (by omega)) K⟩
    obtain ⟨q, hq, eq⟩ := (hL t ht).1
    exact he q t hq ⟨hq, ht, z, eq⟩
  | succ d ih =>
    intro p hp he
    have hp4 : p < 4 := by omega
    have ep : (nI p).toNatClampNeg = p := rk_cl (by omega)
    have n4 : ¬ (4 : Int32) ≤ nI p := nI_ge (b := 4) hp4 (by omega)
    rcases (hR p hp4).2.2.1 with ⟨e, l⟩ | ⟨b, e, Sb, l⟩
    · obtain ⟨v, h1, h2⟩ := ih (p + 1) (by omega) (fun q t hq z => by
        rcases Nat.lt_or_ge q p with y | y
        · exact he q t y z
        · have : q = p := by omega
          subst this
          exact l t z)
      refine ⟨v, h1, fun post K => br_f n4 ⟨rk_in hp4, br_t (by rw [ep, e]; exact rk_m1lt) (nm_r (nI_1 p) (h2 post K))⟩⟩
    · have hb := Sb.2.1
      refine ⟨nI b, Or.inr ⟨b, hb, rfl, Sb.2.2.1, fun t ht z => ?_⟩, fun post K => br_f n4 ⟨rk_in hp4, br_f (by rw [ep, e]; exact nI_pos (by omega)) ⟨rk_in hp4, by rw [ep, e]; exact K⟩⟩⟩
      obtain ⟨q, hq, eq⟩ := (hL t ht).1
      refine ⟨p, q, hp4, hq, Sb.2.2.2, eq, ?_⟩
      rcases Nat.lt_trichotomy p q with y | y | y
      · exact Or.inl y
      · subst y
        exact Or.inr ⟨rfl, l t ⟨hq, ht, z, eq⟩⟩
      · exact absurd ⟨hq, ht, z, eq⟩ (he q t y)
theorem rk_yrun (hL : rk_Lev (C 10) (C 9) (C 11)) :
    ∀ d i x, i + d = 10 → ((x = -1 ∧ ∀ t, t < i → (C 8) t ≠ 1) ∨ ∃ r, r < i ∧ x = nI r ∧ (C 8) r = 1 ∧ ∀ t, t < i → (C 8) t = 1 → rk_bet (C 8) (C 10) (C 63) r t) →
      ∃ v, rk_run C v ∧ ∀ post : Int32 → Prop, post v → wY_first_4 post (C 57 0) (C 58 0) (C 8) (C 59) (C 9) (C 10) (C 11) (C 13) (C 60) (C 16) (C 15) (C 61) (C 62) (C 36) (C 38) (C 37) (C 63) (C 64) (C 18) (C 65) (C 66) (C 67) (C 68) (C 39) (C 42) (C 43) (C 40) (C 69) (C 70) (C 49) (C 52) (C 51) (C 53) (C 71) (C 72) (C 54) (C 73) (C 74) (C 56) (d + 1) x (nI i) := by
  intro d
  induction d with
  | zero =>
    intro i x hi h
    have e : i = 10 := by omega
    subst e
    refine ⟨x, ?_, fun post K => br_t (nI_le (a := 10) (by omega) (by omega)) K⟩
    rcases h with h | ⟨r, h⟩
    · exact Or.inl h
    · exact Or.inr ⟨r, h⟩
  | succ d ih =>
    intro i x hi h
    have hi10 : i < 10 := by omega
    have ei : (nI i).toNatClampNeg = i := rk_cl (by omega)
    have n10 : ¬ (10 : Int32) ≤ nI i := nI_ge (b := 10) hi10 (by omega)
    by_cases s1 : (C 8) i = 1
    · obtain ⟨pi, hpi, epi⟩ := (hL i hi10).1
      have slf : rk_bet (C 8) (C 10) (C 63) i i := ⟨pi, pi, hpi, hpi, epi, epi, Or.inr ⟨rfl, Int.le_refl _⟩⟩
      rcases h with ⟨e, l⟩ | ⟨r, hr, e, sr, l⟩
      · obtain ⟨v, h1, h2⟩ := ih (i + 1) (nI i) (by omega) (Or.inr ⟨i, by omega, rfl, s1, fun t ht z => by
          rcases Nat.lt_or_ge t i with y | y
          · exact absurd z (l t y)
          · have : t = i := by omega
            subst this
            exact slf⟩)
        refine ⟨v, h1, fun post K => br_f n10 ⟨rk_in hi10, br_t (by rw [ei]; exact s1) (br_f (by decide) (br_t (by rw [e]; exact rk_m1lt) (nm_r (nI_1 i) (h2 post K))))⟩⟩
      · obtain ⟨pr, hpr, epr⟩ := (hL r (by omega)).1
        have er : (nI r).toNatClampNeg = r := rk_cl (by omega)
        have ir : vp_in (nI r) 10 := rk_in (by omega)
        have n0 : ¬ nI r < 0 := nI_pos (by omega)
        have keep : (pr < pi ∨ (pr = pi ∧ rk_m (C 63) r ≤ rk_m (C 63) i)) → ∃ v, rk_run C v ∧ ∀ post : Int32 → Prop, post v → wY_first_4 post (C 57 0) (C 58 0) (C 8) (C 59) (C 9) (C 10) (C 11) (C 13) (C 60) (C 16) (C 15) (C 61) (C 62) (C 36) (C 38) (C 37) (C 63) (C 64) (C 18) (C 65) (C 66) (C 67) (C 68) (C 39) (C 42) (C 43) (C 40) (C 69) (C 70) (C 49) (C 52) (C 51) (C 53) (C 71) (C 72) (C 54) (C 73) (C 74) (C 56) (d + 1) (nI r) (nI (i + 1)) := fun z =>
          ih (i + 1) (nI r) (by omega) (Or.inr ⟨r, by omega, rfl, sr, fun t ht st1 => by
            rcases Nat.lt_or_ge t i with y | y
            · exact l t y st1
            · have : t = i := by omega
              subst this
              exact ⟨pr, pi, hpr, hpi, epr, epi, z⟩⟩)
        have take : (pi < pr ∨ (pr = pi ∧ rk_m (C 63) i ≤ rk_m (C 63) r)) → ∃ v, rk_run C v ∧ ∀ post : Int32 → Prop, post v → wY_first_4 post (C 57 0) (C 58 0) (C 8) (C 59) (C 9) (C 10) (C 11) (C 13) (C 60) (C 16) (C 15) (C 61) (C 62) (C 36) (C 38) (C 37) (C 63) (C 64) (C 18) (C 65) (C 66) (C 67) (C 68) (C 39) (C 42) (C 43) (C 40) (C 69) (C 70) (C 49) (C 52) (C 51) (C 53) (C 71) (C 72) (C 54) (C 73) (C 74) (C 56) (d + 1) (nI i) (nI (i + 1)) := fun z =>
          ih (i + 1) (nI i) (by omega) (Or.inr ⟨i, by omega, rfl, s1, fun t ht st1 => by
            rcases Nat.lt_or_ge t i with y | y
            · obtain ⟨p, q, hp, hq, a1, a2, a3⟩ := l t y st1
              have e1 : p = pr := rk_inj (by omega) (by omega) (a1.symm.trans epr)
              exact ⟨pi, q, hpi, hq, epi, a2, by omega⟩
            · have : t = i := by omega
              subst this
              exact slf⟩)
        subst e
        by_cases c1 : pi < pr
        · obtain ⟨v, h1, h2⟩ := take (Or.inl c1)
          exact ⟨v, h1, fun post K => br_f n10 ⟨rk_in hi10, br_t (by rw [ei]; exact s1) (br_f (by decide) (br_f n0 ⟨rk_in hi10, ir, br_t (by rw [ei, er, epi, epr]; exact nI_lt c1 (by omega)) (nm_r (nI_1 i) (h2 post K))⟩))⟩⟩
        · have nc1 : ¬ nI pi < nI pr := nI_nlt (by omega) (by omega)
          by_cases c2 : pi = pr
          · by_cases c3 : (C 63) r ≤ (C 63) i
            · obtain ⟨v, h1, h2⟩ := keep (Or.inr ⟨c2.symm, Int32.le_iff_toInt_le.mp c3⟩)
              exact ⟨v, h1, fun post K => br_f n10 ⟨rk_in hi10, br_t (by rw [ei]; exact s1) (br_f (by decide) (br_f n0 ⟨rk_in hi10, ir, br_f (by rw [ei, er, epi, epr]; exact nc1) ⟨rk_in hi10, ir, br_t (by rw [ei, er, epi, epr, c2]) ⟨rk_in hi10, ir, br_t (by rw [ei, er]; exact c3) (nm_r (nI_1 i) (h2 post K))⟩⟩⟩))⟩⟩
            · obtain ⟨v, h1, h2⟩ := take (Or.inr ⟨c2.symm, Int.le_of_lt (Int32.lt_iff_toInt_lt.mp (Int32.not_le.mp c3))⟩)
              exact ⟨v, h1, fun post K => br_f n10 ⟨rk_in hi10, br_t (by rw [ei]; exact s1) (br_f (by decide) (br_f n0 ⟨rk_in hi10, ir, br_f (by rw [ei, er, epi, epr]; exact nc1) ⟨rk_in hi10, ir, br_t (by rw [ei, er, epi, epr, c2]) ⟨rk_in hi10, ir, br_f (by rw [ei, er]; exact c3) (nm_r (nI_1 i) (h2 post K))⟩⟩⟩))⟩⟩
          · obtain ⟨v, h1, h2⟩ := keep (Or.inl (by omega))
            exact ⟨v, h1, fun post K => br_f n10 ⟨rk_in hi10, br_t (by rw [ei]; exact s1) (br_f (by decide) (br_f n0 ⟨rk_in hi10, ir, br_f (by rw [ei, er, epi, epr]; exact nc1) ⟨rk_in hi10, ir, br_f (by rw [ei, er, epi, epr]; exact fun z => c2 (rk_inj (by omega) (by omega) z)) (nm_r (nI_1 i) (h2 post K))⟩⟩))⟩⟩
    · obtain ⟨v, h1, h2⟩ := ih (i + 1) x (by omega) (by
        rcases h with ⟨e, l⟩ | ⟨r, hr, e, sr, l⟩
        · refine Or.inl ⟨e, fun t ht z => ?_⟩
          rcases Nat.lt_or_ge t i with y | y
          · exact l t y z
          · have : t = i := by omega
            subst this
            exact s1 z
        · refine Or.inr ⟨r, by omega, e, sr, fun t ht z => ?_⟩
          rcases Nat.lt_or_ge t i with y | y
          · exact l t y z
          · have : t = i := by omega
            subst this
            exact absurd z s1)
      exact ⟨v, h1, fun post K => br_f n10 ⟨rk_in hi10, br_f (by rw [ei]; exact s1) (br_t rfl (nm_r (nI_1 i) (h2 post K)))⟩⟩
theorem rk_runner (h : rk_Co N rk_fa 0 C C) : ∃ v, rk_run C v ∧ (∀ post : Int32 → Prop, post v → wpX_runner post (rk_mX C)) ∧ (∀ post : Int32 → Prop, post v → wpY_first post (rk_mY C)) := by
  obtain ⟨hT, hL, hB, hM, hR, _⟩ := h
  obtain ⟨v, h1, h2⟩ := rk_xrun hL hR 4 0 rfl (fun q t hq => absurd hq (Nat.not_lt_zero q))
  obtain ⟨v', h1', h2'⟩ := rk_yrun hL 10 0 (-1) rfl (Or.inl ⟨rfl, fun t ht => absurd ht (Nat.not_lt_zero t)⟩)
  have e := rk_run_uni hT hM h1' h1
  subst e
  exact ⟨v', h1, fun post K => ⟨5, h2 post K⟩, fun post K => ⟨11, h2' post K⟩⟩
end
end
section
/-! walks that only read, second part: wrong, takes, stuck -/
theorem rk_cn_lt {p : Nat → Bool} {n i : Nat} (hi : i < n) (h : p i = false) : rk_cn p n < n := by
  induction n with
  | zero => omega
  | succ n ih =>
    show rk_cn p n + (if p n then 1 else 0) < n + 1
    by_cases e : i = n
    · subst e
      have := rk_cn_le p i
      rw [h]
      simp only [Bool.false_eq_true, if_false]
      omega
    · have := ih (by omega)
      split <;> omega
theorem rk_cn_mono {p q : Nat → Bool} {n : Nat} (h : ∀ i, i < n → p i = true → q i = true) : rk_cn p n ≤ rk_cn q n := by
  induction n with
  | zero => exact Nat.le_refl 0
  | succ n ih =>
    show rk_cn p n + (if p n then 1 else 0) ≤ rk_cn q n + (if q n then 1 else 0)
    have h1 := ih (fun i hi => h i (by omega))
    by_cases e : p n = true
    · rw [if_pos e, if_pos (h n (by omega) e)]
      omega
    · rw [if_neg e]
      omega
theorem rk_cn_mlt {p q : Nat → Bool} {n j : Nat} (hj : j < n) (h : ∀ i, i < n → p i = true → q i = true) (hp : p j = false) (hq : q j = true) : rk_cn p n < rk_cn q n := by
  induction n with
  | zero => omega
  | succ n ih =>
    show rk_cn p n + (if p n then 1 else 0) < rk_cn q n + (if q n then 1 else 0)
    by_cases e : j = n
    · subst e
      have h1 := rk_cn_mono (fun i hi => h i (by omega) : ∀ i, i < j → p i = true → q i = true)
      rw [hp, hq]
      simp only [Bool.false_eq_true, if_false, if_true]
      omega
    · have h1 := ih (by omega) (fun i hi => h i (by omega))
      by_cases y : p n = true
      · rw [if_pos y, if_pos (h n (by omega) y)]
        omega
      · rw [if_neg y]
        omega
section
variable {C : rk_ST} {N : Nat} {s r : Nat}
def rk_wr (C : rk_ST) (r : Nat) (e w : Int32) : Prop := w = -3 ∨ w = -1 ∨ w = -4 ∨ (w = 0 ∧ ∃ s, s < 10 ∧ s ≠ r ∧ (C 75) s = 1 ∧ e = rk_ep (C 12) s)
theorem rk_wrong (hN : N ≤ 67108864) (h : rk_Co N rk_fa 0 C C) (hr : r < 10) (e b : Int32) :
    ∃ w, rk_wr C r e w ∧ (∀ post : Int32 → Prop, post w → wpX_wrong post (rk_mX C) (nI r) e b) ∧ (∀ post : Int32 → Prop, post w → wpY_wrong post (rk_mY C) (nI r) e b) := by
  obtain ⟨v, hv, X, Y⟩ := rk_slot hN h.1 h.2.2.1 e
  rcases hv with ⟨rfl, l⟩ | ⟨s, hs, rfl, ha, ee⟩
  · exact ⟨-3, Or.inl rfl, fun post K => (by unfold wpX_wrong; exact X _ (br_f rk_m1nle K)), fun post K => (by unfold wpY_wrong; exact Y _ (br_f rk_m1nle K))⟩
  · have p0 : (0 : Int32) ≤ nI s := nI_pos' (by omega)
    by_cases c : s = r
    · subst c
      exact ⟨-1, Or.inr (Or.inl rfl), fun post K => (by unfold wpX_wrong; exact X _ (br_t p0 (br_t rfl K))), fun post K => (by unfold wpY_wrong; exact Y _ (br_t p0 (br_t rfl K)))⟩
    · have nc : ¬ nI s = nI r := fun z => c (rk_inj (by omega) (by omega) z)
      have er : (nI r).toNatClampNeg = r := rk_cl (by omega)
      have ok : rk_wr C r e 0 := Or.inr (Or.inr (Or.inr ⟨rfl, s, hs, c, ha, ee⟩))
      by_cases b0 : b = 0
      · exact ⟨0, ok, fun post K => (by unfold wpX_wrong; exact X _ (br_t p0 (br_f nc (br_t b0 K)))), fun post K => (by unfold wpY_wrong; exact Y _ (br_t p0 (br_f nc (br_t b0 K))))⟩
      · by_cases m0 : (((C 13) r >>> (nI s &&& 31)) &&& 1) = 0
        · exact ⟨-4, Or.inr (Or.inr (Or.inl rfl)), fun post K => (by unfold wpX_wrong; exact X _ (br_t p0 (br_f nc (br_f b0 ⟨rk_in hr, br_t (by rw [er]; exact m0) K⟩)))), fun post K => (by unfold wpY_wrong; exact Y _ (br_t p0 (br_f nc (br_f b0 ⟨rk_in hr, br_t (by rw [er]; exact m0) K⟩))))⟩
        · exact ⟨0, ok, fun post K => (by unfold wpX_wrong; exact X _ (br_t p0 (br_f nc (br_f b0 ⟨rk_in hr, br_f (by rw [er]; exact m0) K⟩)))), fun post K => (by unfold wpY_wrong; exact Y _ (br_t p0 (br_f nc (br_f b0 ⟨rk_in hr, br_f (by rw [er]; exact m0) K⟩))))⟩
/-- takes: 0 or 1; 1 only of one that receives or awaits -/
theorem rk_takes {D : Nat → Prop} {old : Int32} (hW : rk_Wt D old (C 8) (C 75) (C 14) (C 60) (C 15) (C 12) (C 27) (C 17) (C 64)) (hs : s < 10) (e k : Int32) :
    ∃ t, (t = 0 ∨ (t = 1 ∧ ((C 8) s = 3 ∨ (C 8) s = 4))) ∧ (∀ post : Int32 → Prop, post t → wpX_takes post (rk_mX C) (nI s) e k) ∧ (∀ post : Int32 → Prop, post t → wpY_takes post (rk_mY C) (nI s) e k) := by
  have i10 : vp_in (nI s) 10 := rk_in hs
  have es : (nI s).toNatClampNeg = s := rk_cl (by omega)
  by_cases c3 : (C 8) s = 3
  · have eo : (C 60) s = (C 14) s := (hW.1 s hs (Or.inr (Or.inl c3))).1
    by_cases c1 : (C 14) s = -1
    · exact ⟨1, Or.inr ⟨rfl, Or.inl c3⟩, fun post K => And.intro i10 (br_t (by rw [es]; exact c3) ⟨i10, br_t (by rw [es]; exact c1) K⟩), fun post K => And.intro i10 (br_t (by rw [es]; exact c3) ⟨i10, br_t (by rw [es, eo]; exact c1) K⟩)⟩
    · by_cases c2 : (C 14) s = e
      · exact ⟨1, Or.inr ⟨rfl, Or.inl c3⟩, fun post K => And.intro i10 (br_t (by rw [es]; exact c3) ⟨i10, br_f (by rw [es]; exact c1) ⟨i10, br_t (by rw [es]; exact c2) K⟩⟩), fun post K => And.intro i10 (br_t (by rw [es]; exact c3) ⟨i10, br_f (by rw [es, eo]; exact c1) ⟨i10, br_t (by rw [es, eo]; exact c2) K⟩⟩)⟩
      · have n4 : ¬ (C 8) s = 4 := by rw [c3]; decide
        exact ⟨0, Or.inl rfl, fun post K => And.intro i10 (br_t (by rw [es]; exact c3) ⟨i10, br_f (by rw [es]; exact c1) ⟨i10, br_f (by rw [es]; exact c2) (And.intro i10 (br_f (by rw [es]; exact n4) K))⟩⟩), fun post K => And.intro i10 (br_t (by rw [es]; exact c3) ⟨i10, br_f (by rw [es, eo]; exact c1) ⟨i10, br_f (by rw [es, eo]; exact c2) (And.intro i10 (br_f (by rw [es]; exact n4) K))⟩⟩)⟩
  · by_cases c4 : (C 8) s = 4
    · have eo : (C 60) s = (C 14) s := (hW.1 s hs (Or.inr (Or.inr c4))).1
      by_cases k0 : k = 0
      · by_cases c2 : (C 14) s = e
        · exact ⟨1, Or.inr ⟨rfl, Or.inr c4⟩, fun post K => And.intro i10 (br_f (by rw [es]; exact c3) (And.intro i10 (br_t (by rw [es]; exact c4) (br_t k0 ⟨i10, br_t (by rw [es]; exact c2) K⟩)))), fun post K => And.intro i10 (br_f (by rw [es]; exact c3) (And.intro i10 (br_t (by rw [es]; exact c4) (br_t k0 ⟨i10, br_t (by rw [es, eo]; exact c2) K⟩))))⟩
        · exact ⟨0, Or.inl rfl, fun post K => And.intro i10 (br_f (by rw [es]; exact c3) (And.intro i10 (br_t (by rw [es]; exact c4) (br_t k0 ⟨i10, br_f (by rw [es]; exact c2) K⟩)))), fun post K => And.intro i10 (br_f (by rw [es]; exact c3) (And.intro i10 (br_t (by rw [es]; exact c4) (br_t k0 ⟨i10, br_f (by rw [es, eo]; exact c2) K⟩))))⟩
      · exact ⟨0, Or.inl rfl, fun post K => And.intro i10 (br_f (by rw [es]; exact c3) (And.intro i10 (br_t (by rw [es]; exact c4) (br_f k0 K)))), fun post K => And.intro i10 (br_f (by rw [es]; exact c3) (And.intro i10 (br_t (by rw [es]; exact c4) (br_f k0 K))))⟩
    · exact ⟨0, Or.inl rfl, fun post K => And.intro i10 (br_f (by rw [es]; exact c3) (And.intro i10 (br_f (by rw [es]; exact c4) K))), fun post K => And.intro i10 (br_f (by rw [es]; exact c3) (And.intro i10 (br_f (by rw [es]; exact c4) K)))⟩
/-- stuck: the chain of waits ends -/
theorem rk_stuckL (hN : N ≤ 67108864) (h : rk_Co N rk_fa 0 C C) {b : Nat} (hb : b < 10) (g : Nat → Nat) (hg : ∀ a t, rk_W (C 8) (C 14) (C 12) a t → g a < g t) :
    ∀ G x i, x < 10 → x ≠ b → g x ≤ G → i + G ≤ 9 → ∃ v, (v = 1 ∨ (v = 0 ∧ rk_nr (C 8) (C 14) (C 12) x b)) ∧
      (∀ post : Int32 → Prop, post v → wX_stuck_2 post (nI b) (C 0 0) (C 1 0) (C 2 0) (C 3 0) (C 4 0) (C 5 0) (C 6 0) (C 7 0) (C 8) (C 9) (C 10) (C 11) (C 12) (C 13) (C 14) (C 15) (C 16) (C 17) (C 18) (C 19) (C 20) (C 21) (C 22) (C 23) (C 24) (C 25) (C 26) (C 27) (C 28) (C 29) (C 30) (C 31) (C 32) (C 33) (C 34) (C 35) (C 36) (C 37) (C 38) (C 39) (C 40) (C 41) (C 42) (C 43) (C 44) (C 45) (C 46) (C 47) (C 48) (C 49) (C 50) (C 51) (C 52) (C 53) (C 54) (C 55) (C 56) (G + 1) (nI x)) ∧ (∀ post : Int32 → Prop, post v → wY_isStuck_5 post (nI b) (C 57 0) (C 58 0) (C 8) (C 59) (C 9) (C 10) (C 11) (C 13) (C 60) (C 16) (C 15) (C 61) (C 62) (C 36) (C 38) (C 37) (C 63) (C 64) (C 18) (C 65) (C 66) (C 67) (C 68) (C 39) (C 42) (C 43) (C 40) (C 69) (C 70) (C 49) (C 52) (C 51) (C 53) (C 71) (C 72) (C 54) (C 73) (C 74) (C 56) (G + 1) (nI x) (nI i)) := by
  obtain ⟨hT, _, hB, _, _, hW, _, _⟩ := h
  intro G
  induction G with
  | zero =>
    intro x i hx hxb hgx hi
    have i10 : vp_in (nI x) 10 := rk_in hx
    have ex : (nI x).toNatClampNeg = x := rk_cl (by omega)
    have n10 : ¬ (10 : Int32) ≤ nI i := nI_ge (b := 10) (by omega) (by omega)
    have noW : ∀ a, ¬ rk_W (C 8) (C 14) (C 12) a x := fun a z => by have := hg a x z; omega
    have nr : rk_nr (C 8) (C 14) (C 12) x b := ⟨fun y => y = x, rfl, fun a y e z => by subst e; exact absurd z (noW a), fun e => hxb e.symm⟩
    by_cases w : rk_wg (C 8) x
    · obtain ⟨eo, _, hw⟩ := hW.1 x hx w
      have w1 : (C 14) x = -1 := by
        rcases hw with z | ⟨_, a, z1, _, _, z2⟩ | z
        · exact z.2.1
        · exact absurd ⟨z1, hx, w, z2⟩ (noW a)
        · exact absurd z.1 id
      have s1 : ¬ (C 8) x ≤ 1 := by rcases w with w | w | w <;> rw [w] <;> decide
      exact ⟨0, Or.inr ⟨rfl, nr⟩, fun post K => And.intro i10 (br_f (by rw [ex]; exact s1) ⟨i10, br_t (by rw [ex, w1]; exact rk_m1lt) K⟩), fun post K => br_f n10 ⟨i10, br_f (by rw [ex]; exact s1) ⟨i10, br_f (by rw [ex, eo, w1]; exact rk_m1nle) K⟩⟩⟩
    · have s1 : (C 8) x ≤ 1 := by
        rcases hT x hx with ⟨z, _⟩ | ⟨z | z, _⟩
        · rw [z]; decide
        · rw [z]; decide
        · exact absurd z w
      exact ⟨0, Or.inr ⟨rfl, nr⟩, fun post K => And.intro i10 (br_t (by rw [ex]; exact s1) K), fun post K => br_f n10 ⟨i10, br_t (by rw [ex]; exact s1) K⟩⟩
  | succ G ih =>
    intro x i hx hxb hgx hi
    have i10 : vp_in (nI x) 10 := rk_in hx
    have ex : (nI x).toNatClampNeg = x := rk_cl (by omega)
    have n10 : ¬ (10 : Int32) ≤ nI i := nI_ge (b := 10) (by omega) (by omega)
    by_cases w : rk_wg (C 8) x
    · obtain ⟨eo, _, hw⟩ := hW.1 x hx w
      have s1 : ¬ (C 8) x ≤ 1 := by rcases w with w | w | w <;> rw [w] <;> decide
      rcases hw with z | ⟨_, a, ha, hax, _, z⟩ | z
      · have w1 := z.2.1
        have nr : rk_nr (C 8) (C 14) (C 12) x b := ⟨fun y => y = x, rfl, fun a y e q => by rw [e] at q; exact absurd (w1.symm.trans q.2.2.2).symm (rk_ep_m1 hN hB q.1), fun e => hxb e.symm⟩
        exact ⟨0, Or.inr ⟨rfl, nr⟩, fun post K => And.intro i10 (br_f (by rw [ex]; exact s1) ⟨i10, br_t (by rw [ex, w1]; exact rk_m1lt) K⟩), fun post K => br_f n10 ⟨i10, br_f (by rw [ex]; exact s1) ⟨i10, br_f (by rw [ex, eo, w1]; exact rk_m1nle) K⟩⟩⟩
      · have e15 : (C 14) x &&& 15 = nI a := by rw [z]; exact rk_ep_and hN hB ha
        have p0 : ¬ (C 14) x < 0 := by rw [z]; exact rk_ep_pos hN hB ha
        have p0' : 0 ≤ (C 14) x := Int32.not_lt.mp p0
        by_cases c : a = b
        · subst c
          exact ⟨1, Or.inl rfl, fun post K => And.intro i10 (br_f (by rw [ex]; exact s1) ⟨i10, br_f (by rw [ex]; exact p0) ⟨i10, nm_r (e' := nI a) (by rw [ex]; exact e15) (br_t rfl K)⟩⟩), fun post K => br_f n10 ⟨i10, br_f (by rw [ex]; exact s1) ⟨i10, br_t (by rw [ex, eo]; exact p0') ⟨i10, nm_r (e' := nI a) (by rw [ex, eo]; exact e15) (br_t rfl K)⟩⟩⟩⟩
        · have nc : ¬ nI a = nI b := fun y => c (rk_inj (by omega) (by omega) y)
          have hWx : rk_W (C 8) (C 14) (C 12) a x := ⟨ha, hx, w, z⟩
          have := hg a x hWx
          obtain ⟨v, hv, X, Y⟩ := ih a (i + 1) ha c (by omega) (by omega)
          refine ⟨v, ?_, fun post K => And.intro i10 (br_f (by rw [ex]; exact s1) ⟨i10, br_f (by rw [ex]; exact p0) ⟨i10, nm_r (e' := nI a) (by rw [ex]; exact e15) (br_f nc (X post K))⟩⟩), fun post K => br_f n10 ⟨i10, br_f (by rw [ex]; exact s1) ⟨i10, br_t (by rw [ex, eo]; exact p0') ⟨i10, nm_r (e' := nI a) (by rw [ex, eo]; exact e15) (br_f nc (nm_r (nI_1 i) (Y post K)))⟩⟩⟩⟩
          rcases hv with hv | ⟨hv, ch, c1, c2, c3⟩
          · exact Or.inl hv
          · refine Or.inr ⟨hv, fun y => ch y ∨ y = x, Or.inr rfl, fun a' y e q => ?_, fun e => e.elim c3 (fun e => hxb e.symm)⟩
            rcases e with e | e
            · exact Or.inl (c2 a' y e q)
            · subst e
              have : a' = a := rk_ep_inj hN hB q.1 ha (q.2.2.2.symm.trans z)
              subst this
              exact Or.inl c1
      · exact absurd z.1 id
    · have s1 : (C 8) x ≤ 1 := by
        rcases hT x hx with ⟨z, _⟩ | ⟨z | z, _⟩
        · rw [z]; decide
        · rw [z]; decide
        · exact absurd z w
      have nr : rk_nr (C 8) (C 14) (C 12) x b := ⟨fun y => y = x, rfl, fun a y e z => by subst e; exact absurd z.2.2.1 w, fun e => hxb e.symm⟩
      exact ⟨0, Or.inr ⟨rfl, nr⟩, fun post K => And.intro i10 (br_t (by rw [ex]; exact s1) K), fun post K => br_f n10 ⟨i10, br_t (by rw [ex]; exact s1) K⟩⟩
theorem rk_stuck (hN : N ≤ 67108864) (h : rk_Co N rk_fa 0 C C) {a b : Nat} (ha : a < 10) (hb : b < 10) (hab : a ≠ b) : ∃ v, (v = 1 ∨ (v = 0 ∧ rk_nr (C 8) (C 14) (C 12) a b)) ∧
      (∀ post : Int32 → Prop, post v → wpX_stuck post (rk_mX C) (nI a) (nI b)) ∧ (∀ post : Int32 → Prop, post v → wpY_isStuck post (rk_mY C) (nI a) (nI b)) := by
  obtain ⟨f, hf⟩ := h.2.2.2.2.2.2.1
  obtain ⟨v, hv, X, Y⟩ := rk_stuckL hN h hb (fun y => rk_cn (fun t => decide (f t < f y)) 10) (fun r t z => by
    have h1 := hf r t z
    refine rk_cn_mlt (j := r) z.1 (fun i _ y => ?_) ?_ ?_
    · have y' := of_decide_eq_true y
      exact decide_eq_true (by omega)
    · exact decide_eq_false (by omega)
    · exact decide_eq_true h1) 9 a 0 ha hab (by
      have := rk_cn_lt (p := fun t => decide (f t < f a)) (n := 10) ha (decide_eq_false (by omega))
      show rk_cn (fun t => decide (f t < f a)) 10 ≤ 9
      omega) (Nat.le_refl 9)
  exact ⟨v, hv, fun post K => ⟨10, X post K⟩, fun post K => ⟨10, Y post K⟩⟩
end
end
section
/-! the core under: free, block, send, a message taken -/
section
variable {st al be yb wh ot re wt ca yc mo : Nat → Int32} {N s r p : Nat} {ms v x old how : Int32} {D : Nat → Prop}
theorem rk_Bir_up {N' : Nat} (hN : N ≤ N') (h : rk_Bir N al be yb) : rk_Bir N' al be yb := by
  intro s hs
  obtain ⟨b, h1, h2⟩ := h s hs
  exact ⟨b, by omega, h2⟩
/-- a waiting one's target is as blocked for -/
theorem rk_tg_of (hN : N ≤ 67108864) (hB : rk_Bir N al be yb) (h : x = -1 ∨ ∃ r, r < 10 ∧ x = rk_ep be r) : rk_tg x := by
  rcases h with rfl | ⟨r, hr, rfl⟩
  · exact Or.inl rk_m1lt
  · refine Or.inr ⟨rk_ep_pos hN hB hr, ?_⟩
    rw [rk_ep_and hN hB hr]
    exact rk_in hr
theorem rk_wclr_b (hN : N ≤ 67108864) (hB : rk_Bir N al be yb) (hW : ∀ r t, r < 10 → t < 10 → (bt (wt r) t = true ↔ rk_W st wh be r t)) (hs : s < 10) (h : wh s = -1 ∨ ∃ r, r < 10 ∧ wh s = rk_ep be r) :
    ∀ r t, r < 10 → t < 10 → bt (rk_wclr wt (wh s) s r) t = (bt (wt r) t && !decide (t = s)) := by
  intro r t hr ht
  have other : ¬ wh s = rk_ep be r → bt (wt r) t = (bt (wt r) t && !decide (t = s)) := by
    intro z
    by_cases e : t = s
    · subst e
      have y : bt (wt r) t = false := by
        cases y : bt (wt r) t
        · rfl
        · exact absurd ((hW r t hr ht).mp y).2.2.2 z
      rw [y]
      rfl
    · rw [decide_eq_false e, Bool.not_false, Bool.and_true]
  unfold rk_wclr
  rcases h with h | ⟨r0, hr0, h⟩
  · rw [if_pos (by rw [h]; exact rk_m1lt)]
    exact other (fun z => rk_ep_m1 hN hB hr (z.symm.trans h))
  · rw [if_neg (by rw [h]; exact rk_ep_pos hN hB hr0), h, rk_ep_and hN hB hr0, rk_cl (by omega)]
    by_cases e : r = r0
    · subst e
      rw [pk_us, rk_bclr _ (by omega) (by omega)]
    · rw [pk_un e]
      exact other (fun z => e (rk_ep_inj hN hB hr hr0 (z.symm.trans h)))
theorem rk_wset_b (hN : N ≤ 67108864) (hB : rk_Bir N al be yb) (hs : s < 10) (h : x = -1 ∨ ∃ r, r < 10 ∧ x = rk_ep be r) :
    ∀ r t, r < 10 → t < 10 → bt (rk_wset wt x s r) t = (bt (wt r) t || decide (t = s ∧ x = rk_ep be r)) := by
  intro r t hr ht
  unfold rk_wset
  rcases h with h | ⟨r0, hr0, h⟩
  · rw [if_pos (by rw [h]; exact rk_m1lt), decide_eq_false (fun z => rk_ep_m1 hN hB hr (z.2.symm.trans h)), Bool.or_false]
  · rw [if_neg (by rw [h]; exact rk_ep_pos hN hB hr0), h, rk_ep_and hN hB hr0, rk_cl (by omega)]
    by_cases e : r = r0
    · subst e
      rw [pk_us, rk_bset _ (by omega) (by omega)]
      by_cases y : t = s
      · rw [decide_eq_true y, decide_eq_true (⟨y, rfl⟩ : t = s ∧ rk_ep be r = rk_ep be r)]
      · rw [decide_eq_false y, decide_eq_false (fun z => y z.1)]
    · rw [pk_un e, decide_eq_false (fun z => e (rk_ep_inj hN hB hr hr0 z.2.symm)), Bool.or_false]
theorem rk_S_W {st wh be : Nat → Int32} {r t : Nat} (h : rk_S st wh be r t) : rk_W st wh be r t := ⟨h.1, h.2.1, Or.inl h.2.2.1, h.2.2.2⟩
theorem rk_S_in (hT : rk_Tie st al) (hM : rk_Mom N al mo ms) (r : Nat) : ∀ a b, rk_S st wh be r a → rk_S st wh be r b → rk_m mo a = rk_m mo b → a = b := fun a b ha hb e =>
  rk_Mom_inj hM ha.2.1 hb.2.1 (rk_Tie_al hT ha.2.1 (by rw [ha.2.2.1]; decide)) (rk_Tie_al hT hb.2.1 (by rw [hb.2.2.1]; decide)) e
theorem rk_S_dj (hN : N ≤ 67108864) (hB : rk_Bir N al be yb) (r : Nat) : ∀ q t, rk_S st wh be q t → rk_S st wh be r t → q = r := fun q t ha hb => rk_ep_inj hN hB ha.1 hb.1 (ha.2.2.2.symm.trans hb.2.2.2)
theorem rk_cd_Nx {S : Nat → Prop} {m : Nat → Int} {n : Nat} {v : Int32} (hS : ∀ t, S t → t < n) (h : rk_Nx S m s v) : rk_cd n v := by
  rcases h with ⟨e, _⟩ | ⟨b, e, Sb, _⟩
  · exact Or.inl e
  · exact Or.inr ⟨b, hS b Sb, e⟩
theorem rk_cd_Pv {S : Nat → Prop} {m : Nat → Int} {n : Nat} {v : Int32} (hS : ∀ t, S t → t < n) (h : rk_Pv S m s v) : rk_cd n v := by
  rcases h with ⟨e, _⟩ | ⟨b, e, Sb, _⟩
  · exact Or.inl e
  · exact Or.inr ⟨b, hS b Sb, e⟩
theorem rk_cd_Hd {S : Nat → Prop} {m : Nat → Int} {n : Nat} {v : Int32} (hS : ∀ t, S t → t < n) (h : rk_Hd S m v) : rk_cd n v := by
  rcases h with ⟨e, _⟩ | ⟨b, e, Sb, _⟩
  · exact Or.inl e
  · exact Or.inr ⟨b, hS b Sb, e⟩
theorem rk_cd_Tl {S : Nat → Prop} {m : Nat → Int} {n : Nat} {v : Int32} (hS : ∀ t, S t → t < n) (h : rk_Tl S m v) : rk_cd n v := by
  rcases h with ⟨e, _⟩ | ⟨b, e, Sb, _⟩
  · exact Or.inl e
  · exact Or.inr ⟨b, hS b Sb, e⟩
end
section
variable {C : rk_ST} {N : Nat} {s r p : Nat} {x v how : Int32} {D : Nat → Prop} {old : Int32}
theorem rk_wait_tg (h : rk_Wt rk_fa 0 (C 8) (C 75) (C 14) (C 60) (C 15) (C 12) (C 27) (C 17) (C 64)) (hs : s < 10) (hw : rk_wg (C 8) s) : (C 14) s = -1 ∨ ∃ r, r < 10 ∧ (C 14) s = rk_ep (C 12) r := by
  rcases (h.1 s hs hw).2.2 with z | ⟨_, r, z1, _, _, z2⟩ | z
  · exact Or.inl z.2.1
  · exact Or.inr ⟨r, z1, z2⟩
  · exact absurd z.1 id
def rk_cfr (C : rk_ST) (s p : Nat) (how : Int32) : rk_ST := rk_lst (rk_frX C s p how) s
theorem rk_co_fr (hN : N + 1 ≤ 67108864) (hs : s < 10) (h34 : (C 8) s = 3 ∨ (C 8) s = 4) (hp : p < 4) (hl : (C 10) s = nI p) (h : rk_Co N rk_fa 0 C C) : rk_Co (N + 1) rk_fa 0 (rk_cfr C s p how) (rk_cfr C s p how) := by
  obtain ⟨hT, hL, hB, hM, hR, hW, hA, hQ⟩ := h
  have hw : rk_wg (C 8) s := Or.inr h34
  have ha := rk_Tie_al hT hs (rk_wg_ne0 hw)
  have n2 : ¬ (C 8) s = 2 := by rcases h34 with z | z <;> rw [z] <;> decide
  refine ⟨rk_Tie_set hT (Or.inl rfl) ha, hL, rk_Bir_up (by omega) hB, rk_Mom_last (by omega) (fun t _ z => z) hM, rk_Ro_rdy (by omega) hT hM hs hp hl (rk_wg_ne1 hw) hR,
    rk_Wt_rdy (rk_wclr_b (by omega) hB hW.2.1 hs (rk_wait_tg hW hs hw)) (fun t ht => pk_un ht) (fun t ht => pk_un ht) (fun _ _ => rfl) (fun _ _ => Iff.rfl) hW, ?_, ?_⟩
  · refine rk_Ac_mono (fun r t z => ?_) hA
    have e : t ≠ s := fun e => rk_wg_1 (e ▸ z.2.2.1)
    exact ⟨z.1, z.2.1, (rk_wg_ne e).mp z.2.2.1, z.2.2.2⟩
  · refine rk_Qu_same (fun r t => ?_) (fun r t z => ?_) hQ
    · show rk_S (upd (C 8) s 1) (C 14) (C 12) r t ↔ rk_S (C 8) (C 14) (C 12) r t
      unfold rk_S
      by_cases e : t = s
      · subst e
        rw [pk_us]
        exact ⟨fun z => absurd z.2.2.1 (by decide), fun z => absurd z.2.2.1 n2⟩
      · rw [pk_un e]
    · exact rk_m_ne (fun e => n2 (e ▸ z.2.2.1))
def rk_cbk (C : rk_ST) (s p : Nat) (v x : Int32) : rk_ST := rk_lst (rk_sA (rk_blkX C s p v x) 60 (upd (C 60) s x)) s
theorem rk_co_bk (hN : N + 1 ≤ 67108864) (hs : s < 10) (h1 : (C 8) s = 1) (hp : p < 4) (hl : (C 10) s = nI p) (hv : v = 3 ∨ v = 4) (hx : (x = -1 ∧ v = 3) ∨ ∃ r, r < 10 ∧ r ≠ s ∧ (C 75) r = 1 ∧ x = rk_ep (C 12) r ∧ rk_nr (C 8) (C 14) (C 12) r s)
    (h : rk_Co N rk_fa 0 C C) : rk_Co (N + 1) rk_fa 0 (rk_cbk C s p v x) (rk_cbk C s p v x) := by
  obtain ⟨hT, hL, hB, hM, hR, hW, hA, hQ⟩ := h
  have ha := rk_Tie_al hT hs (by rw [h1]; decide)
  have v1 : v ≠ 1 := by rcases hv with z | z <;> rw [z] <;> decide
  have v2 : v ≠ 2 := by rcases hv with z | z <;> rw [z] <;> decide
  have hx' : x = -1 ∨ ∃ r, r < 10 ∧ x = rk_ep (C 12) r := hx.elim (fun z => Or.inl z.1) (fun ⟨r, z1, _, _, z2, _⟩ => Or.inr ⟨r, z1, z2⟩)
  refine ⟨rk_Tie_set hT (Or.inr (Or.inr hv)) ha, hL, rk_Bir_up (by omega) hB, rk_Mom_last (by omega) (fun t _ z => z) hM, ?_,
    rk_Wt_blk (Or.inr hv) h1 id (hx.imp id (fun ⟨r, z1, z2, z3, z4, _⟩ => ⟨r, z1, z2, z3, z4⟩)) (rk_wset_b (by omega) hB hs hx') (fun _ _ => rfl) (fun _ _ => rfl) (fun z => absurd z v2) hW, ?_, ?_⟩
  · refine rk_Rows_congr (R := rk_R (upd (C 8) s v) (C 10)) (m := rk_m (C 63)) (fun _ _ _ => Iff.rfl) (fun q t z => ?_) (rk_Ro_unl hT hM hs hp hl h1 v1 hR)
    refine rk_m_ne (fun e => ?_)
    have y := z.2.2.1
    rw [e, pk_us] at y
    exact v1 y
  · have sub : ∀ r' t, rk_W (upd (C 8) s v) (upd (C 14) s x) (C 12) r' t → t ≠ s → rk_W (C 8) (C 14) (C 12) r' t := fun r' t z e => by
      have y := z.2.2.2
      rw [pk_un e] at y
      exact ⟨z.1, z.2.1, (rk_wg_ne e).mp z.2.2.1, y⟩
    rcases hx with z | ⟨r, z1, z2, z3, z4, z5⟩
    · refine rk_Ac_mono (fun r' t y => ?_) hA
      refine sub r' t y (fun e => ?_)
      have w : upd (C 14) s x t = rk_ep (C 12) r' := y.2.2.2
      rw [e, pk_us, z.1] at w
      exact rk_ep_m1 (by omega) hB y.1 w.symm
    · refine rk_Ac_add z5 (fun r' t y => ?_) hA
      by_cases e : t = s
      · have w : upd (C 14) s x t = rk_ep (C 12) r' := y.2.2.2
        rw [e, pk_us, z4] at w
        exact Or.inr ⟨(rk_ep_inj (by omega) hB z1 y.1 w).symm, e⟩
      · exact Or.inl (sub r' t y e)
  · refine rk_Qu_same (fun r t => ?_) (fun r t z => ?_) hQ
    · show rk_S (upd (C 8) s v) (upd (C 14) s x) (C 12) r t ↔ rk_S (C 8) (C 14) (C 12) r t
      unfold rk_S
      by_cases e : t = s
      · subst e
        rw [pk_us, h1]
        exact ⟨fun z => absurd z.2.2.1 v2, fun z => absurd z.2.2.1 (by decide)⟩
      · rw [pk_un e, pk_un e]
    · refine rk_m_ne (fun e => ?_)
      have y := z.2.2.1
      rw [e, h1] at y
      exact absurd y (by decide)
/-- a sender: blocked, and behind all in the queue of r -/
def rk_enq (C : rk_ST) (s r : Nat) : rk_ST := rk_sA (rk_sA (rk_sA (rk_sA C 23 (rk_qB (C 23) (C 25) (C 26) r s)) 24 (rk_qF (C 24) (C 26) r s)) 25 (upd (C 25) r (nI s))) 26 (upd (C 26) r ((C 26) r + 1))
def rk_csn (C : rk_ST) (s p r : Nat) (x cl val : Int32) : rk_ST := rk_lst (rk_sA (rk_sA (rk_sA (rk_sA (rk_enq (rk_blkX C s p 2 x) s r) 17 (upd (C 17) s cl)) 16 (upd (C 16) s val)) 60 (upd (C 60) s x)) 64 (upd (C 64) s cl)) s
theorem rk_co_sn {cl val : Int32} (hN : N + 1 ≤ 67108864) (hs : s < 10) (h1 : (C 8) s = 1) (hp : p < 4) (hl : (C 10) s = nI p) (hr : r < 10) (hrs : r ≠ s) (har : (C 75) r = 1) (hx : x = rk_ep (C 12) r) (hnr : rk_nr (C 8) (C 14) (C 12) r s) (hcl : cl = 0 ∨ cl = 1)
    (h : rk_Co N rk_fa 0 C C) : rk_Co (N + 1) rk_fa 0 (rk_csn C s p r x cl val) (rk_csn C s p r x cl val) := by
  obtain ⟨hT, hL, hB, hM, hR, hW, hA, hQ⟩ := h
  have ha := rk_Tie_al hT hs (by rw [h1]; decide)
  have hx' : x = -1 ∨ ∃ r, r < 10 ∧ x = rk_ep (C 12) r := Or.inr ⟨r, hr, hx⟩
  refine ⟨rk_Tie_set hT (Or.inr (Or.inl rfl)) ha, hL, rk_Bir_up (by omega) hB, rk_Mom_last (by omega) (fun t _ z => z) hM, ?_,
    rk_Wt_blk (Or.inl rfl) h1 id (Or.inr ⟨r, hr, hrs, har, hx⟩) (rk_wset_b (by omega) hB hs hx') (fun t ht => pk_un ht) (fun t ht => pk_un ht) (fun _ => ?_) hW, ?_, ?_⟩
  · refine rk_Rows_congr (R := rk_R (upd (C 8) s 2) (C 10)) (m := rk_m (C 63)) (fun _ _ _ => Iff.rfl) (fun q t z => ?_) (rk_Ro_unl hT hM hs hp hl h1 (by decide) hR)
    refine rk_m_ne (fun e => ?_)
    have y := z.2.2.1
    rw [e, pk_us] at y
    exact absurd y (by decide)
  · show upd (C 17) s cl s = upd (C 64) s cl s ∧ (upd (C 17) s cl s = 0 ∨ upd (C 17) s cl s = 1)
    rw [pk_us, pk_us]
    exact ⟨rfl, hcl⟩
  · refine rk_Ac_add hnr (fun r' t y => ?_) hA
    by_cases e : t = s
    · have w := y.2.2.2
      rw [e] at w
      have w' : upd (C 14) s x s = rk_ep (C 12) r' := w
      rw [pk_us, hx] at w'
      exact Or.inr ⟨(rk_ep_inj (by omega) hB hr y.1 w').symm, e⟩
    · have w : upd (C 14) s x t = rk_ep (C 12) r' := y.2.2.2
      rw [pk_un e] at w
      exact Or.inl ⟨y.1, y.2.1, (rk_wg_ne e).mp y.2.2.1, w⟩
  · refine rk_Qu_add (r := r) (s := s) (rk_S_in hT hM r) (rk_S_dj (by omega) hB r) hr hs (fun q z => ?_) (fun q t => ?_) (fun t ht => rk_m_ne ht) (fun t z => ?_) hQ
    · have y := z.2.2.1
      rw [h1] at y
      exact absurd y (by decide)
    · show rk_S (upd (C 8) s 2) (upd (C 14) s x) (C 12) q t ↔ _
      unfold rk_S
      by_cases e : t = s
      · subst e
        rw [pk_us, pk_us, hx, h1]
        constructor
        · rintro ⟨z1, z2, _, z4⟩
          exact Or.inr ⟨(rk_ep_inj (by omega) hB hr z1 z4).symm, rfl⟩
        · rintro (z | ⟨z, _⟩)
          · exact absurd z.2.2.1 (by decide)
          · subst z
            exact ⟨hr, hs, rfl, rfl⟩
      · rw [pk_un e, pk_un e]
        exact ⟨Or.inl, fun z => z.elim id (fun y => absurd y.2 e)⟩
    · show rk_m (C 63) t < rk_m (upd (C 63) s ((C 58 0) + 1)) s
      rw [rk_m_eq]
      exact rk_Mom_lt (by omega) hM z.2.1 (rk_Tie_al hT z.2.1 (by rw [z.2.2.1]; decide))
/-- out of the queue of r -/
def rk_deq (C : rk_ST) (s r : Nat) (pc : Int32) : rk_ST := rk_sA (rk_sA (rk_sA (rk_sA C 23 (rk_dB (C 23) pc s)) 24 (rk_dF (C 24) (C 23) pc r s)) 25 (rk_dL (C 25) pc r s)) 26 (upd (C 26) r ((C 26) r - 1))
theorem rk_co_df {pc : Int32} (hN : N + 1 ≤ 67108864) (hs : rk_S (C 8) (C 14) (C 12) r s) (hp : p < 4) (hl : (C 10) s = nI p) (hpc : rk_Pv (rk_S (C 8) (C 14) (C 12) r) (rk_m (C 63)) s pc)
    (h : rk_Co N rk_fa 0 C C) : rk_Co (N + 1) rk_fa 0 (rk_cfr (rk_deq C s r pc) s p how) (rk_cfr (rk_deq C s r pc) s p how) := by
  obtain ⟨hT, hL, hB, hM, hR, hW, hA, hQ⟩ := h
  have hs10 := hs.2.1
  have h2 := hs.2.2.1
  have hw : rk_wg (C 8) s := Or.inl h2
  have ha := rk_Tie_al hT hs10 (rk_wg_ne0 hw)
  refine ⟨rk_Tie_set hT (Or.inl rfl) ha, hL, rk_Bir_up (by omega) hB, rk_Mom_last (by omega) (fun t _ z => z) hM, rk_Ro_rdy (by omega) hT hM hs10 hp hl (rk_wg_ne1 hw) hR,
    rk_Wt_rdy (rk_wclr_b (by omega) hB hW.2.1 hs10 (rk_wait_tg hW hs10 hw)) (fun t ht => pk_un ht) (fun t ht => pk_un ht) (fun _ _ => rfl) (fun _ _ => Iff.rfl) hW, ?_, ?_⟩
  · refine rk_Ac_mono (fun r t z => ?_) hA
    have e : t ≠ s := fun e => rk_wg_1 (e ▸ z.2.2.1)
    exact ⟨z.1, z.2.1, (rk_wg_ne e).mp z.2.2.1, z.2.2.2⟩
  · refine rk_Qu_del (rk_S_in hT hM r) (rk_S_dj (by omega) hB r) hs.1 hs hpc (fun q t => ?_) (fun t ht => rk_m_ne ht) hQ
    show rk_S (upd (C 8) s 1) (C 14) (C 12) q t ↔ _
    unfold rk_S
    by_cases e : t = s
    · subst e
      rw [pk_us]
      exact ⟨fun z => absurd z.2.2.1 (by decide), fun z => absurd rfl z.2⟩
    · rw [pk_un e]
      exact ⟨fun z => ⟨z, e⟩, fun z => z.1⟩
def rk_caw (C : rk_ST) (s r : Nat) (pc : Int32) : rk_ST := rk_lst (rk_sA (rk_sA (rk_sA (rk_deq C s r pc) 17 (upd (C 17) s 0)) 8 (upd (C 8) s 4)) 60 (upd (C 60) s ((C 14) s))) s
theorem rk_co_da {pc : Int32} (hN : N + 1 ≤ 67108864) (hs : rk_S (C 8) (C 14) (C 12) r s) (hpc : rk_Pv (rk_S (C 8) (C 14) (C 12) r) (rk_m (C 63)) s pc)
    (h : rk_Co N rk_fa 0 C C) : rk_Co (N + 1) rk_fa 0 (rk_caw C s r pc) (rk_caw C s r pc) := by
  obtain ⟨hT, hL, hB, hM, hR, hW, hA, hQ⟩ := h
  have hs10 := hs.2.1
  have h2 := hs.2.2.1
  have hw : rk_wg (C 8) s := Or.inl h2
  have ha := rk_Tie_al hT hs10 (rk_wg_ne0 hw)
  refine ⟨rk_Tie_set hT (Or.inr (Or.inr (Or.inr rfl))) ha, hL, rk_Bir_up (by omega) hB, rk_Mom_last (by omega) (fun t _ z => z) hM, ?_,
    rk_Wt_awt h2 (fun t ht => pk_un ht) hW, ?_, ?_⟩
  · have z := rk_Ro_same (s := s) (v := 4) (x := (C 10) s) (y := (C 58 0) + 1) (rk_wg_ne1 hw) (by decide) hR
    rw [rk_upp] at z
    exact z
  · refine rk_Ac_mono (fun r t z => ?_) hA
    by_cases e : t = s
    · subst e
      exact ⟨z.1, z.2.1, hw, z.2.2.2⟩
    · exact ⟨z.1, z.2.1, (rk_wg_ne e).mp z.2.2.1, z.2.2.2⟩
  · refine rk_Qu_del (rk_S_in hT hM r) (rk_S_dj (by omega) hB r) hs.1 hs hpc (fun q t => ?_) (fun t ht => rk_m_ne ht) hQ
    show rk_S (upd (C 8) s 4) (C 14) (C 12) q t ↔ _
    unfold rk_S
    by_cases e : t = s
    · subst e
      rw [pk_us]
      exact ⟨fun z => absurd z.2.2.1 (by decide), fun z => absurd rfl z.2⟩
    · rw [pk_un e]
      exact ⟨fun z => ⟨z, e⟩, fun z => z.1⟩
end
end
section
/-! got, enqueue, dequeue -/
section
variable {C : rk_ST} {N : Nat} {s r p : Nat} {x e v how : Int32} {bs : Nat → Nat} {w : Nat}
def rk_cg0 (C : rk_ST) (s : Nat) (e x : Int32) : rk_ST := rk_sA (rk_sA (rk_sA (rk_sA (rk_sA C 36 (upd (C 36) s e)) 38 (upd (C 38) s 0)) 37 (upd (C 37) s x)) 3 (fun _ => (C 3 0) + 1)) 74 (upd (C 74) 2 ((C 74) 2 + 1))
theorem rk_ygets0 {post : SY → Prop} (hs : s < 10) (K : post (rk_mY (rk_cg0 C s e x))) : wpY_gets post (rk_mY C) (nI s) e 0 x := by
  have i10 : vp_in (nI s) 10 := rk_in hs
  have es : (nI s).toNatClampNeg = s := rk_cl (by omega)
  have i7 : vp_in ((2 : Int32) + 0) 7 := vp_in_iff.mpr (by decide)
  have et : ((2 : Int32) + 0).toNatClampNeg = 2 := by decide
  exact And.intro i10 (nm_r (e' := upd (C 36) s e) (by rw [es]) ⟨i10, nm_r (e' := upd (C 38) s 0) (by rw [es]) ⟨i10, nm_r (e' := upd (C 37) s x) (by rw [es]) ⟨i7, i7, nm_r (e' := upd (C 74) 2 ((C 74) 2 + 1)) (by rw [et]) K⟩⟩⟩)
def rk_cg1 (C : rk_ST) (s : Nat) (e x : Int32) : rk_ST := rk_sA (rk_sA (rk_sA (rk_sA (rk_sA C 36 (upd (C 36) s e)) 38 (upd (C 38) s 1)) 37 (upd (C 37) s x)) 4 (fun _ => (C 4 0) + 1)) 74 (upd (C 74) 3 ((C 74) 3 + 1))
theorem rk_ygets1 {post : SY → Prop} (hs : s < 10) (K : post (rk_mY (rk_cg1 C s e x))) : wpY_gets post (rk_mY C) (nI s) e 1 x := by
  have i10 : vp_in (nI s) 10 := rk_in hs
  have es : (nI s).toNatClampNeg = s := rk_cl (by omega)
  have i7 : vp_in ((2 : Int32) + 1) 7 := vp_in_iff.mpr (by decide)
  have et : ((2 : Int32) + 1).toNatClampNeg = 3 := by decide
  exact And.intro i10 (nm_r (e' := upd (C 36) s e) (by rw [es]) ⟨i10, nm_r (e' := upd (C 38) s 1) (by rw [es]) ⟨i10, nm_r (e' := upd (C 37) s x) (by rw [es]) ⟨i7, i7, nm_r (e' := upd (C 74) 3 ((C 74) 3 + 1)) (by rw [et]) K⟩⟩⟩)
def rk_cg2 (C : rk_ST) (s : Nat) (e x : Int32) : rk_ST := rk_sA (rk_sA (rk_sA (rk_sA (rk_sA C 36 (upd (C 36) s e)) 38 (upd (C 38) s 2)) 37 (upd (C 37) s x)) 5 (fun _ => (C 5 0) + 1)) 74 (upd (C 74) 4 ((C 74) 4 + 1))
theorem rk_ygets2 {post : SY → Prop} (hs : s < 10) (K : post (rk_mY (rk_cg2 C s e x))) : wpY_gets post (rk_mY C) (nI s) e 2 x := by
  have i10 : vp_in (nI s) 10 := rk_in hs
  have es : (nI s).toNatClampNeg = s := rk_cl (by omega)
  have i7 : vp_in ((2 : Int32) + 2) 7 := vp_in_iff.mpr (by decide)
  have et : ((2 : Int32) + 2).toNatClampNeg = 4 := by decide
  exact And.intro i10 (nm_r (e' := upd (C 36) s e) (by rw [es]) ⟨i10, nm_r (e' := upd (C 38) s 2) (by rw [es]) ⟨i10, nm_r (e' := upd (C 37) s x) (by rw [es]) ⟨i7, i7, nm_r (e' := upd (C 74) 4 ((C 74) 4 + 1)) (by rw [et]) K⟩⟩⟩)
theorem rk_xgot0 {post : SX → Prop} (hs : s < 10) (K : post (rk_mX (rk_cg0 C s e x))) : wpX_got post (rk_mX C) (nI s) e 0 x := by
  have i10 : vp_in (nI s) 10 := rk_in hs
  have es : (nI s).toNatClampNeg = s := rk_cl (by omega)
  exact And.intro i10 (nm_r (e' := upd (C 36) s e) (by rw [es]) ⟨i10, nm_r (e' := upd (C 38) s 0) (by rw [es]; exact congrArg (upd (C 38) s) (rk_vb8 (b := 0) (by decide))) ⟨i10, nm_r (e' := upd (C 37) s x) (by rw [es]) (br_t rfl (nm_e K))⟩⟩)
theorem rk_xgot1 {post : SX → Prop} (hs : s < 10) (K : post (rk_mX (rk_cg1 C s e x))) : wpX_got post (rk_mX C) (nI s) e 1 x := by
  have i10 : vp_in (nI s) 10 := rk_in hs
  have es : (nI s).toNatClampNeg = s := rk_cl (by omega)
  exact And.intro i10 (nm_r (e' := upd (C 36) s e) (by rw [es]) ⟨i10, nm_r (e' := upd (C 38) s 1) (by rw [es]; exact congrArg (upd (C 38) s) (rk_vb8 (b := 1) (by decide))) ⟨i10, nm_r (e' := upd (C 37) s x) (by rw [es]) (br_f (by decide) (br_t rfl (nm_e K)))⟩⟩)
theorem rk_xgot2 {post : SX → Prop} (hs : s < 10) (K : post (rk_mX (rk_cg2 C s e x))) : wpX_got post (rk_mX C) (nI s) e 2 x := by
  have i10 : vp_in (nI s) 10 := rk_in hs
  have es : (nI s).toNatClampNeg = s := rk_cl (by omega)
  exact And.intro i10 (nm_r (e' := upd (C 36) s e) (by rw [es]) ⟨i10, nm_r (e' := upd (C 38) s 2) (by rw [es]; exact congrArg (upd (C 38) s) (rk_vb8 (b := 2) (by decide))) ⟨i10, nm_r (e' := upd (C 37) s x) (by rw [es]) (br_f (by decide) (br_f (by decide) (nm_e K)))⟩⟩)
theorem rk_To_g0 {to : Nat → Int32} {nw pr mg ng lg en co : Int32} (h : rk_To to nw pr mg ng lg en co) : rk_To (upd to 2 (to 2 + 1)) nw pr (mg + 1) ng lg en co :=
  ⟨(pk_un (j := 0) (k := 2) (by decide)).trans h.1, (pk_un (j := 1) (k := 2) (by decide)).trans h.2.1, pk_us.trans (by rw [h.2.2.1]), (pk_un (j := 3) (k := 2) (by decide)).trans h.2.2.2.1, (pk_un (j := 4) (k := 2) (by decide)).trans h.2.2.2.2.1, (pk_un (j := 5) (k := 2) (by decide)).trans h.2.2.2.2.2.1, (pk_un (j := 6) (k := 2) (by decide)).trans h.2.2.2.2.2.2⟩
theorem rk_in_g0 (h : rk_In N bs w C) : rk_In N bs w (rk_cg0 C s e x) := by
  obtain ⟨h0, h1, h2, h3, h4, h5, h6, h7, h8, h9⟩ := h
  exact ⟨h0, h1, h2, h3, h4, h5, h6, h7, rk_To_g0 h8, h9⟩
theorem rk_To_g1 {to : Nat → Int32} {nw pr mg ng lg en co : Int32} (h : rk_To to nw pr mg ng lg en co) : rk_To (upd to 3 (to 3 + 1)) nw pr mg (ng + 1) lg en co :=
  ⟨(pk_un (j := 0) (k := 3) (by decide)).trans h.1, (pk_un (j := 1) (k := 3) (by decide)).trans h.2.1, (pk_un (j := 2) (k := 3) (by decide)).trans h.2.2.1, pk_us.trans (by rw [h.2.2.2.1]), (pk_un (j := 4) (k := 3) (by decide)).trans h.2.2.2.2.1, (pk_un (j := 5) (k := 3) (by decide)).trans h.2.2.2.2.2.1, (pk_un (j := 6) (k := 3) (by decide)).trans h.2.2.2.2.2.2⟩
theorem rk_in_g1 (h : rk_In N bs w C) : rk_In N bs w (rk_cg1 C s e x) := by
  obtain ⟨h0, h1, h2, h3, h4, h5, h6, h7, h8, h9⟩ := h
  exact ⟨h0, h1, h2, h3, h4, h5, h6, h7, rk_To_g1 h8, h9⟩
theorem rk_To_g2 {to : Nat → Int32} {nw pr mg ng lg en co : Int32} (h : rk_To to nw pr mg ng lg en co) : rk_To (upd to 4 (to 4 + 1)) nw pr mg ng (lg + 1) en co :=
  ⟨(pk_un (j := 0) (k := 4) (by decide)).trans h.1, (pk_un (j := 1) (k := 4) (by decide)).trans h.2.1, (pk_un (j := 2) (k := 4) (by decide)).trans h.2.2.1, (pk_un (j := 3) (k := 4) (by decide)).trans h.2.2.2.1, pk_us.trans (by rw [h.2.2.2.2.1]), (pk_un (j := 5) (k := 4) (by decide)).trans h.2.2.2.2.2.1, (pk_un (j := 6) (k := 4) (by decide)).trans h.2.2.2.2.2.2⟩
theorem rk_in_g2 (h : rk_In N bs w C) : rk_In N bs w (rk_cg2 C s e x) := by
  obtain ⟨h0, h1, h2, h3, h4, h5, h6, h7, h8, h9⟩ := h
  exact ⟨h0, h1, h2, h3, h4, h5, h6, h7, rk_To_g2 h8, h9⟩
/-! enqueue -/
theorem rk_xenq40 {post : SX → Prop} (hs : s < 10) (hr : r < 10) (hsn : ∃ n, n ≤ 10 ∧ (C 26) r = nI n) (K : post (rk_mX (rk_sA (rk_sA C 25 (upd (C 25) r (nI s))) 26 (upd (C 26) r ((C 26) r + 1))))) : wX_enqueue_40 post (nI s) (nI r) (C 0 0) (C 1 0) (C 2 0) (C 3 0) (C 4 0) (C 5 0) (C 6 0) (C 7 0) (C 8) (C 9) (C 10) (C 11) (C 12) (C 13) (C 14) (C 15) (C 16) (C 17) (C 18) (C 19) (C 20) (C 21) (C 22) (C 23) (C 24) (C 25) (C 26) (C 27) (C 28) (C 29) (C 30) (C 31) (C 32) (C 33) (C 34) (C 35) (C 36) (C 37) (C 38) (C 39) (C 40) (C 41) (C 42) (C 43) (C 44) (C 45) (C 46) (C 47) (C 48) (C 49) (C 50) (C 51) (C 52) (C 53) (C 54) (C 55) (C 56) := by
  have ir : vp_in (nI r) 10 := rk_in hr
  have er : (nI r).toNatClampNeg = r := rk_cl (by omega)
  obtain ⟨n, hn, en⟩ := hsn
  exact And.intro ir (nm_r (e' := upd (C 25) r (nI s)) (by rw [er, rk_vb8 (by omega)]) ⟨ir, ir, nm_r (e' := upd (C 26) r ((C 26) r + 1)) (by rw [er, en, nI_1, rk_vb8 (by omega)]) K⟩)
theorem rk_xenqueue {post : SX → Prop} (hs : s < 10) (hr : r < 10) (hsn : ∃ n, n ≤ 10 ∧ (C 26) r = nI n) (hla : ¬ (C 26) r ≤ 0 → ∃ b, b < 10 ∧ (C 25) r = nI b) (K : post (rk_mX (rk_enq C s r))) : wpX_enqueue post (rk_mX C) (nI s) (nI r) := by
  have is : vp_in (nI s) 10 := rk_in hs
  have ir : vp_in (nI r) 10 := rk_in hr
  have es : (nI s).toNatClampNeg = s := rk_cl (by omega)
  have er : (nI r).toNatClampNeg = r := rk_cl (by omega)
  unfold rk_enq rk_qB rk_qF at K
  refine And.intro is (nm_r (e' := upd (C 23) s (-1)) (by rw [es, rk_vbm]) ⟨ir, ?_⟩)
  by_cases c : (C 26) r ≤ 0
  · rw [if_pos c, if_pos c] at K
    exact br_t (by rw [er]; exact c) ⟨ir, nm_r (e' := upd (C 24) r (nI s)) (by rw [er, rk_vb8 (by omega)]) (rk_xenq40 (C := rk_sA (rk_sA C 23 (upd (C 23) s (-1))) 24 (upd (C 24) r (nI s))) hs hr hsn K)⟩
  · obtain ⟨b, hb, eb⟩ := hla c
    rw [if_neg c, if_neg c, eb, rk_cl (by omega)] at K
    exact br_f (by rw [er]; exact c) ⟨ir, by rw [er, eb]; exact rk_in hb, nm_r (e' := upd (upd (C 23) s (-1)) b (nI s)) (by rw [er, eb, rk_cl (by omega), rk_vb8 (by omega)]) (rk_xenq40 (C := rk_sA C 23 (upd (upd (C 23) s (-1)) b (nI s))) hs hr hsn K)⟩
/-! dequeue -/
theorem rk_xdeq62 {post : SX → Prop} {pc : Int32} (hr : r < 10) (hpc : rk_cd 10 pc) (hsn : ∃ n, n ≤ 10 ∧ (C 26) r = nI (n + 1)) (K : post (rk_mX (rk_sA (rk_sA C 25 (rk_dL (C 25) pc r s)) 26 (upd (C 26) r ((C 26) r - 1))))) : wX_dequeue_62 post (nI s) (nI r) pc (C 0 0) (C 1 0) (C 2 0) (C 3 0) (C 4 0) (C 5 0) (C 6 0) (C 7 0) (C 8) (C 9) (C 10) (C 11) (C 12) (C 13) (C 14) (C 15) (C 16) (C 17) (C 18) (C 19) (C 20) (C 21) (C 22) (C 23) (C 24) (C 25) (C 26) (C 27) (C 28) (C 29) (C 30) (C 31) (C 32) (C 33) (C 34) (C 35) (C 36) (C 37) (C 38) (C 39) (C 40) (C 41) (C 42) (C 43) (C 44) (C 45) (C 46) (C 47) (C 48) (C 49) (C 50) (C 51) (C 52) (C 53) (C 54) (C 55) (C 56) := by
  have ir : vp_in (nI r) 10 := rk_in hr
  have er : (nI r).toNatClampNeg = r := rk_cl (by omega)
  obtain ⟨n, hn, en⟩ := hsn
  have en' : vp_nar .byte ((C 26) r - 1).toInt8.toInt32 = (C 26) r - 1 := by rw [en, nI_pred, rk_vb8 (by omega)]
  unfold rk_dL at K
  refine And.intro ir ?_
  by_cases c : (C 25) r = nI s
  · rw [if_pos c] at K
    exact br_t (by rw [er]; exact c) ⟨ir, nm_r (e' := upd (C 25) r pc) (by rw [er, rk_vbc8 (by decide) hpc]) (And.intro ir ⟨ir, nm_r (e' := upd (C 26) r ((C 26) r - 1)) (by rw [er, en']) K⟩)⟩
  · rw [if_neg c] at K
    exact br_f (by rw [er]; exact c) (And.intro ir ⟨ir, nm_r (e' := upd (C 26) r ((C 26) r - 1)) (by rw [er, en']) K⟩)
theorem rk_xdeqL {S : Nat → Prop} {m : Nat → Int} (hS : ∀ t, S t → t < 10) (hs : S s) (hr : r < 10) (hb : ∀ t, S t → rk_Nx S m t ((C 23) t)) (hsn : ∃ n, n ≤ 10 ∧ (C 26) r = nI (n + 1)) :
    ∀ (d x : Nat) (pc : Int32), S x → m x ≤ m s → m s - m x ≤ (d : Int) → rk_Pv S m x pc → (m x = m s → x = s) → (∀ a b, S a → S b → m a = m b → a = b) → ∃ pc', rk_Pv S m s pc' ∧ ∀ post : SX → Prop, post (rk_mX (rk_deq C s r pc')) → wX_dequeue_10 post (nI s) (nI r) (C 0 0) (C 1 0) (C 2 0) (C 3 0) (C 4 0) (C 5 0) (C 6 0) (C 7 0) (C 8) (C 9) (C 10) (C 11) (C 12) (C 13) (C 14) (C 15) (C 16) (C 17) (C 18) (C 19) (C 20) (C 21) (C 22) (C 23) (C 24) (C 25) (C 26) (C 27) (C 28) (C 29) (C 30) (C 31) (C 32) (C 33) (C 34) (C 35) (C 36) (C 37) (C 38) (C 39) (C 40) (C 41) (C 42) (C 43) (C 44) (C 45) (C 46) (C 47) (C 48) (C 49) (C 50) (C 51) (C 52) (C 53) (C 54) (C 55) (C 56) (d + 1) pc (nI x) := by
  have hs10 := hS s hs
  have is : vp_in (nI s) 10 := rk_in hs10
  have ir : vp_in (nI r) 10 := rk_in hr
  have es : (nI s).toNatClampNeg = s := rk_cl (by omega)
  have er : (nI r).toNatClampNeg = r := rk_cl (by omega)
  have done : ∀ (d : Nat) (pc : Int32), rk_Pv S m s pc → ∀ post : SX → Prop, post (rk_mX (rk_deq C s r pc)) → wX_dequeue_10 post (nI s) (nI r) (C 0 0) (C 1 0) (C 2 0) (C 3 0) (C 4 0) (C 5 0) (C 6 0) (C 7 0) (C 8) (C 9) (C 10) (C 11) (C 12) (C 13) (C 14) (C 15) (C 16) (C 17) (C 18) (C 19) (C 20) (C 21) (C 22) (C 23) (C 24) (C 25) (C 26) (C 27) (C 28) (C 29) (C 30) (C 31) (C 32) (C 33) (C 34) (C 35) (C 36) (C 37) (C 38) (C 39) (C 40) (C 41) (C 42) (C 43) (C 44) (C 45) (C 46) (C 47) (C 48) (C 49) (C 50) (C 51) (C 52) (C 53) (C 54) (C 55) (C 56) (d + 1) pc (nI s) := by
    intro d pc hpc post K
    have cpc := rk_cd_Pv hS hpc
    have cbh := rk_cd_Nx hS (hb s hs)
    unfold rk_deq rk_dB rk_dF at K
    rcases cpc with e | ⟨a, ha, e⟩
    · rw [if_neg (by rw [e]; exact rk_m1nle), if_neg (by rw [e]; exact rk_m1nle)] at K
      refine br_t rfl (br_f (by rw [e]; exact rk_m1nle) ⟨is, ir, nm_r (e' := upd (C 24) r ((C 23) s)) (by rw [er, es, rk_vbc (by decide) cbh]) ?_⟩)
      exact rk_xdeq62 (C := rk_sA C 24 (upd (C 24) r ((C 23) s))) hr (Or.inl e) hsn K
    · have p0 : (0 : Int32) ≤ pc := by rw [e]; exact nI_pos' (by omega)
      have ea : pc.toNatClampNeg = a := by rw [e]; exact rk_cl (by omega)
      rw [if_pos p0, if_pos p0, ea] at K
      refine br_t rfl (br_t p0 ⟨is, by rw [e]; exact rk_in ha, nm_r (e' := upd (C 23) a ((C 23) s)) (by rw [ea, es, rk_vbc (by decide) cbh]) ?_⟩)
      exact rk_xdeq62 (C := rk_sA C 23 (upd (C 23) a ((C 23) s))) hr (Or.inr ⟨a, ha, e⟩) hsn K
  intro d
  induction d with
  | zero =>
    intro x pc Sx hle hd hpc hxs inj
    have e : x = s := hxs (by omega)
    subst e
    exact ⟨pc, hpc, done 0 pc hpc⟩
  | succ d ih =>
    intro x pc Sx hle hd hpc hxs inj
    by_cases e : x = s
    · subst e
      exact ⟨pc, hpc, done (d + 1) pc hpc⟩
    · have hx10 := hS x Sx
      have ne : m x ≠ m s := fun z => e (hxs z)
      rcases hb x Sx with ⟨eb, l⟩ | ⟨b, eb, Sb, l, bb⟩
      · have := l s hs
        omega
      · have h1 := bb s hs
        have hb10 := hS b Sb
        obtain ⟨pc', q1, q2⟩ := ih b (nI x) Sb (by omega) (by omega) (rk_pv_of_nx Sx Sb l bb) (fun z => inj b s Sb hs z) inj
        refine ⟨pc', q1, fun post K => br_f (fun z => e (rk_inj (by omega) (by omega) z)) ⟨rk_in hx10, nm_r (e' := nI b) (by rw [rk_cl (by omega)]; exact eb) (q2 post K)⟩⟩
theorem rk_xdequeue {S : Nat → Prop} {m : Nat → Int} (hS : ∀ t, S t → t < 10) (inj : ∀ a b, S a → S b → m a = m b → a = b) (hs : S s) (hr : r < 10) (hq : rk_SL S m (C 23) ((C 24) r) ((C 25) r)) (hsn : ∃ n, n ≤ 10 ∧ (C 26) r = nI (n + 1)) :
    ∃ pc, rk_Pv S m s pc ∧ ∀ post : SX → Prop, post (rk_mX (rk_deq C s r pc)) → wpX_dequeue post (rk_mX C) (nI s) (nI r) := by
  have ir : vp_in (nI r) 10 := rk_in hr
  have er : (nI r).toNatClampNeg = r := rk_cl (by omega)
  rcases (hq.2 ⟨s, hs⟩).1 with ⟨_, z⟩ | ⟨b, eb, Sb, l⟩
  · exact absurd hs (z s)
  · obtain ⟨pc, h1, h2⟩ := rk_xdeqL hS hs hr hq.1 hsn (m s - m b).toNat b (-1) Sb (l s hs) (by have := l s hs; omega) (Or.inl ⟨rfl, l⟩) (fun z => inj b s Sb hs z) inj
    exact ⟨pc, h1, fun post K => And.intro ir (nm_r (e' := nI b) (by rw [er]; exact eb) ⟨_, h2 post K⟩)⟩
end
end
section
/-! free and ready, block and waits, a note; hand, send, call, note -/
section
variable {C : rk_ST} {N : Nat} {s r p k : Nat} {x e v how : Int32} {bs : Nat → Nat} {w : Nat}
theorem rk_in_fr (hN : N + 1 ≤ 67108864) (hs : s < 10) (h34 : (C 8) s = 3 ∨ (C 8) s = 4) (how : Int32) (h : rk_In N bs w C) :
    ∃ p, rk_In (N + 1) bs w (rk_cfr C s p how) ∧ (∀ post : SX → Prop, post (rk_mX (rk_cfr C s p how)) → wpX_free post (rk_mX C) (nI s) how) ∧ (∀ post : SY → Prop, post (rk_mY (rk_cfr C s p how)) → wpY_ready post (rk_mY C) (nI s) how) := by
  obtain ⟨h0, hre⟩ := h
  have h0' := h0
  obtain ⟨hT, hL, hB, hM, hR, hW, hA, hQ⟩ := h0
  obtain ⟨p, hp, hl⟩ := (hL s hs).1
  refine ⟨p, ⟨rk_co_fr hN hs h34 hp hl h0', hre⟩, fun post K => ?_, fun post K => rk_yready hs (by simp only [rk_mX, rk_mY, rk_sA_s, rk_sA_n, ne_eq, Nat.reduceEqDiff, not_false_eq_true, rk_cfr, rk_frX, rk_lst, rk_app, rk_rdyY] at K ⊢; exact K)⟩
  exact rk_xfree hs hp hl (rk_cd_Tl (fun t z => z.2.1) (hR p hp).2.2.2) (rk_tg_of (by omega) hB (rk_wait_tg hW hs (Or.inr h34))) (by simp only [rk_mX, rk_mY, rk_sA_s, rk_sA_n, ne_eq, Nat.reduceEqDiff, not_false_eq_true, rk_cfr, rk_lst] at K ⊢; exact K)
theorem rk_in_bk (hN : N + 1 ≤ 67108864) (hs : s < 10) (h1 : (C 8) s = 1) (hk : k = 3 ∨ k = 4) (hx : (x = -1 ∧ k = 3) ∨ ∃ r, r < 10 ∧ r ≠ s ∧ (C 75) r = 1 ∧ x = rk_ep (C 12) r ∧ rk_nr (C 8) (C 14) (C 12) r s) (h : rk_In N bs w C) :
    ∃ p, rk_In (N + 1) bs w (rk_cbk C s p (nI k) x) ∧ (∀ post : SX → Prop, post (rk_mX (rk_cbk C s p (nI k) x)) → wpX_block post (rk_mX C) (nI s) (nI k) x) ∧ (∀ post : SY → Prop, post (rk_mY (rk_cbk C s p (nI k) x)) → wpY_waits post (rk_mY C) (nI s) (nI k) x) := by
  obtain ⟨h0, hre⟩ := h
  have h0' := h0
  obtain ⟨hT, hL, hB, hM, hR, hW, hA, hQ⟩ := h0
  obtain ⟨p, hp, hl⟩ := (hL s hs).1
  have hRs : rk_R (C 8) (C 10) p s := ⟨hp, hs, h1, hl⟩
  have hv : nI k = 3 ∨ nI k = 4 := by rcases hk with z | z <;> subst z <;> decide
  refine ⟨p, ⟨rk_co_bk hN hs h1 hp hl hv (hx.imp (fun z => ⟨z.1, by rw [z.2]; rfl⟩) id) h0', hre⟩, fun post K => ?_, fun post K => rk_ywaits hs (by simp only [rk_mX, rk_mY, rk_sA_s, rk_sA_n, ne_eq, Nat.reduceEqDiff, not_false_eq_true, rk_cbk, rk_blkX, rk_lst, rk_unl, rk_wtsY] at K ⊢; exact K)⟩
  exact rk_xblock hs hp (by omega) hl (rk_cd_Nx (fun t z => z.2.1) ((hR p hp).1 s hRs)) (rk_cd_Pv (fun t z => z.2.1) ((hR p hp).2.1 s hRs)) (rk_tg_of (by omega) hB (hx.elim (fun z => Or.inl z.1) (fun ⟨r, z1, _, _, z2, _⟩ => Or.inr ⟨r, z1, z2⟩))) (by simp only [rk_mX, rk_mY, rk_sA_s, rk_sA_n, ne_eq, Nat.reduceEqDiff, not_false_eq_true, rk_cbk, rk_lst] at K ⊢; exact K)
/-! notes -/
theorem rk_14 (s k : Nat) : (14 : Int32) * nI s + nI k = nI (14 * s + k) := by
  rw [show (14 : Int32) = nI 14 from rfl, pk_mul, nI_add]
theorem rk_No_set {al no yn : Nat → Int32} (hs : s < 10) (hk : k < 14) (hal : k < 10 → al k = 1) (h : rk_No al no yn) : rk_No al (upd no s (no s ||| ((1 : Int32) <<< (nI k &&& 31)))) (upd yn (14 * s + k) 1) := by
  obtain ⟨h1, h2, h3⟩ := h
  refine ⟨fun r hr j hj => ?_, fun r hr j hj => ?_, fun r hr j hj z => ?_⟩
  · by_cases e : r = s
    · subst e
      rw [pk_us, rk_bset _ (by omega) (by omega)]
      by_cases ej : j = k
      · subst ej
        rw [pk_us, decide_eq_true rfl, Bool.or_true]
        rfl
      · rw [pk_un (by omega), decide_eq_false ej, Bool.or_false]
        exact h1 r hr j hj
    · rw [pk_un e, pk_un (by omega)]
      exact h1 r hr j hj
  · by_cases e : r = s
    · subst e
      rw [pk_us]
      rcases Nat.lt_or_ge j 32 with y | y
      · rw [rk_bset _ (by omega) y, h2 r hr j hj, decide_eq_false (by omega)]
        rfl
      · exact b_big y
    · rw [pk_un e]
      exact h2 r hr j hj
  · by_cases e : r = s
    · subst e
      rw [pk_us, rk_bset _ (by omega) (by omega)] at z
      by_cases ej : j = k
      · subst ej
        exact hal hj
      · rw [decide_eq_false ej, Bool.or_false] at z
        exact h3 r hr j hj z
    · rw [pk_un e] at z
      exact h3 r hr j hj z
theorem rk_No_clr {al no yn : Nat → Int32} (hs : s < 10) (hk : k < 14) (h : rk_No al no yn) : rk_No al (upd no s (no s &&& (((1 : Int32) <<< (nI k &&& 31)) ^^^ (-1)))) (upd yn (14 * s + k) 0) := by
  obtain ⟨h1, h2, h3⟩ := h
  refine ⟨fun r hr j hj => ?_, fun r hr j hj => ?_, fun r hr j hj z => ?_⟩
  · by_cases e : r = s
    · subst e
      rw [pk_us, rk_bclr _ (by omega) (by omega)]
      by_cases ej : j = k
      · subst ej
        rw [pk_us, decide_eq_true rfl, Bool.not_true, Bool.and_false]
        rfl
      · rw [pk_un (by omega), decide_eq_false ej, Bool.not_false, Bool.and_true]
        exact h1 r hr j hj
    · rw [pk_un e, pk_un (by omega)]
      exact h1 r hr j hj
  · by_cases e : r = s
    · subst e
      rw [pk_us]
      rcases Nat.lt_or_ge j 32 with y | y
      · rw [rk_bclr _ (by omega) y, h2 r hr j hj]
        rfl
      · exact b_big y
    · rw [pk_un e]
      exact h2 r hr j hj
  · by_cases e : r = s
    · subst e
      rw [pk_us, rk_bclr _ (by omega) (by omega), Bool.and_eq_true] at z
      exact h3 r hr j hj z.1
    · rw [pk_un e] at z
      exact h3 r hr j hj z
/-- a note comes to s from a source with bit k and number e -/
theorem rk_ring (hN : N + 1 ≤ 67108864) (hs : s < 10) (hk : k < 14) (hal : k < 10 → (C 75) k = 1) (hsrc : ∀ post : Int32 → Prop, post e → wpY_sourceOf post (rk_mY C) (nI k)) (h : rk_In N bs w C) :
    ∃ C', rk_In (N + 1) bs w C' ∧ (C' 75) = (C 75) ∧ (C' 48) = (C 48) ∧ (∀ post : SX → Prop, post (rk_mX C') → wpX_ring post (rk_mX C) (nI s) (nI k) e) ∧ (∀ post : SY → Prop, post (rk_mY C') → wpY_notify post (rk_mY C) (nI s) (nI k)) := by
  have is : vp_in (nI s) 10 := rk_in hs
  have es : (nI s).toNatClampNeg = s := rk_cl (by omega)
  obtain ⟨t, ht, TX, TY⟩ := rk_takes h.1.2.2.2.2.2.1 hs e 1
  rcases ht with rfl | ⟨rfl, h34⟩
  · refine ⟨rk_sA (rk_sA C 28 (upd (C 28) s ((C 28) s ||| ((1 : Int32) <<< (nI k &&& 31))))) 65 (upd (C 65) (14 * s + k) 1), ?_, rfl, rfl, fun post K => ?_, fun post K => ?_⟩
    · obtain ⟨h0, h1, h2, h3⟩ := rk_In_up (by omega : N ≤ N + 1) h
      exact ⟨h0, h1, rk_No_set hs hk hal h2, h3⟩
    · unfold wpX_ring
      exact TX _ (br_t rfl ⟨is, is, nm_r (e' := upd (C 28) s ((C 28) s ||| ((1 : Int32) <<< (nI k &&& 31)))) (by rw [es]) K⟩)
    · unfold wpY_notify
      exact hsrc _ (TY _ (br_t rfl ⟨by rw [rk_14]; exact rk_in (by omega), nm_r (e' := upd (C 65) (14 * s + k) 1) (by rw [rk_14, rk_cl (by omega), rk_vt1]) K⟩))
  · obtain ⟨p, h1, FX, FY⟩ := rk_in_fr (C := rk_cg1 C s e 0) hN hs h34 0 (rk_in_g1 h)
    refine ⟨rk_cfr (rk_cg1 C s e 0) s p 0, h1, rfl, rfl, fun post K => ?_, fun post K => ?_⟩
    · unfold wpX_ring
      exact TX _ (br_f (by decide) (rk_xgot1 hs (FX _ K)))
    · unfold wpY_notify
      exact hsrc _ (TY _ (br_f (by decide) (rk_ygets1 hs (FY _ K))))
theorem rk_ysrc (hB : rk_Bir N (C 75) (C 12) (C 59)) (hk : k < 10) (ha : (C 75) k = 1) : ∀ post : Int32 → Prop, post (rk_ep (C 12) k) → wpY_sourceOf post (rk_mY C) (nI k) := by
  intro post K
  exact br_f (nI_ge (b := 10) hk (by omega)) (rk_yep hB hk ha K)
/-! hand -/
theorem rk_hand {cl : Int32} (hcl : cl = 0 ∨ cl = 1) (hN : N + 2 ≤ 67108864) (h : rk_In N bs w C) (to x : Int32) :
    ∃ r C', rk_In (N + 2) bs w C' ∧ (∀ post : Int32 → SX → Prop, post r (rk_mX C') → wpX_hand post (rk_mX C) to x cl) ∧ (∀ post : Int32 → SY → Prop, post r (rk_mY C') → wpY_hand post (rk_mY C) to x cl) := by
  have hup : rk_In (N + 2) bs w C := rk_In_up (by omega) h
  obtain ⟨v, hv, RX, RY⟩ := rk_runner h.1
  rcases hv with ⟨rfl, _⟩ | ⟨r, hr, rfl, r1, _⟩
  · refine ⟨-1, C, hup, fun post K => ?_, fun post K => ?_⟩
    · unfold wpX_hand
      exact RX _ (br_f rk_m1nle (br_f (by decide) K))
    · unfold wpY_hand
      exact RY _ (br_f rk_m1nle K)
  · have p0 : (0 : Int32) ≤ nI r := nI_pos' (by omega)
    obtain ⟨wr, hw, WX, WY⟩ := rk_wrong (by omega) h.1 hr to 1
    have bad : ¬ wr = 0 → ¬ 0 ≤ wr → ∃ r C', rk_In (N + 2) bs w C' ∧ (∀ post : Int32 → SX → Prop, post r (rk_mX C') → wpX_hand post (rk_mX C) to x cl) ∧ (∀ post : Int32 → SY → Prop, post r (rk_mY C') → wpY_hand post (rk_mY C) to x cl) := by
      intro z1 z2
      refine ⟨wr, C, hup, fun post K => ?_, fun post K => ?_⟩
      · unfold wpX_hand
        exact RX _ (br_t p0 (WX _ (br_f z1 K)))
      · unfold wpY_hand
        exact RY _ (br_t p0 (WY _ (nm_e (br_f z2 K))))
    rcases hw with z | z | z | ⟨z, s, hs, hsr, has, hto⟩
    · exact bad (by rw [z]; decide) (by rw [z]; decide)
    · exact bad (by rw [z]; decide) (by rw [z]; decide)
    · exact bad (by rw [z]; decide) (by rw [z]; decide)
    · subst z
      have h0 := h.1
      obtain ⟨hT, hL, hB, hM, hR, hW, hA, hQ⟩ := h0
      have e15 : to &&& 15 = nI s := by rw [hto]; exact rk_ep_and (by omega) hB hs
      have har := rk_Tie_al hT hr (by rw [r1]; decide)
      have er : (nI r).toNatClampNeg = r := rk_cl (by omega)
      have ir : vp_in (nI r) 10 := rk_in hr
      obtain ⟨t, ht, TX, TY⟩ := rk_takes hW hs (rk_ep (C 12) r) 0
      rcases ht with rfl | ⟨rfl, h34⟩
      · obtain ⟨q, hq, SX, SY⟩ := rk_stuck (by omega) h.1 hs hr hsr
        rcases hq with rfl | ⟨rfl, hnr⟩
        · refine ⟨-5, C, hup, fun post K => ?_, fun post K => ?_⟩
          · unfold wpX_hand
            exact RX _ (br_t p0 (WX _ (br_t rfl (nm_r (e' := nI s) e15 (rk_xep hr (TX _ (br_t rfl (SX _ (br_f (by decide) K)))))))))
          · unfold wpY_hand
            exact RY _ (br_t p0 (WY _ (nm_r (e' := nI s) e15 (br_t (by decide) (rk_yep hB hr har (TY _ (br_t rfl (SY _ (br_f (by decide) K)))))))))
        · obtain ⟨p, hp, hl⟩ := (hL r hr).1
          have hRs : rk_R (C 8) (C 10) p r := ⟨hp, hr, r1, hl⟩
          have hcn : vp_nar .boolean cl = cl := by rcases hcl with z | z <;> rw [z] <;> rfl
          have hsn : ∃ n, n ≤ 10 ∧ (C 26) s = nI n := ⟨_, rk_cn_le _ 10, (hQ s hs).2⟩
          have hla : ¬ (C 26) s ≤ 0 → ∃ b, b < 10 ∧ (C 25) s = nI b := by
            intro z
            have y : ∃ t, rk_S (C 8) (C 14) (C 12) s t := Classical.byContradiction (fun y => z ((rk_se_0 hs hQ).mpr (fun t u => y ⟨t, u⟩)))
            rcases ((hQ s hs).1.2 y).2 with u | ⟨b, u1, u2, _⟩
            · obtain ⟨t, y⟩ := y
              exact absurd y (u.2 t)
            · exact ⟨b, u2.2.1, u1⟩
          refine ⟨-2, rk_csn C r p s to cl x, ⟨rk_Co_up (by omega) (rk_co_sn (val := x) (by omega) hr r1 hp hl hs hsr has hto hnr hcl h.1), h.2⟩, fun post K => ?_, fun post K => ?_⟩
          · unfold wpX_hand
            refine RX _ (br_t p0 (WX _ (br_t rfl (nm_r (e' := nI s) e15 (rk_xep hr (TX _ (br_t rfl (SX _ (br_t rfl ?_)))))))))
            refine rk_xblock (k := 2) hr hp (by decide) hl (rk_cd_Nx (fun t z => z.2.1) ((hR p hp).1 r hRs)) (rk_cd_Pv (fun t z => z.2.1) ((hR p hp).2.1 r hRs)) (rk_tg_of (by omega) hB (Or.inr ⟨s, hs, hto⟩)) ?_
            refine rk_xenqueue (C := rk_blkX C r p (nI 2) to) hr hs hsn hla ?_
            exact And.intro ir (nm_r (e' := upd (C 17) r cl) (by rw [er, hcn]; rfl) ⟨ir, nm_r (e' := upd (C 16) r x) (by rw [er]; rfl) (by simp only [rk_mX, rk_mY, rk_sA_s, rk_sA_n, ne_eq, Nat.reduceEqDiff, not_false_eq_true, rk_csn, rk_lst, rk_enq, rk_blkX, rk_unl] at K ⊢; exact K)⟩)
          · unfold wpY_hand
            refine RY _ (br_t p0 (WY _ (nm_r (e' := nI s) e15 (br_t (by decide) (rk_yep hB hr har (TY _ (br_t rfl (SY _ (br_t rfl ?_)))))))))
            exact br_t rfl ⟨ir, nm_r (e' := upd (C 16) r x) (by rw [er]) ⟨ir, nm_r (e' := upd (C 64) r cl) (by rw [er, hcn]) (rk_ywaits (C := rk_sA (rk_sA C 16 (upd (C 16) r x)) 64 (upd (C 64) r cl)) hr (by simp only [rk_mX, rk_mY, rk_sA_s, rk_sA_n, ne_eq, Nat.reduceEqDiff, not_false_eq_true, rk_csn, rk_lst, rk_enq, rk_blkX, rk_unl, rk_wtsY] at K ⊢; exact K))⟩⟩
      · obtain ⟨p, h1, FX, FY⟩ := rk_in_fr (C := rk_cg0 C s (rk_ep (C 12) r) x) (N := N) (by omega) hs h34 0 (rk_in_g0 h)
        rcases hcl with hc | hc
        · refine ⟨0, _, rk_In_up (by omega) h1, fun post K => ?_, fun post K => ?_⟩
          · unfold wpX_hand
            exact RX _ (br_t p0 (WX _ (br_t rfl (nm_r (e' := nI s) e15 (rk_xep hr (TX _ (br_f (by decide) (rk_xgot0 hs (FX _ (br_t hc K))))))))))
          · unfold wpY_hand
            exact RY _ (br_t p0 (WY _ (nm_r (e' := nI s) e15 (br_t (by decide) (rk_yep hB hr har (TY _ (br_f (by decide) (br_f (by decide) (rk_ygets0 hs (FY _ (br_t hc K)))))))))))
        · have nc : ¬ cl = 0 := by rw [hc]; decide
          have s1 : rk_cfr (rk_cg0 C s (rk_ep (C 12) r) x) s p 0 8 r = 1 := by
            show upd (C 8) s 1 r = 1
            rw [pk_un (j := r) (k := s) (fun z => hsr z.symm)]
            exact r1
          have hnr : rk_nr (upd (C 8) s 1) (C 14) (C 12) s r := by
            refine ⟨fun y => y = s, rfl, fun a b e z => ?_, fun z => hsr z.symm⟩
            subst e
            exact absurd z.2.2.1 rk_wg_1
          obtain ⟨p', h2, BX, BY⟩ := rk_in_bk (C := rk_cfr (rk_cg0 C s (rk_ep (C 12) r) x) s p 0) (N := N + 1) (k := 4) (x := to) (by omega) hr s1 (Or.inr rfl) (Or.inr ⟨s, hs, hsr, has, hto, hnr⟩) h1
          refine ⟨-2, _, h2, fun post K => ?_, fun post K => ?_⟩
          · unfold wpX_hand
            exact RX _ (br_t p0 (WX _ (br_t rfl (nm_r (e' := nI s) e15 (rk_xep hr (TX _ (br_f (by decide) (rk_xgot0 hs (FX _ (br_f nc (BX _ K)))))))))))
          · unfold wpY_hand
            exact RY _ (br_t p0 (WY _ (nm_r (e' := nI s) e15 (br_t (by decide) (rk_yep hB hr har (TY _ (br_f (by decide) (br_f (by decide) (rk_ygets0 hs (FY _ (br_f nc (BY _ K))))))))))))
theorem rk_note (hN : N + 1 ≤ 67108864) (h : rk_In N bs w C) (to : Int32) :
    ∃ r C', rk_In (N + 1) bs w C' ∧ (∀ post : Int32 → SX → Prop, post r (rk_mX C') → wpX_note post (rk_mX C) to) ∧ (∀ post : Int32 → SY → Prop, post r (rk_mY C') → wpY_note post (rk_mY C) to) := by
  have hup : rk_In (N + 1) bs w C := rk_In_up (by omega) h
  obtain ⟨v, hv, RX, RY⟩ := rk_runner h.1
  rcases hv with ⟨rfl, _⟩ | ⟨r, hr, rfl, r1, _⟩
  · refine ⟨-1, C, hup, fun post K => ?_, fun post K => ?_⟩
    · unfold wpX_note
      exact RX _ (br_f rk_m1nle (br_f (by decide) K))
    · unfold wpY_note
      exact RY _ (br_f rk_m1nle K)
  · have p0 : (0 : Int32) ≤ nI r := nI_pos' (by omega)
    obtain ⟨wr, hw, WX, WY⟩ := rk_wrong (by omega) h.1 hr to 1
    have bad : ¬ wr = 0 → ∃ r C', rk_In (N + 1) bs w C' ∧ (∀ post : Int32 → SX → Prop, post r (rk_mX C') → wpX_note post (rk_mX C) to) ∧ (∀ post : Int32 → SY → Prop, post r (rk_mY C') → wpY_note post (rk_mY C) to) := by
      intro z1
      refine ⟨wr, C, hup, fun post K => ?_, fun post K => ?_⟩
      · unfold wpX_note
        exact RX _ (br_t p0 (WX _ (br_f z1 K)))
      · unfold wpY_note
        exact RY _ (br_t p0 (WY _ (br_f z1 K)))
    rcases hw with z | z | z | ⟨z, s, hs, hsr, has, hto⟩
    · exact bad (by rw [z]; decide)
    · exact bad (by rw [z]; decide)
    · exact bad (by rw [z]; decide)
    · subst z
      obtain ⟨hT, hL, hB, hM, hR, hW, hA, hQ⟩ := h.1
      have e15 : to &&& 15 = nI s := by rw [hto]; exact rk_ep_and (by omega) hB hs
      have har := rk_Tie_al hT hr (by rw [r1]; decide)
      obtain ⟨C', h1, _, _, X, Y⟩ := rk_ring (k := r) (e := rk_ep (C 12) r) hN hs (by omega) (fun _ => har) (rk_ysrc hB hr har) h
      refine ⟨0, C', h1, fun post K => ?_, fun post K => ?_⟩
      · unfold wpX_note
        refine RX _ (br_t p0 (WX _ (br_t rfl (rk_xep hr ?_))))
        rw [e15]
        exact X _ K
      · unfold wpY_note
        refine RY _ (br_t p0 (WY _ (br_t rfl ?_)))
        rw [e15]
        exact Y _ K
end
end
section
/-! poke, memory, running, total, alarm, watch, beat -/
section
variable {C : rk_ST} {N : Nat} {s r p k : Nat} {x e v how : Int32} {bs : Nat → Nat} {w : Nat}
theorem rk_rng (v lo hi : Int32) : (v < lo ∨ ¬ v ≤ hi) ∨ (¬ v < lo ∧ v ≤ hi) := by
  by_cases h : v < lo
  · exact Or.inl (Or.inl h)
  · by_cases h2 : v ≤ hi
    · exact Or.inr ⟨h, h2⟩
    · exact Or.inl (Or.inr h2)
theorem rk_16 (s k : Nat) : (16 : Int32) * nI s + nI k = nI (16 * s + k) := by
  rw [show (16 : Int32) = nI 16 from rfl, pk_mul, nI_add]
theorem rk_4 (s k : Nat) : (4 : Int32) * nI s + nI k = nI (4 * s + k) := by
  rw [show (4 : Int32) = nI 4 from rfl, pk_mul, nI_add]
theorem rk_poke (h : rk_In N bs w C) (v1 v2 v3 : Int32) :
    ∃ r C', rk_In N bs w C' ∧ (∀ post : Int32 → SX → Prop, post r (rk_mX C') → wpX_poke post (rk_mX C) v1 v2 v3) ∧ (∀ post : Int32 → SY → Prop, post r (rk_mY C') → wpY_poke post (rk_mY C) v1 v2 v3) := by
  rcases rk_rng v1 0 9 with z | ⟨z1, z2⟩
  · refine ⟨0, C, h, fun post K => ?_, fun post K => ?_⟩
    · unfold wpX_poke
      exact rk_xout1 z (br_f (by decide) K)
    · unfold wpY_poke
      exact rk_ythereO z (br_t rfl K)
  · obtain ⟨s, hs, rfl⟩ := nI_of2 (n := 9) (by decide) z1 z2
    have hs10 : s < 10 := by omega
    have es : (nI s).toNatClampNeg = s := rk_cl (by omega)
    by_cases h0 : (C 8) s = 0
    · refine ⟨0, C, h, fun post K => ?_, fun post K => ?_⟩
      · unfold wpX_poke
        exact rk_xout0 z1 z2 (br_t rfl ⟨rk_in hs10, br_t (by rw [es]; exact h0) K⟩)
      · unfold wpY_poke
        exact rk_ythere0 hs10 h0 (br_t rfl K)
    · have ha := rk_Tie_al h.1.1 hs10 h0
      rcases rk_rng v2 0 15 with y | ⟨y1, y2⟩
      · refine ⟨0, C, h, fun post K => ?_, fun post K => ?_⟩
        · unfold wpX_poke
          exact rk_xout0 z1 z2 (br_t rfl ⟨rk_in hs10, br_f (by rw [es]; exact h0) (rk_xout1 y (br_f (by decide) K))⟩)
        · unfold wpY_poke
          exact rk_ythere1 h.1.1 hs10 ha (br_f (by decide) (rk_yin0 y (br_t rfl K)))
      · obtain ⟨a, ha16, rfl⟩ := nI_of2 (n := 15) (by decide) y1 y2
        have ix : vp_in ((16 : Int32) * nI s + nI a) 160 := by rw [rk_16]; exact rk_in (by omega)
        have ex : ((16 : Int32) * nI s + nI a).toNatClampNeg = 16 * s + a := by rw [rk_16]; exact rk_cl (by omega)
        refine ⟨1, rk_sA C 18 (upd (C 18) (16 * s + a) v3), h, fun post K => ?_, fun post K => ?_⟩
        · unfold wpX_poke
          exact rk_xout0 z1 z2 (br_t rfl ⟨rk_in hs10, br_f (by rw [es]; exact h0) (rk_xout0 y1 y2 (br_t rfl ⟨ix, nm_r (e' := upd (C 18) (16 * s + a) v3) (by rw [ex]) K⟩))⟩)
        · unfold wpY_poke
          exact rk_ythere1 h.1.1 hs10 ha (br_f (by decide) (rk_yin1 y1 y2 (br_f (by decide) ⟨ix, nm_r (e' := upd (C 18) (16 * s + a) v3) (by rw [ex]) K⟩)))
theorem rk_memory (h : rk_In N bs w C) (v1 v2 : Int32) :
    ∃ r, (∀ post : Int32 → Prop, post r → wpX_memory post (rk_mX C) v1 v2) ∧ (∀ post : Int32 → Prop, post r → wpY_memory post (rk_mY C) v1 v2) := by
  rcases rk_rng v1 0 9 with z | ⟨z1, z2⟩
  · refine ⟨0, fun post K => ?_, fun post K => ?_⟩
    · unfold wpX_memory
      exact rk_xout1 z (br_f (by decide) K)
    · unfold wpY_memory
      exact rk_ythereO z (br_t rfl K)
  · obtain ⟨s, hs, rfl⟩ := nI_of2 (n := 9) (by decide) z1 z2
    have hs10 : s < 10 := by omega
    have es : (nI s).toNatClampNeg = s := rk_cl (by omega)
    by_cases h0 : (C 8) s = 0
    · refine ⟨0, fun post K => ?_, fun post K => ?_⟩
      · unfold wpX_memory
        exact rk_xout0 z1 z2 (br_t rfl ⟨rk_in hs10, br_t (by rw [es]; exact h0) K⟩)
      · unfold wpY_memory
        exact rk_ythere0 hs10 h0 (br_t rfl K)
    · have ha := rk_Tie_al h.1.1 hs10 h0
      rcases rk_rng v2 0 15 with y | ⟨y1, y2⟩
      · refine ⟨0, fun post K => ?_, fun post K => ?_⟩
        · unfold wpX_memory
          exact rk_xout0 z1 z2 (br_t rfl ⟨rk_in hs10, br_f (by rw [es]; exact h0) (rk_xout1 y (br_f (by decide) K))⟩)
        · unfold wpY_memory
          exact rk_ythere1 h.1.1 hs10 ha (br_f (by decide) (rk_yin0 y (br_t rfl K)))
      · obtain ⟨a, ha16, rfl⟩ := nI_of2 (n := 15) (by decide) y1 y2
        have ix : vp_in ((16 : Int32) * nI s + nI a) 160 := by rw [rk_16]; exact rk_in (by omega)
        have ex : ((16 : Int32) * nI s + nI a).toNatClampNeg = 16 * s + a := by rw [rk_16]; exact rk_cl (by omega)
        refine ⟨(C 18) (16 * s + a), fun post K => ?_, fun post K => ?_⟩
        · unfold wpX_memory
          exact rk_xout0 z1 z2 (br_t rfl ⟨rk_in hs10, br_f (by rw [es]; exact h0) (rk_xout0 y1 y2 (br_t rfl ⟨ix, by rw [ex]; exact K⟩))⟩)
        · unfold wpY_memory
          exact rk_ythere1 h.1.1 hs10 ha (br_f (by decide) (rk_yin1 y1 y2 (br_f (by decide) ⟨ix, by rw [ex]; exact K⟩)))
theorem rk_running (h : rk_In N bs w C) : ∃ r, (∀ post : Int32 → Prop, post r → wpX_running post (rk_mX C)) ∧ (∀ post : Int32 → Prop, post r → wpY_running post (rk_mY C)) := by
  obtain ⟨v, hv, RX, RY⟩ := rk_runner h.1
  rcases hv with ⟨rfl, _⟩ | ⟨r, hr, rfl, r1, _⟩
  · refine ⟨-6, fun post K => ?_, fun post K => ?_⟩
    · unfold wpX_running
      exact RX _ (br_f rk_m1nle K)
    · unfold wpY_running
      exact RY _ (br_f rk_m1nle K)
  · have p0 : (0 : Int32) ≤ nI r := nI_pos' (by omega)
    have har := rk_Tie_al h.1.1 hr (by rw [r1]; decide)
    refine ⟨rk_ep (C 12) r, fun post K => ?_, fun post K => ?_⟩
    · unfold wpX_running
      exact RX _ (br_t p0 (rk_xep hr K))
    · unfold wpY_running
      exact RY _ (br_t p0 (rk_yep h.1.2.2.1 hr har K))
theorem rk_total (h : rk_In N bs w C) (v1 : Int32) : ∃ r, (∀ post : Int32 → Prop, post r → wpX_total post (rk_mX C) v1) ∧ (∀ post : Int32 → Prop, post r → wpY_total post (rk_mY C) v1) := by
  rcases rk_rng v1 0 6 with z | ⟨z1, z2⟩
  · refine ⟨-1, fun post K => ?_, fun post K => ?_⟩
    · unfold wpX_total
      by_cases y : v1 < 0
      · exact br_t y K
      · exact br_f y (br_t (Int32.not_le.mp (z.resolve_left y)) K)
    · unfold wpY_total
      exact rk_yin0 z (br_t rfl K)
  · obtain ⟨j, hj, rfl⟩ := nI_of2 (n := 6) (by decide) z1 z2
    obtain ⟨_, _, _, _, _, _, _, _, ⟨a0, a1, a2, a3, a4, a5, a6⟩, _⟩ := h
    have ej : (nI j).toNatClampNeg = j := rk_cl (by omega)
    have Y : ∀ post : Int32 → Prop, post ((C 74) j) → wpY_total post (rk_mY C) (nI j) := by
      intro post K
      unfold wpY_total
      exact rk_yin1 z1 z2 (br_f (by decide) ⟨rk_in (by omega), by rw [ej]; exact K⟩)
    have n6 : ¬ (6 : Int32) < nI j := Int32.not_lt.mpr z2
    rcases (by omega : j = 0 ∨ j = 1 ∨ j = 2 ∨ j = 3 ∨ j = 4 ∨ j = 5 ∨ j = 6) with rfl | rfl | rfl | rfl | rfl | rfl | rfl
    · exact ⟨(C 74) 0, fun post K => br_f z1 (br_f n6 (br_t rfl (by rw [a0] at K; exact K))), Y⟩
    · exact ⟨(C 74) 1, fun post K => br_f z1 (br_f n6 (br_f (by decide) (br_t rfl (by rw [a1] at K; exact K)))), Y⟩
    · exact ⟨(C 74) 2, fun post K => br_f z1 (br_f n6 (br_f (by decide) (br_f (by decide) (br_t rfl (by rw [a2] at K; exact K))))), Y⟩
    · exact ⟨(C 74) 3, fun post K => br_f z1 (br_f n6 (br_f (by decide) (br_f (by decide) (br_f (by decide) (br_t rfl (by rw [a3] at K; exact K)))))), Y⟩
    · exact ⟨(C 74) 4, fun post K => br_f z1 (br_f n6 (br_f (by decide) (br_f (by decide) (br_f (by decide) (br_f (by decide) (br_t rfl (by rw [a4] at K; exact K))))))), Y⟩
    · exact ⟨(C 74) 5, fun post K => br_f z1 (br_f n6 (br_f (by decide) (br_f (by decide) (br_f (by decide) (br_f (by decide) (br_f (by decide) (br_t rfl (by rw [a5] at K; exact K)))))))), Y⟩
    · exact ⟨(C 74) 6, fun post K => br_f z1 (br_f n6 (br_f (by decide) (br_f (by decide) (br_f (by decide) (br_f (by decide) (br_f (by decide) (br_f (by decide) (br_t rfl (by rw [a6] at K; exact K))))))))), Y⟩
theorem rk_alarm (hw : w ≤ 1073741824) (h : rk_In N (fun _ => w) w C) (v1 : Int32) :
    ∃ r C', rk_In N (fun _ => w) w C' ∧ (∀ post : Int32 → SX → Prop, post r (rk_mX C') → wpX_alarm post (rk_mX C) v1) ∧ (∀ post : Int32 → SY → Prop, post r (rk_mY C') → wpY_alarm post (rk_mY C) v1) := by
  obtain ⟨v, hv, RX, RY⟩ := rk_runner h.1
  rcases hv with ⟨rfl, _⟩ | ⟨r, hr, rfl, r1, _⟩
  · refine ⟨-1, C, h, fun post K => ?_, fun post K => ?_⟩
    · unfold wpX_alarm
      exact RX _ (br_t rk_m1lt K)
    · unfold wpY_alarm
      exact RY _ (br_t rk_m1lt K)
  · have n0 : ¬ nI r < 0 := nI_pos (by omega)
    have har := rk_Tie_al h.1.1 hr (by rw [r1]; decide)
    have ir : vp_in (nI r) 10 := rk_in hr
    have er : (nI r).toNatClampNeg = r := rk_cl (by omega)
    rcases rk_rng v1 0 100 with z | ⟨z1, z2⟩
    · refine ⟨-1, C, h, fun post K => ?_, fun post K => ?_⟩
      · unfold wpX_alarm
        exact RX _ (br_f n0 (rk_xout1 z (br_f (by decide) K)))
      · unfold wpY_alarm
        exact RY _ (br_f n0 (rk_yin0 z (br_t rfl K)))
    · obtain ⟨n, hn, rfl⟩ := nI_of2 (n := 100) (by decide) z1 z2
      obtain ⟨h0, h1, h2, h3, h4, h5, h6, h7, h8, h9⟩ := h
      refine ⟨(C 61) r, rk_sA (rk_sA C 44 (upd (C 44) r (if n = 0 then 0 else nI (w + n)))) 61 (upd (C 61) r (nI n)), ⟨h0, h1, h2, ?_, h4, h5, h6, h7, h8, h9⟩, fun post K => ?_, fun post K => ?_⟩
      · intro s hs
        show ((C 75) s = 0 ∧ upd (C 44) r _ s = 0) ∨ ((C 75) s = 1 ∧ ((upd (C 44) r _ s = 0 ∧ upd (C 61) r (nI n) s = 0) ∨ ∃ a, 1 ≤ a ∧ a ≤ 100 ∧ upd (C 61) r (nI n) s = nI a ∧ upd (C 44) r _ s = nI (w + a)))
        by_cases e : s = r
        · subst e
          rw [pk_us, pk_us]
          refine Or.inr ⟨har, ?_⟩
          by_cases c : n = 0
          · subst c
            exact Or.inl ⟨rfl, rfl⟩
          · rw [if_neg c]
            exact Or.inr ⟨n, by omega, hn, rfl, rfl⟩
        · rw [pk_un e, pk_un e]
          exact h3 s hs
      · unfold wpX_alarm
        have fin : wX_alarm_45 post (nI n) (nI r) ((C 61) r) (C 0 0) (C 1 0) (C 2 0) (C 3 0) (C 4 0) (C 5 0) (C 6 0) (C 7 0) (C 8) (C 9) (C 10) (C 11) (C 12) (C 13) (C 14) (C 15) (C 16) (C 17) (C 18) (C 19) (C 20) (C 21) (C 22) (C 23) (C 24) (C 25) (C 26) (C 27) (C 28) (C 29) (C 30) (C 31) (C 32) (C 33) (C 34) (C 35) (C 36) (C 37) (C 38) (C 39) (C 40) (C 41) (C 42) (C 43) (C 44) (C 45) (C 46) (C 47) (C 48) (C 49) (C 50) (C 51) (C 52) (C 53) (C 54) (C 55) (C 56) := by
          by_cases c : n = 0
          · subst c
            exact br_t rfl ⟨ir, nm_r (e' := upd (C 44) r 0) (by rw [er]) K⟩
          · rw [if_neg c] at K
            exact br_f (nI_ne0 (by omega) (by omega)) ⟨ir, nm_r (e' := upd (C 44) r (nI (w + n))) (by rw [er, h9, nI_add]) K⟩
        refine RX _ (br_f n0 (rk_xout0 z1 z2 (br_t rfl ⟨ir, ?_⟩)))
        rcases h3 r hr with y | ⟨_, ⟨y1, y2⟩ | ⟨a, y1, y2, y3, y4⟩⟩
        · rw [har] at y
          exact absurd y.1 (by decide)
        · rw [y2] at fin
          exact br_t (by rw [er]; exact y1) fin
        · have y4 : (C 44) r = nI (w + a) := y4
          have ea : (C 44) r - (C 1 0) = (C 61) r := by
            rw [y3, y4, h9, pk_sub (by omega)]
            exact congrArg nI (by omega)
          refine br_f (by rw [er, y4]; exact nI_ne0 (by omega) (by omega)) ⟨ir, ?_⟩
          rw [er, ea]
          exact fin
      · unfold wpY_alarm
        exact RY _ (br_f n0 (rk_yin1 z1 z2 (br_f (by decide) ⟨ir, nm_r (e' := (C 61) r) (by rw [er]) ⟨ir, nm_r (e' := upd (C 61) r (nI n)) (by rw [er]) K⟩⟩)))
theorem rk_watch (h : rk_In N bs w C) (v1 : Int32) :
    ∃ r C', rk_In N bs w C' ∧ (∀ post : Int32 → SX → Prop, post r (rk_mX C') → wpX_watch post (rk_mX C) v1) ∧ (∀ post : Int32 → SY → Prop, post r (rk_mY C') → wpY_watch post (rk_mY C) v1) := by
  obtain ⟨v, hv, RX, RY⟩ := rk_runner h.1
  rcases hv with ⟨rfl, _⟩ | ⟨r, hr, rfl, r1, _⟩
  · refine ⟨-1, C, h, fun post K => ?_, fun post K => ?_⟩
    · unfold wpX_watch
      exact RX _ (br_t rk_m1lt K)
    · unfold wpY_watch
      exact RY _ (br_t rk_m1lt K)
  · have n0 : ¬ nI r < 0 := nI_pos (by omega)
    have har := rk_Tie_al h.1.1 hr (by rw [r1]; decide)
    have ir : vp_in (nI r) 10 := rk_in hr
    have er : (nI r).toNatClampNeg = r := rk_cl (by omega)
    rcases rk_rng v1 0 2 with z | ⟨z1, z2⟩
    · refine ⟨-1, C, h, fun post K => ?_, fun post K => ?_⟩
      · unfold wpX_watch
        exact RX _ (br_f n0 (rk_xout1 z (br_f (by decide) K)))
      · unfold wpY_watch
        exact RY _ (br_f n0 (rk_yin0 z (br_t rfl K)))
    · obtain ⟨k, hk, rfl⟩ := nI_of2 (n := 2) (by decide) z1 z2
      have ik : vp_in (nI k) 3 := rk_in (by omega)
      have ek : (nI k).toNatClampNeg = k := rk_cl (by omega)
      obtain ⟨h0, h1, h2, h3, h4, h5⟩ := h
      refine ⟨0, rk_sA (rk_sA C 55 (upd (C 55) k ((C 55) k ||| ((1 : Int32) <<< (nI r &&& 31))))) 62 (upd (C 62) r ((C 62) r ||| ((1 : Int32) <<< (nI k &&& 31)))), ⟨h0, h1, h2, h3, ?_, h5⟩, fun post K => ?_, fun post K => ?_⟩
      · intro j hj q hq
        show bt (upd (C 55) k _ j) q = (decide ((C 75) q = 1) && bt (upd (C 62) r _ q) j)
        have h6 := h4 j hj q hq
        by_cases ej : j = k
        · subst ej
          rw [pk_us, rk_bset _ (by omega) (by omega), h6]
          by_cases eq : q = r
          · subst eq
            rw [pk_us, rk_bset _ (by omega) (by omega), decide_eq_true rfl, decide_eq_true rfl, decide_eq_true har, Bool.or_true, Bool.or_true]
            rfl
          · rw [pk_un eq, decide_eq_false eq, Bool.or_false]
        · rw [pk_un ej, h6]
          by_cases eq : q = r
          · subst eq
            rw [pk_us, rk_bset _ (by omega) (by omega), decide_eq_false ej, Bool.or_false]
          · rw [pk_un eq]
      · unfold wpX_watch
        exact RX _ (br_f n0 (rk_xout0 z1 z2 (br_t rfl ⟨ik, ik, nm_r (e' := upd (C 55) k ((C 55) k ||| ((1 : Int32) <<< (nI r &&& 31)))) (by rw [ek]) K⟩)))
      · unfold wpY_watch
        exact RY _ (br_f n0 (rk_yin1 z1 z2 (br_f (by decide) ⟨ir, ir, nm_r (e' := upd (C 62) r ((C 62) r ||| ((1 : Int32) <<< (nI k &&& 31)))) (by rw [er]) K⟩)))
end
end
section
/-! beat, serve, close, service -/
section
variable {C : rk_ST} {N : Nat} {s r p k : Nat} {x e v how : Int32} {bs : Nat → Nat} {w : Nat}
/-- Y's search for the service of r -/
theorem rk_ybeatL (hB : rk_Bir N (C 75) (C 12) (C 59)) (hr : r < 10) (har : (C 75) r = 1) :
    ∀ d i, i + d = 3 → ((∀ j, i ≤ j → j < 3 → ¬ ((C 70) j = 1 ∧ (C 73) j = rk_ep (C 12) r)) → ∀ post : Int32 → SY → Prop, post (-6) (rk_mY C) → wY_beat_13 post (nI r) (C 57 0) (C 58 0) (C 8) (C 59) (C 9) (C 10) (C 11) (C 13) (C 60) (C 16) (C 15) (C 61) (C 62) (C 36) (C 38) (C 37) (C 63) (C 64) (C 18) (C 65) (C 66) (C 67) (C 68) (C 39) (C 42) (C 43) (C 40) (C 69) (C 70) (C 49) (C 52) (C 51) (C 53) (C 71) (C 72) (C 54) (C 73) (C 74) (C 56) (d + 1) (nI i)) ∧
      (∀ k, i ≤ k → k < 3 → (∀ j, i ≤ j → j < k → ¬ ((C 70) j = 1 ∧ (C 73) j = rk_ep (C 12) r)) → (C 70) k = 1 → (C 73) k = rk_ep (C 12) r → ∀ post : Int32 → SY → Prop, post (nI k) (rk_mY (rk_sA C 71 (upd (C 71) k ((C 74) 0)))) → wY_beat_13 post (nI r) (C 57 0) (C 58 0) (C 8) (C 59) (C 9) (C 10) (C 11) (C 13) (C 60) (C 16) (C 15) (C 61) (C 62) (C 36) (C 38) (C 37) (C 63) (C 64) (C 18) (C 65) (C 66) (C 67) (C 68) (C 39) (C 42) (C 43) (C 40) (C 69) (C 70) (C 49) (C 52) (C 51) (C 53) (C 71) (C 72) (C 54) (C 73) (C 74) (C 56) (d + 1) (nI i)) := by
  intro d
  induction d with
  | zero =>
    intro i hi
    have e : i = 3 := by omega
    subst e
    refine ⟨fun _ post K => br_t (nI_le (a := 3) (by omega) (by omega)) K, fun k h1 h2 => ?_⟩
    omega
  | succ d ih =>
    intro i hi
    have hi3 : i < 3 := by omega
    have n3 : ¬ (3 : Int32) ≤ nI i := nI_ge (b := 3) hi3 (by omega)
    have ii : vp_in (nI i) 3 := rk_in hi3
    have ei : (nI i).toNatClampNeg = i := rk_cl (by omega)
    obtain ⟨g1, g2⟩ := ih (i + 1) (by omega)
    have skip : ¬ ((C 70) i = 1 ∧ (C 73) i = rk_ep (C 12) r) → ∀ post : Int32 → SY → Prop, wY_beat_13 post (nI r) (C 57 0) (C 58 0) (C 8) (C 59) (C 9) (C 10) (C 11) (C 13) (C 60) (C 16) (C 15) (C 61) (C 62) (C 36) (C 38) (C 37) (C 63) (C 64) (C 18) (C 65) (C 66) (C 67) (C 68) (C 39) (C 42) (C 43) (C 40) (C 69) (C 70) (C 49) (C 52) (C 51) (C 53) (C 71) (C 72) (C 54) (C 73) (C 74) (C 56) (d + 1) (nI (i + 1)) → wY_beat_13 post (nI r) (C 57 0) (C 58 0) (C 8) (C 59) (C 9) (C 10) (C 11) (C 13) (C 60) (C 16) (C 15) (C 61) (C 62) (C 36) (C 38) (C 37) (C 63) (C 64) (C 18) (C 65) (C 66) (C 67) (C 68) (C 39) (C 42) (C 43) (C 40) (C 69) (C 70) (C 49) (C 52) (C 51) (C 53) (C 71) (C 72) (C 54) (C 73) (C 74) (C 56) (d + 1 + 1) (nI i) := by
      intro z post K
      by_cases c : (C 70) i = 1
      · have c2 : ¬ (C 73) i = rk_ep (C 12) r := fun y => z ⟨c, y⟩
        exact br_f n3 ⟨ii, br_t (by rw [ei]; exact c) ⟨ii, rk_yep hB hr har (br_f (by rw [ei]; exact c2) (nm_r (nI_1 i) K))⟩⟩
      · exact br_f n3 ⟨ii, br_f (by rw [ei]; exact c) (nm_r (nI_1 i) K)⟩
    refine ⟨fun z post K => skip (z i (Nat.le_refl i) hi3) post (g1 (fun j h1 h2 => z j (by omega) h2) post K), fun k h1 h2 h3 h4 h5 post K => ?_⟩
    by_cases e : k = i
    · subst e
      exact br_f n3 ⟨ii, br_t (by rw [ei]; exact h4) ⟨ii, rk_yep hB hr har (br_t (by rw [ei]; exact h5) ⟨ii, nm_r (e' := upd (C 71) k ((C 74) 0)) (by rw [ei]) K⟩)⟩⟩
    · exact skip (h3 i (Nat.le_refl i) (by omega)) post (g2 k (by omega) h2 (fun j y1 y2 => h3 j (by omega) y2) h4 h5 post K)
theorem rk_beat (hN : N ≤ 67108864) (h : rk_In N bs w C) :
    ∃ r C', rk_In N bs w C' ∧ (∀ post : Int32 → SX → Prop, post r (rk_mX C') → wpX_beat post (rk_mX C)) ∧ (∀ post : Int32 → SY → Prop, post r (rk_mY C') → wpY_beat post (rk_mY C)) := by
  obtain ⟨v, hv, RX, RY⟩ := rk_runner h.1
  rcases hv with ⟨rfl, _⟩ | ⟨r, hr, rfl, r1, _⟩
  · refine ⟨-1, C, h, fun post K => ?_, fun post K => ?_⟩
    · unfold wpX_beat
      exact RX _ (br_f rk_m1nle K)
    · unfold wpY_beat
      exact RY _ (br_f rk_m1nle K)
  · have p0 : (0 : Int32) ≤ nI r := nI_pos' (by omega)
    have har := rk_Tie_al h.1.1 hr (by rw [r1]; decide)
    have ir : vp_in (nI r) 10 := rk_in hr
    have er : (nI r).toNatClampNeg = r := rk_cl (by omega)
    have hB := h.1.2.2.1
    obtain ⟨h0, h1, h2, h3, h4, ⟨h5, h5'⟩, h6, h7, h8, h9⟩ := h
    have uni : ∀ j, j < 3 → (C 70) j = 1 → (C 73) j = rk_ep (C 12) r → (C 47) r = nI j ∧ (C 50) j = nI r := by
      intro j hj z1 z2
      rcases h5 j hj with y | y | ⟨_, _, p, y1, y2, y3, y4, y5, _⟩
      · rw [y.2.1] at z1; exact absurd z1 (by decide)
      · rw [y.2.1] at z1; exact absurd z1 (by decide)
      · have : p = r := rk_ep_inj hN hB y1 hr (y5.symm.trans z2)
        subst this
        exact ⟨y4, y2⟩
    obtain ⟨L1, L2⟩ := rk_ybeatL hB hr har 3 0 rfl
    rcases h5' r hr har with z | ⟨k, hk, z1, z2⟩
    · refine ⟨-6, C, ⟨h0, h1, h2, h3, h4, ⟨h5, h5'⟩, h6, h7, h8, h9⟩, fun post K => ?_, fun post K => ?_⟩
      · unfold wpX_beat
        exact RX _ (br_t p0 ⟨ir, br_f (by rw [er, z]; exact rk_m1nle) K⟩)
      · unfold wpY_beat
        refine RY _ (br_t p0 ⟨_, L1 (fun j _ hj y => ?_) post K⟩)
        have u := (uni j hj y.1 y.2).1
        rw [z] at u
        exact rk_nI_m1 (by omega) u.symm
    · have hsk : (C 70) k = 1 ∧ (C 73) k = rk_ep (C 12) r := by
        rcases h5 k hk with y | y | ⟨_, y0, p, y1, y2, y3, y4, y5, _⟩
        · rw [y.2.2] at z2; exact absurd z2.symm (rk_nI_m1 (by omega))
        · rw [y.2.2.1] at z2; exact absurd z2.symm (rk_nI_m1 (by omega))
        · rw [z2] at y2
          have : r = p := rk_inj (by omega) (by omega) y2
          subst this
          exact ⟨y0, y5⟩
      refine ⟨nI k, rk_sA (rk_sA C 46 (upd (C 46) r (C 1 0))) 71 (upd (C 71) k ((C 74) 0)), ⟨h0, h1, h2, h3, h4, ⟨fun j hj => ?_, h5'⟩, h6, h7, h8, h9⟩, fun post K => ?_, fun post K => ?_⟩
      · rcases h5 j hj with y | y | ⟨y0, y0', p, y1, y2, y3, y4, y5, y6, y7⟩
        · exact Or.inl y
        · exact Or.inr (Or.inl y)
        · refine Or.inr (Or.inr ⟨y0, y0', p, y1, y2, y3, y4, y5, ?_, y7⟩)
          show upd (C 71) k ((C 74) 0) j = upd (C 46) r (C 1 0) p
          by_cases e : j = k
          · subst e
            have : r = p := rk_inj (by omega) (by omega) (z2.symm.trans y2)
            subst this
            rw [pk_us, pk_us]
            exact h8.1
          · have hne : p ≠ r := by
              intro u
              subst u
              exact e (rk_inj (by omega) (by omega) (y4.symm.trans z1))
            rw [pk_un e, pk_un hne]
            exact y6
      · unfold wpX_beat
        refine RX _ (br_t p0 ⟨ir, br_t (by rw [er, z1]; exact nI_pos' (by omega)) ⟨ir, nm_r (e' := upd (C 46) r (C 1 0)) (by rw [er]) ⟨ir, ?_⟩⟩⟩)
        rw [er, z1]
        exact K
      · unfold wpY_beat
        refine RY _ (br_t p0 ⟨_, L2 k (Nat.zero_le k) hk (fun j _ hj y => ?_) hsk.1 hsk.2 post K⟩)
        have u := (uni j (by omega) y.1 y.2).1
        rw [z1] at u
        have := rk_inj (by omega) (by omega) u
        omega
theorem rk_serve (h : rk_In N bs w C) (v1 v2 v3 : Int32) :
    ∃ r C', rk_In N bs w C' ∧ (∀ post : Int32 → SX → Prop, post r (rk_mX C') → wpX_serve post (rk_mX C) v1 v2 v3) ∧ (∀ post : Int32 → SY → Prop, post r (rk_mY C') → wpY_serve post (rk_mY C) v1 v2 v3) := by
  rcases rk_rng v1 0 2 with z | ⟨z1, z2⟩
  · refine ⟨-1, C, h, fun post K => ?_, fun post K => ?_⟩
    · unfold wpX_serve
      exact rk_xout1 z (br_f (by decide) K)
    · unfold wpY_serve
      exact rk_yin0 z (br_t rfl K)
  · rcases rk_rng v2 0 3 with y | ⟨y1, y2⟩
    · refine ⟨-1, C, h, fun post K => ?_, fun post K => ?_⟩
      · unfold wpX_serve
        exact rk_xout0 z1 z2 (br_t rfl (rk_xout1 y (br_f (by decide) K)))
      · unfold wpY_serve
        exact rk_yin1 z1 z2 (br_f (by decide) (rk_yin0 y (br_t rfl K)))
    · rcases rk_rng v3 2 50 with u | ⟨u1, u2⟩
      · refine ⟨-1, C, h, fun post K => ?_, fun post K => ?_⟩
        · unfold wpX_serve
          exact rk_xout0 z1 z2 (br_t rfl (rk_xout0 y1 y2 (br_t rfl (rk_xout1 u (br_f (by decide) K)))))
        · unfold wpY_serve
          exact rk_yin1 z1 z2 (br_f (by decide) (rk_yin1 y1 y2 (br_f (by decide) (rk_yin0 u (br_t rfl K)))))
      · have u0 : ¬ v3 < 0 := fun q => u1 (Int32.lt_trans q (by decide))
        obtain ⟨k, hk, rfl⟩ := nI_of2 (n := 2) (by decide) z1 z2
        obtain ⟨b, hb, rfl⟩ := nI_of2 (n := 3) (by decide) y1 y2
        obtain ⟨l, hl, rfl⟩ := nI_of2 (n := 50) (by decide) u0 u2
        have ik : vp_in (nI k) 3 := rk_in (by omega)
        have ek : (nI k).toNatClampNeg = k := rk_cl (by omega)
        have hk3 : k < 3 := by omega
        have h5 := h.2.2.2.2.2.1.1 k hk3
        by_cases c : (C 48) k = 0
        · have c0 : (C 70) k = 0 ∧ (C 50) k = -1 := by
            rcases h5 with q | q | q
            · exact ⟨q.2.1, q.2.2⟩
            · rw [q.1] at c; exact absurd c (by decide)
            · rw [q.1] at c; exact absurd c (by decide)
          obtain ⟨h0, h1, h2, h3, h4, ⟨g1, g2⟩, h6, h7, h8, h9⟩ := h
          refine ⟨0, rk_sA (rk_sA (rk_sA (rk_sA (rk_sA (rk_sA (rk_sA (rk_sA C 48 (upd (C 48) k 1)) 49 (upd (C 49) k (nI b))) 52 (upd (C 52) k (nI l))) 51 (upd (C 51) k 1)) 54 (upd (C 54) k 0)) 53 (upd (C 53) k ((C 1 0) + 1))) 70 (upd (C 70) k 2)) 73 (upd (C 73) k (-1)),
            ⟨h0, h1, h2, h3, h4, ⟨fun j hj => ?_, g2⟩, fun j hj => ?_, h7, h8, h9⟩, fun post K => ?_, fun post K => ?_⟩
          · by_cases e : j = k
            · subst e
              refine Or.inr (Or.inl ⟨?_, ?_, c0.2, ?_⟩)
              · exact pk_us
              · exact pk_us
              · exact pk_us
            · show rk_Sk (C 75) (C 12) (upd (C 48) k 1) (C 50) (upd (C 70) k 2) (C 47) (C 46) (C 45) (C 71) (C 72) (upd (C 73) k (-1)) j
              unfold rk_Sk
              rw [pk_un e, pk_un e, pk_un e]
              exact g1 j hj
          · show (∃ b', b' < 4 ∧ upd (C 49) k (nI b) j = nI b') ∧ (∃ i, i ≤ 8 ∧ upd (C 51) k 1 j = nI i) ∧ (∃ i, i ≤ 50 ∧ upd (C 52) k (nI l) j = nI i)
            by_cases e : j = k
            · subst e
              rw [pk_us, pk_us, pk_us]
              exact ⟨⟨b, by omega, rfl⟩, ⟨1, by omega, rfl⟩, ⟨l, hl, rfl⟩⟩
            · rw [pk_un e, pk_un e, pk_un e]
              exact h6 j hj
          · unfold wpX_serve
            exact rk_xout0 z1 z2 (br_t rfl (rk_xout0 y1 y2 (br_t rfl (rk_xout0 u1 u2 (br_t rfl ⟨ik, br_t (by rw [ek]; exact c) ⟨ik, nm_r (e' := upd (C 48) k 1) (by rw [ek, rk_vt1]) ⟨ik, nm_r (e' := upd (C 49) k (nI b)) (by rw [ek, rk_vb8 (by omega)]) ⟨ik, nm_r (e' := upd (C 52) k (nI l)) (by rw [ek, rk_vb8 (by omega)]) ⟨ik, nm_r (e' := upd (C 51) k 1) (by rw [ek, rk_vb1]) ⟨ik, nm_r (e' := upd (C 54) k 0) (by rw [ek]) ⟨ik, nm_r (e' := upd (C 53) k ((C 1 0) + 1)) (by rw [ek]) K⟩⟩⟩⟩⟩⟩⟩)))))
          · unfold wpY_serve
            exact rk_yin1 z1 z2 (br_f (by decide) (rk_yin1 y1 y2 (br_f (by decide) (rk_yin1 u1 u2 (br_f (by decide) ⟨ik, br_t (by rw [ek, c0.1]; decide) ⟨ik, nm_r (e' := upd (C 70) k 2) (by rw [ek]) ⟨ik, nm_r (e' := upd (C 49) k (nI b)) (by rw [ek]) ⟨ik, nm_r (e' := upd (C 52) k (nI l)) (by rw [ek]) ⟨ik, nm_r (e' := upd (C 51) k 1) (by rw [ek]) ⟨ik, nm_r (e' := upd (C 53) k ((C 1 0) + 1)) (by rw [ek, h8.1]) ⟨ik, nm_r (e' := upd (C 54) k 0) (by rw [ek]) ⟨ik, nm_r (e' := upd (C 73) k (-1)) (by rw [ek]) K⟩⟩⟩⟩⟩⟩⟩⟩)))))
        · have c1 : ¬ (C 70) k ≤ 0 := by
            rcases h5 with q | q | q
            · exact absurd q.1 c
            · rw [q.2.1]; decide
            · rw [q.2.1]; decide
          refine ⟨-7, C, h, fun post K => ?_, fun post K => ?_⟩
          · unfold wpX_serve
            exact rk_xout0 z1 z2 (br_t rfl (rk_xout0 y1 y2 (br_t rfl (rk_xout0 u1 u2 (br_t rfl ⟨ik, br_f (by rw [ek]; exact c) K⟩)))))
          · unfold wpY_serve
            exact rk_yin1 z1 z2 (br_f (by decide) (rk_yin1 y1 y2 (br_f (by decide) (rk_yin1 u1 u2 (br_f (by decide) ⟨ik, br_f (by rw [ek]; exact c1) K⟩)))))
theorem rk_close (h : rk_In N bs w C) (v1 : Int32) :
    ∃ r C', rk_In N bs w C' ∧ (∀ post : Int32 → SX → Prop, post r (rk_mX C') → wpX_close post (rk_mX C) v1) ∧ (∀ post : Int32 → SY → Prop, post r (rk_mY C') → wpY_close post (rk_mY C) v1) := by
  rcases rk_rng v1 0 2 with z | ⟨z1, z2⟩
  · refine ⟨0, C, h, fun post K => ?_, fun post K => ?_⟩
    · unfold wpX_close
      exact rk_xout1 z (br_f (by decide) K)
    · unfold wpY_close
      exact rk_yin0 z (br_t rfl K)
  · obtain ⟨k, hk, rfl⟩ := nI_of2 (n := 2) (by decide) z1 z2
    have ik : vp_in (nI k) 3 := rk_in (by omega)
    have ek : (nI k).toNatClampNeg = k := rk_cl (by omega)
    have hk3 : k < 3 := by omega
    obtain ⟨h0, h1, h2, h3, h4, ⟨g1, g2⟩, h6⟩ := h
    rcases g1 k hk3 with q | q | ⟨q1, q2, p, q3, q4, q5, q6, q7, q8⟩
    · refine ⟨0, C, ⟨h0, h1, h2, h3, h4, ⟨g1, g2⟩, h6⟩, fun post K => ?_, fun post K => ?_⟩
      · unfold wpX_close
        exact rk_xout0 z1 z2 (br_t rfl ⟨ik, br_t (by rw [ek]; exact q.1) K⟩)
      · unfold wpY_close
        exact rk_yin1 z1 z2 (br_f (by decide) ⟨ik, br_t (by rw [ek]; exact q.2.1) K⟩)
    · refine ⟨1, rk_sA (rk_sA (rk_sA C 48 (upd (C 48) k 0)) 50 (upd (C 50) k (-1))) 70 (upd (C 70) k 0), ⟨h0, h1, h2, h3, h4, ⟨fun j hj => ?_, fun p hp ha => ?_⟩, h6⟩, fun post K => ?_, fun post K => ?_⟩
      · show rk_Sk (C 75) (C 12) (upd (C 48) k 0) (upd (C 50) k (-1)) (upd (C 70) k 0) (C 47) (C 46) (C 45) (C 71) (C 72) (C 73) j
        unfold rk_Sk
        by_cases e : j = k
        · subst e
          rw [pk_us, pk_us, pk_us]
          exact Or.inl ⟨rfl, rfl, rfl⟩
        · rw [pk_un e, pk_un e, pk_un e]
          exact g1 j hj
      · rcases g2 p hp ha with y | ⟨j, y1, y2, y3⟩
        · exact Or.inl y
        · refine Or.inr ⟨j, y1, y2, ?_⟩
          show upd (C 50) k (-1) j = nI p
          rw [pk_un (fun e => ?_)]
          · exact y3
          · subst e
            rw [q.2.2.1] at y3
            exact rk_nI_m1 (by omega) y3.symm
      · unfold wpX_close
        exact rk_xout0 z1 z2 (br_t rfl ⟨ik, br_f (by rw [ek, q.1]; decide) ⟨ik, nm_r (e' := upd (C 48) k 0) (by rw [ek, rk_vt0]) ⟨ik, br_t (by rw [ek, q.2.2.1]; exact rk_m1lt) ⟨ik, nm_r (e' := upd (C 50) k (-1)) (by rw [ek, rk_vbm]) K⟩⟩⟩⟩)
      · unfold wpY_close
        exact rk_yin1 z1 z2 (br_f (by decide) ⟨ik, br_f (by rw [ek, q.2.1]; decide) ⟨ik, nm_r (e' := upd (C 70) k 0) (by rw [ek]) K⟩⟩)
    · refine ⟨1, rk_sA (rk_sA (rk_sA (rk_sA C 48 (upd (C 48) k 0)) 47 (upd (C 47) p (-1))) 50 (upd (C 50) k (-1))) 70 (upd (C 70) k 0), ⟨h0, h1, h2, h3, h4, ⟨fun j hj => ?_, fun p' hp ha => ?_⟩, h6⟩, fun post K => ?_, fun post K => ?_⟩
      · show rk_Sk (C 75) (C 12) (upd (C 48) k 0) (upd (C 50) k (-1)) (upd (C 70) k 0) (upd (C 47) p (-1)) (C 46) (C 45) (C 71) (C 72) (C 73) j
        unfold rk_Sk
        by_cases e : j = k
        · subst e
          rw [pk_us, pk_us, pk_us]
          exact Or.inl ⟨rfl, rfl, rfl⟩
        · rw [pk_un e, pk_un e, pk_un e]
          rcases g1 j hj with y | y | ⟨y0, y0', p', y1, y2, y3, y4, y5⟩
          · exact Or.inl y
          · exact Or.inr (Or.inl y)
          · refine Or.inr (Or.inr ⟨y0, y0', p', y1, y2, y3, ?_, y5⟩)
            rw [pk_un (fun u => ?_)]
            · exact y4
            · subst u
              exact e (rk_inj (by omega) (by omega) (y4.symm.trans q6))
      · show upd (C 47) p (-1) p' = -1 ∨ ∃ j, j < 3 ∧ upd (C 47) p (-1) p' = nI j ∧ upd (C 50) k (-1) j = nI p'
        by_cases e : p' = p
        · subst e
          exact Or.inl pk_us
        · rw [pk_un e]
          rcases g2 p' hp ha with y | ⟨j, y1, y2, y3⟩
          · exact Or.inl y
          · refine Or.inr ⟨j, y1, y2, ?_⟩
            rw [pk_un (fun u => ?_)]
            · exact y3
            · subst u
              rw [q4] at y3
              exact e (rk_inj (by omega) (by omega) y3).symm
      · unfold wpX_close
        exact rk_xout0 z1 z2 (br_t rfl ⟨ik, br_f (by rw [ek, q1]; decide) ⟨ik, nm_r (e' := upd (C 48) k 0) (by rw [ek, rk_vt0]) ⟨ik, br_f (by rw [ek, q4]; exact nI_pos (by omega)) ⟨ik, by rw [ek, q4]; exact rk_in q3, nm_r (e' := upd (C 47) p (-1)) (by rw [ek, q4, rk_cl (by omega), rk_vbm]) ⟨ik, nm_r (e' := upd (C 50) k (-1)) (by rw [ek, rk_vbm]) K⟩⟩⟩⟩⟩)
      · unfold wpY_close
        exact rk_yin1 z1 z2 (br_f (by decide) ⟨ik, br_f (by rw [ek, q2]; decide) ⟨ik, nm_r (e' := upd (C 70) k 0) (by rw [ek]) K⟩⟩)
end
end
section
/-! lend, pass, revoke -/
section
variable {C : rk_ST} {N : Nat} {s r p k g : Nat} {x e v how : Int32} {bs : Nat → Nat} {w : Nat}
theorem rk_wrongA (hN : N ≤ 67108864) (h : rk_Co N rk_fa 0 C C) (hr : r < 10) (to : Int32) :
    ∃ wv, ((wv = 0 ∧ to = -1) ∨ (¬ to = -1 ∧ rk_wr C r to wv)) ∧ (∀ P : Int32 → Prop, P wv → ((to = -1 → P 0) ∧ (¬ to = -1 → wpX_wrong P (rk_mX C) (nI r) to 0))) ∧ (∀ P : Int32 → Prop, P wv → ((to = -1 → P 0) ∧ (¬ to = -1 → wpY_wrong P (rk_mY C) (nI r) to 0))) := by
  by_cases c : to = -1
  · exact ⟨0, Or.inl ⟨rfl, c⟩, fun P K => br_t c K, fun P K => br_t c K⟩
  · obtain ⟨wv, hw, X, Y⟩ := rk_wrong hN h hr to 0
    exact ⟨wv, Or.inr ⟨c, hw⟩, fun P K => br_f c (X P K), fun P K => br_f c (Y P K)⟩
theorem rk_wr_sgn {to wv : Int32} (h : (wv = 0 ∧ to = -1) ∨ (¬ to = -1 ∧ rk_wr C r to wv)) : wv = 0 ∨ (¬ wv = 0 ∧ ¬ 0 ≤ wv) := by
  rcases h with z | ⟨_, z | z | z | z⟩
  · exact Or.inl z.1
  · exact Or.inr (by rw [z]; decide)
  · exact Or.inr (by rw [z]; decide)
  · exact Or.inr (by rw [z]; decide)
  · exact Or.inl z.1
def rk_cgr (C : rk_ST) (g : Nat) (kd to wr fa : Int32) : rk_ST := rk_sA (rk_sA (rk_sA (rk_sA C 39 (upd (C 39) g kd)) 42 (upd (C 42) g to)) 43 (upd (C 43) g wr)) 40 (upd (C 40) g fa)
theorem rk_xgrant {post : SX → Prop} {j f : Nat} {to wr : Int32} (hg : g < 40) (hj : j < 128) (hf : f < 128) (K : post (rk_mX (rk_cgr C g (nI j) to wr (nI f)))) : wpX_grant post (rk_mX C) (nI g) (nI j) to wr (nI f) := by
  have ig : vp_in (nI g) 40 := rk_in hg
  have eg : (nI g).toNatClampNeg = g := rk_cl (by omega)
  exact And.intro ig (nm_r (e' := upd (C 39) g (nI j)) (by rw [eg, rk_vb8 hj]) ⟨ig, nm_r (e' := upd (C 42) g to) (by rw [eg]) ⟨ig, nm_r (e' := upd (C 43) g wr) (by rw [eg]) ⟨ig, nm_r (e' := upd (C 40) g (nI f)) (by rw [eg, rk_vb8 hf]) K⟩⟩⟩)
theorem rk_ygrant {post : Int32 → SY → Prop} {kd to a b c : Int32} (hr : r < 10) (hk : k < 4) (K : post 0 (rk_mY (rk_sA (rk_cgr C (4 * r + k) kd to a b) 69 (upd (C 69) (4 * r + k) c)))) : wpY_grant post (rk_mY C) (nI r) (nI k) kd to a b c := by
  have ig : vp_in (nI (4 * r + k)) 40 := rk_in (by omega)
  have eg : (nI (4 * r + k)).toNatClampNeg = 4 * r + k := rk_cl (by omega)
  exact nm_r (e' := nI (4 * r + k)) (rk_4 r k) (And.intro ig (nm_r (e' := upd (C 39) (4 * r + k) kd) (by rw [eg]) ⟨ig, nm_r (e' := upd (C 42) (4 * r + k) to) (by rw [eg]) ⟨ig, nm_r (e' := upd (C 43) (4 * r + k) a) (by rw [eg]) ⟨ig, nm_r (e' := upd (C 40) (4 * r + k) b) (by rw [eg]) ⟨ig, nm_r (e' := upd (C 69) (4 * r + k) c) (by rw [eg]) K⟩⟩⟩⟩))
theorem rk_Gr_set {kd fa ho wr yh : Nat → Int32} {a b c d d' : Int32} (hn : (a = 1 ∧ d' = d ∧ ∃ f l, c = nI f ∧ b = nI l ∧ f + l ≤ 16) ∨ (a = 2 ∧ ∃ j, j < 4 ∧ b = nI j)) (h : rk_Gr kd fa ho wr yh) : rk_Gr (upd kd g a) (upd fa g b) (upd ho g d) (upd wr g c) (upd yh g d') := by
  intro i hi
  by_cases e : i = g
  · subst e
    rw [pk_us, pk_us, pk_us, pk_us, pk_us]
    exact Or.inr hn
  · rw [pk_un e, pk_un e, pk_un e, pk_un e, pk_un e]
    exact h i hi
theorem rk_lend (hN : N ≤ 67108864) (h : rk_In N bs w C) (v1 v2 v3 v4 v5 : Int32) :
    ∃ r C', rk_In N bs w C' ∧ (∀ post : Int32 → SX → Prop, post r (rk_mX C') → wpX_lend post (rk_mX C) v1 v2 v3 v4 v5) ∧ (∀ post : Int32 → SY → Prop, post r (rk_mY C') → wpY_lend post (rk_mY C) v1 v2 v3 v4 v5) := by
  obtain ⟨v, hv, RX, RY⟩ := rk_runner h.1
  rcases hv with ⟨rfl, _⟩ | ⟨r, hr, rfl, r1, _⟩
  · refine ⟨-1, C, h, fun post K => ?_, fun post K => ?_⟩
    · unfold wpX_lend
      exact RX _ (br_t rk_m1lt K)
    · unfold wpY_lend
      exact RY _ (br_t rk_m1lt K)
  · have n0 : ¬ nI r < 0 := nI_pos (by omega)
    rcases rk_rng v1 0 3 with z | ⟨z1, z2⟩
    · refine ⟨-1, C, h, fun post K => ?_, fun post K => ?_⟩
      · unfold wpX_lend
        exact RX _ (br_f n0 (rk_xout1 z (br_f (by decide) K)))
      · unfold wpY_lend
        exact RY _ (br_f n0 (rk_yin0 z (br_t rfl K)))
    · rcases rk_rng v3 0 15 with y | ⟨y1, y2⟩
      · refine ⟨-1, C, h, fun post K => ?_, fun post K => ?_⟩
        · unfold wpX_lend
          exact RX _ (br_f n0 (rk_xout0 z1 z2 (br_t rfl (rk_xout1 y (br_f (by decide) K)))))
        · unfold wpY_lend
          exact RY _ (br_f n0 (rk_yin1 z1 z2 (br_f (by decide) (rk_yin0 y (br_t rfl K)))))
      · rcases rk_rng v4 1 (16 - v3) with u | ⟨u1, u2⟩
        · refine ⟨-1, C, h, fun post K => ?_, fun post K => ?_⟩
          · unfold wpX_lend
            exact RX _ (br_f n0 (rk_xout0 z1 z2 (br_t rfl (rk_xout0 y1 y2 (br_t rfl (rk_xout1 u (br_f (by decide) K)))))))
          · unfold wpY_lend
            exact RY _ (br_f n0 (rk_yin1 z1 z2 (br_f (by decide) (rk_yin1 y1 y2 (br_f (by decide) (rk_yin0 u (br_t rfl K)))))))
        · rcases rk_rng v5 1 3 with t | ⟨t1, t2⟩
          · refine ⟨-1, C, h, fun post K => ?_, fun post K => ?_⟩
            · unfold wpX_lend
              exact RX _ (br_f n0 (rk_xout0 z1 z2 (br_t rfl (rk_xout0 y1 y2 (br_t rfl (rk_xout0 u1 u2 (br_t rfl (rk_xout1 t (br_f (by decide) K)))))))))
            · unfold wpY_lend
              exact RY _ (br_f n0 (rk_yin1 z1 z2 (br_f (by decide) (rk_yin1 y1 y2 (br_f (by decide) (rk_yin1 u1 u2 (br_f (by decide) (rk_yin0 t (br_t rfl K)))))))))
          · obtain ⟨wv, hw, WX, WY⟩ := rk_wrongA hN h.1 hr v2
            rcases rk_wr_sgn hw with w0 | ⟨w1, w2⟩
            · subst w0
              obtain ⟨i, hi, rfl⟩ := nI_of2 (n := 3) (by decide) z1 z2
              obtain ⟨f, hf, rfl⟩ := nI_of2 (n := 15) (by decide) y1 y2
              have ef : (16 : Int32) - nI f = nI (16 - f) := by rw [show (16 : Int32) = nI 16 from rfl, pk_sub (by omega)]
              have u0 : ¬ v4 < 0 := fun q => u1 (Int32.lt_trans q (by decide))
              obtain ⟨l, hl, rfl⟩ := nI_of2 (n := 16 - f) (by rw [ef]; exact nI_toInt (by omega)) u0 u2
              have t0 : ¬ v5 < 0 := fun q => t1 (Int32.lt_trans q (by decide))
              obtain ⟨hh, hhl, rfl⟩ := nI_of2 (n := 3) (by decide) t0 t2
              have ig : vp_in ((4 : Int32) * nI r + nI i) 40 := by rw [rk_4]; exact rk_in (by omega)
              have eg : ((4 : Int32) * nI r + nI i).toNatClampNeg = 4 * r + i := by rw [rk_4]; exact rk_cl (by omega)
              refine ⟨0, rk_sA (rk_sA (rk_cgr C (4 * r + i) 1 v2 (nI f) (nI l)) 41 (upd (C 41) (4 * r + i) (nI hh))) 69 (upd (C 69) (4 * r + i) (nI hh)), ?_, fun post K => ?_, fun post K => ?_⟩
              · obtain ⟨h0, h1, h2, h3, h4, h5, h6, h7, h8⟩ := h
                exact ⟨h0, h1, h2, h3, h4, h5, h6, rk_Gr_set (Or.inl ⟨rfl, rfl, f, l, rfl, rfl, by omega⟩) h7, h8⟩
              · unfold wpX_lend
                refine RX _ (br_f n0 (rk_xout0 z1 z2 (br_t rfl (rk_xout0 y1 y2 (br_t rfl (rk_xout0 u1 u2 (br_t rfl (rk_xout0 t1 t2 (br_t rfl ?_)))))))))
                refine WX (fun z => wX_lend_72 post (nI i) v2 (nI f) (nI l) (nI hh) (nI r) z (C 0 0) (C 1 0) (C 2 0) (C 3 0) (C 4 0) (C 5 0) (C 6 0) (C 7 0) (C 8) (C 9) (C 10) (C 11) (C 12) (C 13) (C 14) (C 15) (C 16) (C 17) (C 18) (C 19) (C 20) (C 21) (C 22) (C 23) (C 24) (C 25) (C 26) (C 27) (C 28) (C 29) (C 30) (C 31) (C 32) (C 33) (C 34) (C 35) (C 36) (C 37) (C 38) (C 39) (C 40) (C 41) (C 42) (C 43) (C 44) (C 45) (C 46) (C 47) (C 48) (C 49) (C 50) (C 51) (C 52) (C 53) (C 54) (C 55) (C 56)) ?_
                refine br_t rfl ?_
                rw [rk_4]
                refine rk_xgrant (j := 1) (f := l) (by omega) (by omega) (by omega) ?_
                rw [← rk_4]
                exact And.intro ig (nm_r (e' := upd (C 41) (4 * r + i) (nI hh)) (by rw [eg, rk_vb8 (by omega)]; rfl) K)
              · unfold wpY_lend
                refine RY _ (br_f n0 (rk_yin1 z1 z2 (br_f (by decide) (rk_yin1 y1 y2 (br_f (by decide) (rk_yin1 u1 u2 (br_f (by decide) (rk_yin1 t1 t2 (br_f (by decide) ?_)))))))))
                refine WY (fun z => wY_lend_72 post (nI i) v2 (nI f) (nI l) (nI hh) (nI r) z (C 57 0) (C 58 0) (C 8) (C 59) (C 9) (C 10) (C 11) (C 13) (C 60) (C 16) (C 15) (C 61) (C 62) (C 36) (C 38) (C 37) (C 63) (C 64) (C 18) (C 65) (C 66) (C 67) (C 68) (C 39) (C 42) (C 43) (C 40) (C 69) (C 70) (C 49) (C 52) (C 51) (C 53) (C 71) (C 72) (C 54) (C 73) (C 74) (C 56)) ?_
                exact br_t (by decide) (rk_ygrant hr (by omega) K)
            · refine ⟨wv, C, h, fun post K => ?_, fun post K => ?_⟩
              · unfold wpX_lend
                refine RX _ (br_f n0 (rk_xout0 z1 z2 (br_t rfl (rk_xout0 y1 y2 (br_t rfl (rk_xout0 u1 u2 (br_t rfl (rk_xout0 t1 t2 (br_t rfl ?_)))))))))
                exact WX (fun z => wX_lend_72 post v1 v2 v3 v4 v5 (nI r) z (C 0 0) (C 1 0) (C 2 0) (C 3 0) (C 4 0) (C 5 0) (C 6 0) (C 7 0) (C 8) (C 9) (C 10) (C 11) (C 12) (C 13) (C 14) (C 15) (C 16) (C 17) (C 18) (C 19) (C 20) (C 21) (C 22) (C 23) (C 24) (C 25) (C 26) (C 27) (C 28) (C 29) (C 30) (C 31) (C 32) (C 33) (C 34) (C 35) (C 36) (C 37) (C 38) (C 39) (C 40) (C 41) (C 42) (C 43) (C 44) (C 45) (C 46) (C 47) (C 48) (C 49) (C 50) (C 51) (C 52) (C 53) (C 54) (C 55) (C 56)) (br_f w1 K)
              · unfold wpY_lend
                refine RY _ (br_f n0 (rk_yin1 z1 z2 (br_f (by decide) (rk_yin1 y1 y2 (br_f (by decide) (rk_yin1 u1 u2 (br_f (by decide) (rk_yin1 t1 t2 (br_f (by decide) ?_)))))))))
                exact WY (fun z => wY_lend_72 post v1 v2 v3 v4 v5 (nI r) z (C 57 0) (C 58 0) (C 8) (C 59) (C 9) (C 10) (C 11) (C 13) (C 60) (C 16) (C 15) (C 61) (C 62) (C 36) (C 38) (C 37) (C 63) (C 64) (C 18) (C 65) (C 66) (C 67) (C 68) (C 39) (C 42) (C 43) (C 40) (C 69) (C 70) (C 49) (C 52) (C 51) (C 53) (C 71) (C 72) (C 54) (C 73) (C 74) (C 56)) (br_f w2 K)
theorem rk_pass (hN : N ≤ 67108864) (h : rk_In N bs w C) (v1 v2 v3 v4 : Int32) :
    ∃ r C', rk_In N bs w C' ∧ (∀ post : Int32 → SX → Prop, post r (rk_mX C') → wpX_pass post (rk_mX C) v1 v2 v3 v4) ∧ (∀ post : Int32 → SY → Prop, post r (rk_mY C') → wpY_pass post (rk_mY C) v1 v2 v3 v4) := by
  obtain ⟨v, hv, RX, RY⟩ := rk_runner h.1
  rcases hv with ⟨rfl, _⟩ | ⟨r, hr, rfl, r1, _⟩
  · refine ⟨-1, C, h, fun post K => ?_, fun post K => ?_⟩
    · unfold wpX_pass
      exact RX _ (br_t rk_m1lt K)
    · unfold wpY_pass
      exact RY _ (br_t rk_m1lt K)
  · have n0 : ¬ nI r < 0 := nI_pos (by omega)
    rcases rk_rng v1 0 3 with z | ⟨z1, z2⟩
    · refine ⟨-1, C, h, fun post K => ?_, fun post K => ?_⟩
      · unfold wpX_pass
        exact RX _ (br_f n0 (rk_xout1 z (br_f (by decide) K)))
      · unfold wpY_pass
        exact RY _ (br_f n0 (rk_yin0 z (br_t rfl K)))
    · rcases rk_rng v4 0 3 with y | ⟨y1, y2⟩
      · refine ⟨-1, C, h, fun post K => ?_, fun post K => ?_⟩
        · unfold wpX_pass
          exact RX _ (br_f n0 (rk_xout0 z1 z2 (br_t rfl (rk_xout1 y (br_f (by decide) K)))))
        · unfold wpY_pass
          exact RY _ (br_f n0 (rk_yin1 z1 z2 (br_f (by decide) (rk_yin0 y (br_t rfl K)))))
      · obtain ⟨wv, hw, WX, WY⟩ := rk_wrongA hN h.1 hr v2
        rcases rk_wr_sgn hw with w0 | ⟨w1, w2⟩
        · subst w0
          obtain ⟨wv, hw', VX, VY⟩ := rk_wrong hN h.1 hr v3 0
          have sg : wv = 0 ∨ (¬ wv = 0 ∧ ¬ 0 ≤ wv) := by
            rcases hw' with z | z | z | z
            · exact Or.inr (by rw [z]; decide)
            · exact Or.inr (by rw [z]; decide)
            · exact Or.inr (by rw [z]; decide)
            · exact Or.inl z.1
          rcases sg with w0 | ⟨w1, w2⟩
          · subst w0
            obtain ⟨i, hi, rfl⟩ := nI_of2 (n := 3) (by decide) z1 z2
            obtain ⟨j, hj, rfl⟩ := nI_of2 (n := 3) (by decide) y1 y2
            refine ⟨0, rk_sA (rk_cgr C (4 * r + i) 2 v2 v3 (nI j)) 69 (upd (C 69) (4 * r + i) 0), ?_, fun post K => ?_, fun post K => ?_⟩
            · obtain ⟨h0, h1, h2, h3, h4, h5, h6, h7, h8⟩ := h
              have h7' := rk_Gr_set (g := 4 * r + i) (a := 2) (b := nI j) (c := v3) (d := (C 41) (4 * r + i)) (d' := 0) (Or.inr ⟨rfl, j, by omega, rfl⟩) h7
              rw [rk_upp] at h7'
              exact ⟨h0, h1, h2, h3, h4, h5, h6, h7', h8⟩
            · unfold wpX_pass
              refine RX _ (br_f n0 (rk_xout0 z1 z2 (br_t rfl (rk_xout0 y1 y2 (br_t rfl ?_)))))
              refine WX (fun z => wX_pass_49 post (nI i) v2 v3 (nI j) (nI r) z (C 0 0) (C 1 0) (C 2 0) (C 3 0) (C 4 0) (C 5 0) (C 6 0) (C 7 0) (C 8) (C 9) (C 10) (C 11) (C 12) (C 13) (C 14) (C 15) (C 16) (C 17) (C 18) (C 19) (C 20) (C 21) (C 22) (C 23) (C 24) (C 25) (C 26) (C 27) (C 28) (C 29) (C 30) (C 31) (C 32) (C 33) (C 34) (C 35) (C 36) (C 37) (C 38) (C 39) (C 40) (C 41) (C 42) (C 43) (C 44) (C 45) (C 46) (C 47) (C 48) (C 49) (C 50) (C 51) (C 52) (C 53) (C 54) (C 55) (C 56)) ?_
              refine br_t rfl (VX _ (br_t rfl ?_))
              rw [rk_4]
              exact rk_xgrant (j := 2) (f := j) (by omega) (by omega) (by omega) K
            · unfold wpY_pass
              refine RY _ (br_f n0 (rk_yin1 z1 z2 (br_f (by decide) (rk_yin1 y1 y2 (br_f (by decide) ?_)))))
              refine WY (fun z => wY_pass_49 post (nI i) v2 v3 (nI j) (nI r) z (C 57 0) (C 58 0) (C 8) (C 59) (C 9) (C 10) (C 11) (C 13) (C 60) (C 16) (C 15) (C 61) (C 62) (C 36) (C 38) (C 37) (C 63) (C 64) (C 18) (C 65) (C 66) (C 67) (C 68) (C 39) (C 42) (C 43) (C 40) (C 69) (C 70) (C 49) (C 52) (C 51) (C 53) (C 71) (C 72) (C 54) (C 73) (C 74) (C 56)) ?_
              exact br_t rfl (VY _ (br_t (by decide) (rk_ygrant hr (by omega) K)))
          · refine ⟨wv, C, h, fun post K => ?_, fun post K => ?_⟩
            · unfold wpX_pass
              refine RX _ (br_f n0 (rk_xout0 z1 z2 (br_t rfl (rk_xout0 y1 y2 (br_t rfl ?_)))))
              exact WX (fun z => wX_pass_49 post v1 v2 v3 v4 (nI r) z (C 0 0) (C 1 0) (C 2 0) (C 3 0) (C 4 0) (C 5 0) (C 6 0) (C 7 0) (C 8) (C 9) (C 10) (C 11) (C 12) (C 13) (C 14) (C 15) (C 16) (C 17) (C 18) (C 19) (C 20) (C 21) (C 22) (C 23) (C 24) (C 25) (C 26) (C 27) (C 28) (C 29) (C 30) (C 31) (C 32) (C 33) (C 34) (C 35) (C 36) (C 37) (C 38) (C 39) (C 40) (C 41) (C 42) (C 43) (C 44) (C 45) (C 46) (C 47) (C 48) (C 49) (C 50) (C 51) (C 52) (C 53) (C 54) (C 55) (C 56)) (br_t rfl (VX _ (br_f w1 K)))
            · unfold wpY_pass
              refine RY _ (br_f n0 (rk_yin1 z1 z2 (br_f (by decide) (rk_yin1 y1 y2 (br_f (by decide) ?_)))))
              exact WY (fun z => wY_pass_49 post v1 v2 v3 v4 (nI r) z (C 57 0) (C 58 0) (C 8) (C 59) (C 9) (C 10) (C 11) (C 13) (C 60) (C 16) (C 15) (C 61) (C 62) (C 36) (C 38) (C 37) (C 63) (C 64) (C 18) (C 65) (C 66) (C 67) (C 68) (C 39) (C 42) (C 43) (C 40) (C 69) (C 70) (C 49) (C 52) (C 51) (C 53) (C 71) (C 72) (C 54) (C 73) (C 74) (C 56)) (br_t rfl (VY _ (br_f w2 K)))
        · refine ⟨wv, C, h, fun post K => ?_, fun post K => ?_⟩
          · unfold wpX_pass
            refine RX _ (br_f n0 (rk_xout0 z1 z2 (br_t rfl (rk_xout0 y1 y2 (br_t rfl ?_)))))
            exact WX (fun z => wX_pass_49 post v1 v2 v3 v4 (nI r) z (C 0 0) (C 1 0) (C 2 0) (C 3 0) (C 4 0) (C 5 0) (C 6 0) (C 7 0) (C 8) (C 9) (C 10) (C 11) (C 12) (C 13) (C 14) (C 15) (C 16) (C 17) (C 18) (C 19) (C 20) (C 21) (C 22) (C 23) (C 24) (C 25) (C 26) (C 27) (C 28) (C 29) (C 30) (C 31) (C 32) (C 33) (C 34) (C 35) (C 36) (C 37) (C 38) (C 39) (C 40) (C 41) (C 42) (C 43) (C 44) (C 45) (C 46) (C 47) (C 48) (C 49) (C 50) (C 51) (C 52) (C 53) (C 54) (C 55) (C 56)) (br_f w1 (br_f w1 K))
          · unfold wpY_pass
            refine RY _ (br_f n0 (rk_yin1 z1 z2 (br_f (by decide) (rk_yin1 y1 y2 (br_f (by decide) ?_)))))
            exact WY (fun z => wY_pass_49 post v1 v2 v3 v4 (nI r) z (C 57 0) (C 58 0) (C 8) (C 59) (C 9) (C 10) (C 11) (C 13) (C 60) (C 16) (C 15) (C 61) (C 62) (C 36) (C 38) (C 37) (C 63) (C 64) (C 18) (C 65) (C 66) (C 67) (C 68) (C 39) (C 42) (C 43) (C 40) (C 69) (C 70) (C 49) (C 52) (C 51) (C 53) (C 71) (C 72) (C 54) (C 73) (C 74) (C 56)) (br_f w1 (br_f w2 K))
theorem rk_Gr_zero {kd fa ho wr yh : Nat → Int32} (h : rk_Gr kd fa ho wr yh) : rk_Gr (upd kd g 0) fa ho wr yh := by
  intro i hi
  by_cases e : i = g
  · subst e
    rw [pk_us]
    exact Or.inl rfl
  · rw [pk_un e]
    exact h i hi
theorem rk_revoke (h : rk_In N bs w C) (v1 : Int32) :
    ∃ r C', rk_In N bs w C' ∧ (∀ post : Int32 → SX → Prop, post r (rk_mX C') → wpX_revoke post (rk_mX C) v1) ∧ (∀ post : Int32 → SY → Prop, post r (rk_mY C') → wpY_revoke post (rk_mY C) v1) := by
  obtain ⟨v, hv, RX, RY⟩ := rk_runner h.1
  rcases hv with ⟨rfl, _⟩ | ⟨r, hr, rfl, r1, _⟩
  · refine ⟨-1, C, h, fun post K => ?_, fun post K => ?_⟩
    · unfold wpX_revoke
      exact RX _ (br_t rk_m1lt K)
    · unfold wpY_revoke
      exact RY _ (br_t rk_m1lt K)
  · have n0 : ¬ nI r < 0 := nI_pos (by omega)
    rcases rk_rng v1 0 3 with z | ⟨z1, z2⟩
    · refine ⟨-1, C, h, fun post K => ?_, fun post K => ?_⟩
      · unfold wpX_revoke
        exact RX _ (br_f n0 (rk_xout1 z (br_f (by decide) K)))
      · unfold wpY_revoke
        exact RY _ (br_f n0 (rk_yin0 z (br_t rfl K)))
    · obtain ⟨i, hi, rfl⟩ := nI_of2 (n := 3) (by decide) z1 z2
      have ig : vp_in ((4 : Int32) * nI r + nI i) 40 := by rw [rk_4]; exact rk_in (by omega)
      have eg : ((4 : Int32) * nI r + nI i).toNatClampNeg = 4 * r + i := by rw [rk_4]; exact rk_cl (by omega)
      have h' : rk_In N bs w (rk_sA C 39 (upd (C 39) (4 * r + i) 0)) := by
        obtain ⟨h0, h1, h2, h3, h4, h5, h6, h7, h8⟩ := h
        exact ⟨h0, h1, h2, h3, h4, h5, h6, rk_Gr_zero h7, h8⟩
      by_cases c : (C 39) (4 * r + i) = 0
      · refine ⟨-6, _, h', fun post K => ?_, fun post K => ?_⟩
        · unfold wpX_revoke
          exact RX _ (br_f n0 (rk_xout0 z1 z2 (br_t rfl ⟨ig, br_t (by rw [eg]; exact c) (And.intro ig (nm_r (e' := upd (C 39) (4 * r + i) 0) (by rw [eg, rk_vb0]) (br_t rfl K)))⟩)))
        · unfold wpY_revoke
          exact RY _ (br_f n0 (rk_yin1 z1 z2 (br_f (by decide) ⟨ig, nm_r (e' := (C 39) (4 * r + i)) (by rw [eg]) ⟨ig, nm_r (e' := upd (C 39) (4 * r + i) 0) (by rw [eg]) (br_t c K)⟩⟩)))
      · refine ⟨0, _, h', fun post K => ?_, fun post K => ?_⟩
        · unfold wpX_revoke
          exact RX _ (br_f n0 (rk_xout0 z1 z2 (br_t rfl ⟨ig, br_f (by rw [eg]; exact c) (And.intro ig (nm_r (e' := upd (C 39) (4 * r + i) 0) (by rw [eg, rk_vb0]) (br_f (by decide) K)))⟩)))
        · unfold wpY_revoke
          exact RY _ (br_f n0 (rk_yin1 z1 z2 (br_f (by decide) ⟨ig, nm_r (e' := (C 39) (4 * r + i)) (by rw [eg]) ⟨ig, nm_r (e' := upd (C 39) (4 * r + i) 0) (by rw [eg]) (br_f c K)⟩⟩)))
end
end
section
/-! letters: the walks of takeLetter, spareLetter, takeOut, own -/
def rk_tkl (C : rk_ST) (c r : Nat) (pc : Int32) : rk_ST := rk_sA (rk_sA (rk_sA (rk_sA C 30 (rk_dB (C 30) pc c)) 31 (rk_dF (C 31) (C 30) pc r c)) 32 (rk_dL (C 32) pc r c)) 33 (upd (C 33) r ((C 33) r - 1))
def rk_spl (C : rk_ST) (c a : Nat) : rk_ST := rk_sA (rk_sA (rk_sA C 34 (upd (C 34) a ((C 34) a - 1))) 30 (upd (C 30) c (C 0 0))) 0 (fun _ => nI c)
def rk_tko (C : rk_ST) (k n : Nat) : rk_ST := rk_sA (rk_sA (rk_sA (rk_sA C 57 (fun _ => nI n)) 66 (rk_sh (C 66) k n)) 67 (rk_sh (C 67) k n)) 68 (rk_sh (C 68) k n)
section
variable {C : rk_ST} {N : Nat} {s r p k c a : Nat} {x e v how : Int32} {bs : Nat → Nat} {w : Nat} {Q F A1 A2 : List Nat} {tt : Nat → Nat} {sg : Nat → Int}
theorem rk_xtake99 {post : Int32 → SX → Prop} {pc : Int32} (hr : r < 10) (hpc : rk_cd 30 pc) (hln : ∃ n, n ≤ 30 ∧ (C 33) r = nI (n + 1)) (K : post (nI c) (rk_mX (rk_sA (rk_sA C 32 (rk_dL (C 32) pc r c)) 33 (upd (C 33) r ((C 33) r - 1))))) : wX_takeLetter_99 post (nI r) pc (nI c) (C 0 0) (C 1 0) (C 2 0) (C 3 0) (C 4 0) (C 5 0) (C 6 0) (C 7 0) (C 8) (C 9) (C 10) (C 11) (C 12) (C 13) (C 14) (C 15) (C 16) (C 17) (C 18) (C 19) (C 20) (C 21) (C 22) (C 23) (C 24) (C 25) (C 26) (C 27) (C 28) (C 29) (C 30) (C 31) (C 32) (C 33) (C 34) (C 35) (C 36) (C 37) (C 38) (C 39) (C 40) (C 41) (C 42) (C 43) (C 44) (C 45) (C 46) (C 47) (C 48) (C 49) (C 50) (C 51) (C 52) (C 53) (C 54) (C 55) (C 56) := by
  have ir : vp_in (nI r) 10 := rk_in hr
  have er : (nI r).toNatClampNeg = r := rk_cl (by omega)
  obtain ⟨n, hn, en⟩ := hln
  have en' : vp_nar .byte ((C 33) r - 1).toInt8.toInt32 = (C 33) r - 1 := by rw [en, nI_pred, rk_vb8 (by omega)]
  unfold rk_dL at K
  refine And.intro ir ?_
  by_cases z : (C 32) r = nI c
  · rw [if_pos z] at K
    exact br_t (by rw [er]; exact z) ⟨ir, nm_r (e' := upd (C 32) r pc) (by rw [er, rk_vbc8 (by decide) hpc]) (And.intro ir ⟨ir, nm_r (e' := upd (C 33) r ((C 33) r - 1)) (by rw [er, en']) K⟩)⟩
  · rw [if_neg z] at K
    exact br_f (by rw [er]; exact z) (And.intro ir ⟨ir, nm_r (e' := upd (C 33) r ((C 33) r - 1)) (by rw [er, en']) K⟩)
theorem rk_xtake59 {post : Int32 → SX → Prop} {pc : Int32} (hr : r < 10) (hc : c < 30) (hpc : rk_cd 30 pc) (hnx : rk_cd 30 ((C 30) c)) (hln : ∃ n, n ≤ 30 ∧ (C 33) r = nI (n + 1)) (K : post (nI c) (rk_mX (rk_tkl C c r pc))) : wX_takeLetter_59 post (nI r) pc (nI c) (C 0 0) (C 1 0) (C 2 0) (C 3 0) (C 4 0) (C 5 0) (C 6 0) (C 7 0) (C 8) (C 9) (C 10) (C 11) (C 12) (C 13) (C 14) (C 15) (C 16) (C 17) (C 18) (C 19) (C 20) (C 21) (C 22) (C 23) (C 24) (C 25) (C 26) (C 27) (C 28) (C 29) (C 30) (C 31) (C 32) (C 33) (C 34) (C 35) (C 36) (C 37) (C 38) (C 39) (C 40) (C 41) (C 42) (C 43) (C 44) (C 45) (C 46) (C 47) (C 48) (C 49) (C 50) (C 51) (C 52) (C 53) (C 54) (C 55) (C 56) := by
  have ir : vp_in (nI r) 10 := rk_in hr
  have er : (nI r).toNatClampNeg = r := rk_cl (by omega)
  have ic : vp_in (nI c) 30 := rk_in hc
  have ec : (nI c).toNatClampNeg = c := rk_cl (by omega)
  have p0 : (0 : Int32) ≤ nI c := nI_pos' (by omega)
  unfold rk_tkl rk_dB rk_dF at K
  rcases hpc with e | ⟨a, ha, e⟩
  · have n0 : ¬ (0 : Int32) ≤ pc := by rw [e]; exact rk_m1nle
    rw [if_neg n0, if_neg n0] at K
    exact br_t p0 (br_f n0 ⟨ic, ir, nm_r (e' := upd (C 31) r ((C 30) c)) (by rw [er, ec, rk_vbc (by decide) hnx]) (rk_xtake99 (C := rk_sA C 31 (upd (C 31) r ((C 30) c))) hr (Or.inl e) hln K)⟩)
  · have q0 : (0 : Int32) ≤ pc := by rw [e]; exact nI_pos' (by omega)
    have ea : pc.toNatClampNeg = a := by rw [e]; exact rk_cl (by omega)
    rw [if_pos q0, if_pos q0, ea] at K
    exact br_t p0 (br_t q0 ⟨ic, by rw [e]; exact rk_in ha, nm_r (e' := upd (C 30) a ((C 30) c)) (by rw [ea, ec, rk_vbc (by decide) hnx]) (rk_xtake99 (C := rk_sA C 30 (upd (C 30) a ((C 30) c))) hr (Or.inr ⟨a, ha, e⟩) hln K)⟩)
def rk_mt (lf : Nat → Int32) (fm : Int32) (c : Nat) : Prop := fm = -1 ∨ lf c = fm
/-- what takeLetter finds -/
def rk_fnd (Q : List Nat) (tt : Nat → Nat) (sg : Nat → Int) (lf : Nat → Int32) (r : Nat) (fm : Int32) (A1 : List Nat) (c : Nat) (A2 : List Nat) (pc : Int32) : Prop :=
  Q = A1 ++ c :: A2 ∧ tt c = r ∧ rk_mt lf fm c ∧ (∀ x, x ∈ A1 → tt x = r → ¬ rk_mt lf fm x) ∧ rk_Pv (rk_T Q tt r) sg c pc
theorem rk_xtakeL (h : rk_LX Q tt sg F (C 75) (C 29) (C 30) (C 31) (C 32) (C 33) (C 34) (C 0 0)) (hr : r < 10) (fm : Int32) :
    ∀ (n : Nat) (A1 : List Nat) (c : Nat) (A2 : List Nat) (pc : Int32), A2.length ≤ n → Q = A1 ++ c :: A2 → tt c = r → (∀ x, x ∈ A1 → tt x = r → ¬ rk_mt (C 29) fm x) → rk_Pv (rk_T Q tt r) sg c pc →
      ((∀ x, x ∈ Q → tt x = r → ¬ rk_mt (C 29) fm x) ∧ ∀ post : Int32 → SX → Prop, post (-1) (rk_mX C) → wX_takeLetter_23 post (nI r) fm (C 0 0) (C 1 0) (C 2 0) (C 3 0) (C 4 0) (C 5 0) (C 6 0) (C 7 0) (C 8) (C 9) (C 10) (C 11) (C 12) (C 13) (C 14) (C 15) (C 16) (C 17) (C 18) (C 19) (C 20) (C 21) (C 22) (C 23) (C 24) (C 25) (C 26) (C 27) (C 28) (C 29) (C 30) (C 31) (C 32) (C 33) (C 34) (C 35) (C 36) (C 37) (C 38) (C 39) (C 40) (C 41) (C 42) (C 43) (C 44) (C 45) (C 46) (C 47) (C 48) (C 49) (C 50) (C 51) (C 52) (C 53) (C 54) (C 55) (C 56) (n + 2) pc (nI c)) ∨
      (∃ B1 d B2 pd, rk_fnd Q tt sg (C 29) r fm B1 d B2 pd ∧ ∀ post : Int32 → SX → Prop, post (nI d) (rk_mX (rk_tkl C d r pd)) → wX_takeLetter_23 post (nI r) fm (C 0 0) (C 1 0) (C 2 0) (C 3 0) (C 4 0) (C 5 0) (C 6 0) (C 7 0) (C 8) (C 9) (C 10) (C 11) (C 12) (C 13) (C 14) (C 15) (C 16) (C 17) (C 18) (C 19) (C 20) (C 21) (C 22) (C 23) (C 24) (C 25) (C 26) (C 27) (C 28) (C 29) (C 30) (C 31) (C 32) (C 33) (C 34) (C 35) (C 36) (C 37) (C 38) (C 39) (C 40) (C 41) (C 42) (C 43) (C 44) (C 45) (C 46) (C 47) (C 48) (C 49) (C 50) (C 51) (C 52) (C 53) (C 54) (C 55) (C 56) (n + 2) pc (nI c)) := by
  obtain ⟨h1, h2, h3, h4, h5, h6, h7, h8⟩ := h
  have hS30 : ∀ t, rk_T Q tt r t → t < 30 := fun t z => (h1 t z.1).1
  intro n
  induction n with
  | zero =>
    intro A1 c A2 pc hl hQ hc hA hpc
    have hcQ : c ∈ Q := by rw [hQ]; exact List.mem_append_right _ List.mem_cons_self
    have hc30 := (h1 c hcQ).1
    have n0 : ¬ nI c < 0 := nI_pos (by omega)
    have ic : vp_in (nI c) 30 := rk_in hc30
    have ec : (nI c).toNatClampNeg = c := rk_cl (by omega)
    have hln : ∃ n, n ≤ 30 ∧ (C 33) r = nI (n + 1) := by
      have z : 0 < Q.countP (fun c => tt c == r) := List.countP_pos_iff.mpr ⟨c, hcQ, beq_iff_eq.mpr hc⟩
      have y : Q.countP (fun c => tt c == r) ≤ Q.length := List.countP_le_length
      refine ⟨Q.countP (fun c => tt c == r) - 1, by omega, ?_⟩
      rw [(h4 r hr).1]
      exact congrArg nI (by omega)
    have cnx := rk_cd_Nx hS30 ((h3 r hr).1 c ⟨hcQ, hc⟩)
    have cpc := rk_cd_Pv hS30 hpc
    by_cases m1 : fm = -1
    · exact Or.inr ⟨A1, c, A2, pc, ⟨hQ, hc, Or.inl m1, hA, hpc⟩, fun post K => br_f n0 (br_t m1 (rk_xtake59 hr hc30 cpc cnx hln K))⟩
    · by_cases m2 : (C 29) c = fm
      · exact Or.inr ⟨A1, c, A2, pc, ⟨hQ, hc, Or.inr m2, hA, hpc⟩, fun post K => br_f n0 (br_f m1 ⟨ic, br_t (by rw [ec]; exact m2) (rk_xtake59 hr hc30 cpc cnx hln K)⟩)⟩
      · have eA2 : A2 = [] := List.eq_nil_of_length_eq_zero (by omega)
        subst eA2
        have none : ∀ x, x ∈ Q → tt x = r → ¬ rk_mt (C 29) fm x := by
          intro x hx ht
          rw [hQ, List.mem_append, List.mem_singleton] at hx
          rcases hx with z | z
          · exact hA x z ht
          · rw [z]
            exact fun y => y.elim m1 m2
        rcases (h3 r hr).1 c ⟨hcQ, hc⟩ with ⟨e, l⟩ | ⟨b, e, Sb, l, bb⟩
        · exact Or.inl ⟨none, fun post K => br_f n0 (br_f m1 ⟨ic, br_f (by rw [ec]; exact m2) ⟨ic, nm_r (e' := -1) (by rw [ec]; exact e) (br_t rk_m1lt (br_f rk_m1nle K))⟩⟩)⟩
        · exfalso
          have hb := Sb.1
          rw [hQ] at hb h2
          rw [List.pairwise_append] at h2
          rcases List.mem_append.mp hb with z | z
          · have := h2.2.2 b z c List.mem_cons_self
            omega
          · have : b = c := List.mem_singleton.mp z
            subst this
            omega
  | succ n ih =>
    intro A1 c A2 pc hl hQ hc hA hpc
    have hcQ : c ∈ Q := by rw [hQ]; exact List.mem_append_right _ List.mem_cons_self
    have hc30 := (h1 c hcQ).1
    have n0 : ¬ nI c < 0 := nI_pos (by omega)
    have ic : vp_in (nI c) 30 := rk_in hc30
    have ec : (nI c).toNatClampNeg = c := rk_cl (by omega)
    have hln : ∃ n, n ≤ 30 ∧ (C 33) r = nI (n + 1) := by
      have z : 0 < Q.countP (fun c => tt c == r) := List.countP_pos_iff.mpr ⟨c, hcQ, beq_iff_eq.mpr hc⟩
      have y : Q.countP (fun c => tt c == r) ≤ Q.length := List.countP_le_length
      refine ⟨Q.countP (fun c => tt c == r) - 1, by omega, ?_⟩
      rw [(h4 r hr).1]
      exact congrArg nI (by omega)
    have cnx := rk_cd_Nx hS30 ((h3 r hr).1 c ⟨hcQ, hc⟩)
    have cpc := rk_cd_Pv hS30 hpc
    by_cases m1 : fm = -1
    · exact Or.inr ⟨A1, c, A2, pc, ⟨hQ, hc, Or.inl m1, hA, hpc⟩, fun post K => br_f n0 (br_t m1 (rk_xtake59 hr hc30 cpc cnx hln K))⟩
    · by_cases m2 : (C 29) c = fm
      · exact Or.inr ⟨A1, c, A2, pc, ⟨hQ, hc, Or.inr m2, hA, hpc⟩, fun post K => br_f n0 (br_f m1 ⟨ic, br_t (by rw [ec]; exact m2) (rk_xtake59 hr hc30 cpc cnx hln K)⟩)⟩
      · have hpw := h2
        rw [hQ, List.pairwise_append, List.pairwise_cons] at hpw
        obtain ⟨p1, ⟨p2, p3⟩, p4⟩ := hpw
        rcases (h3 r hr).1 c ⟨hcQ, hc⟩ with ⟨e, l⟩ | ⟨b, e, Sb, l, bb⟩
        · refine Or.inl ⟨fun x hx ht => ?_, fun post K => br_f n0 (br_f m1 ⟨ic, br_f (by rw [ec]; exact m2) ⟨ic, nm_r (e' := -1) (by rw [ec]; exact e) (br_t rk_m1lt (br_f rk_m1nle K))⟩⟩)⟩
          have hl' := l x ⟨hx, ht⟩
          rw [hQ, List.mem_append, List.mem_cons] at hx
          rcases hx with z | z | z
          · exact hA x z ht
          · rw [z]
            exact fun y => y.elim m1 m2
          · have := p2 x z
            omega
        · have hb := Sb.1
          rw [hQ, List.mem_append, List.mem_cons] at hb
          have hbA : b ∈ A2 := by
            rcases hb with z | z | z
            · have := p4 b z c List.mem_cons_self
              omega
            · rw [z] at l
              omega
            · exact z
          obtain ⟨m1', m2', hm⟩ := List.append_of_mem hbA
          have hQ' : Q = (A1 ++ c :: m1') ++ b :: m2' := by rw [hQ, hm, List.append_assoc]; rfl
          have hlen : m2'.length ≤ n := by
            rw [hm, List.length_append, List.length_cons] at hl
            omega
          have hA' : ∀ x, x ∈ A1 ++ c :: m1' → tt x = r → ¬ rk_mt (C 29) fm x := by
            intro x hx ht
            rw [List.mem_append, List.mem_cons] at hx
            rcases hx with z | z | z
            · exact hA x z ht
            · rw [z]
              exact fun y => y.elim m1 m2
            · have hxQ : x ∈ Q := by rw [hQ', List.mem_append, List.mem_append, List.mem_cons]; exact Or.inl (Or.inr (Or.inr z))
              have q1 := p2 x (by rw [hm, List.mem_append]; exact Or.inl z)
              rw [hm, List.pairwise_append] at p3
              have q2 := p3.2.2 x z b List.mem_cons_self
              have q3 := bb x ⟨hxQ, ht⟩
              omega
          rcases ih (A1 ++ c :: m1') b m2' (nI c) hlen hQ' Sb.2 hA' (rk_pv_of_nx ⟨hcQ, hc⟩ Sb l bb) with ⟨q1, q2⟩ | ⟨B1, d, B2, pd, q1, q2⟩
          · exact Or.inl ⟨q1, fun post K => br_f n0 (br_f m1 ⟨ic, br_f (by rw [ec]; exact m2) ⟨ic, nm_r (e' := nI b) (by rw [ec]; exact e) (q2 post K)⟩⟩)⟩
          · exact Or.inr ⟨B1, d, B2, pd, q1, fun post K => br_f n0 (br_f m1 ⟨ic, br_f (by rw [ec]; exact m2) ⟨ic, nm_r (e' := nI b) (by rw [ec]; exact e) (q2 post K)⟩⟩)⟩
theorem rk_xtake (h : rk_LX Q tt sg F (C 75) (C 29) (C 30) (C 31) (C 32) (C 33) (C 34) (C 0 0)) (hr : r < 10) (fm : Int32) :
      ((∀ x, x ∈ Q → tt x = r → ¬ rk_mt (C 29) fm x) ∧ ∀ post : Int32 → SX → Prop, post (-1) (rk_mX C) → wpX_takeLetter post (rk_mX C) (nI r) fm) ∨
      (∃ B1 d B2 pd, rk_fnd Q tt sg (C 29) r fm B1 d B2 pd ∧ ∀ post : Int32 → SX → Prop, post (nI d) (rk_mX (rk_tkl C d r pd)) → wpX_takeLetter post (rk_mX C) (nI r) fm) := by
  have h' := h
  obtain ⟨h1, h2, h3, h4, h5, h6, h7, h8⟩ := h
  have ir : vp_in (nI r) 10 := rk_in hr
  have er : (nI r).toNatClampNeg = r := rk_cl (by omega)
  by_cases z : 0 < Q.countP (fun c => tt c == r)
  · have y : Q.countP (fun c => tt c == r) ≤ Q.length := List.countP_le_length
    have nz : ¬ (C 33) r ≤ 0 := by rw [(h4 r hr).1]; exact nI_nle z (by omega)
    obtain ⟨t, y1, y2⟩ := List.countP_pos_iff.mp z
    have St : rk_T Q tt r t := ⟨y1, beq_iff_eq.mp y2⟩
    rcases ((h3 r hr).2 ⟨t, St⟩).1 with ⟨_, q⟩ | ⟨c, e, Sc, l⟩
    · exact absurd St (q t)
    · obtain ⟨A1, A2, hQ⟩ := List.append_of_mem Sc.1
      have hA : ∀ x, x ∈ A1 → tt x = r → ¬ rk_mt (C 29) fm x := by
        intro x hx ht
        have hpw := h2
        rw [hQ, List.pairwise_append] at hpw
        have q1 := hpw.2.2 x hx c List.mem_cons_self
        have q2 := l x ⟨by rw [hQ, List.mem_append]; exact Or.inl hx, ht⟩
        omega
      rcases rk_xtakeL h' hr fm A2.length A1 c A2 (-1) (Nat.le_refl _) hQ Sc.2 hA (Or.inl ⟨rfl, l⟩) with ⟨q1, q2⟩ | ⟨B1, d, B2, pd, q1, q2⟩
      · exact Or.inl ⟨q1, fun post K => And.intro ir (br_f (by rw [er]; exact nz) ⟨ir, nm_r (e' := nI c) (by rw [er]; exact e) ⟨_, q2 post K⟩⟩)⟩
      · exact Or.inr ⟨B1, d, B2, pd, q1, fun post K => And.intro ir (br_f (by rw [er]; exact nz) ⟨ir, nm_r (e' := nI c) (by rw [er]; exact e) ⟨_, q2 post K⟩⟩)⟩
  · have ez : (C 33) r ≤ 0 := by rw [(h4 r hr).1, show Q.countP (fun c => tt c == r) = 0 by omega]; decide
    refine Or.inl ⟨fun x hx ht => (z (List.countP_pos_iff.mpr ⟨x, hx, beq_iff_eq.mpr ht⟩)).elim, fun post K => And.intro ir (br_t (by rw [er]; exact ez) ⟨1, br_t rk_m1lt (br_f rk_m1nle K)⟩)⟩
theorem rk_xspare {post : SX → Prop} (hc : c < 30) (ha : a < 10) (hf : (C 29) c = nI a) (hp : ∃ n, n ≤ 30 ∧ (C 34) a = nI (n + 1)) (hs : rk_cd 30 (C 0 0)) (K : post (rk_mX (rk_spl C c a))) : wpX_spareLetter post (rk_mX C) (nI c) := by
  have ic : vp_in (nI c) 30 := rk_in hc
  have ec : (nI c).toNatClampNeg = c := rk_cl (by omega)
  have ea : (nI a).toNatClampNeg = a := rk_cl (by omega)
  have ia : vp_in (nI a) 10 := rk_in ha
  obtain ⟨n, hn, en⟩ := hp
  exact And.intro ic ⟨by rw [ec, hf]; exact ia, by rw [ec, hf]; exact ia, nm_r (e' := upd (C 34) a ((C 34) a - 1)) (by rw [ec, hf, ea, en, nI_pred, rk_vb8 (by omega)]) ⟨ic, nm_r (e' := upd (C 30) c (C 0 0)) (by rw [ec, rk_vbc8 (by decide) hs]) K⟩⟩
/-! Y: takeOut -/
theorem rk_ytakeOutL {post : SY → Prop} {n : Nat} (hn : n ≤ 29) (K : post (rk_mY (rk_tko C k n))) : ∀ d j, j + d = n → k ≤ j → wY_takeOut_12 post (nI n) (C 58 0) (d + 1) (nI j) (C 8) (C 59) (C 9) (C 10) (C 11) (C 13) (C 60) (C 16) (C 15) (C 61) (C 62) (C 36) (C 38) (C 37) (C 63) (C 64) (C 18) (C 65) (rk_sh (C 66) k j) (rk_sh (C 67) k j) (rk_sh (C 68) k j) (C 39) (C 42) (C 43) (C 40) (C 69) (C 70) (C 49) (C 52) (C 51) (C 53) (C 71) (C 72) (C 54) (C 73) (C 74) (C 56) := by
  intro d
  induction d with
  | zero =>
    intro j hj hk
    have e : j = n := by omega
    subst e
    exact br_t (nI_le (Nat.le_refl j) (by omega)) K
  | succ d ih =>
    intro j hj hk
    have ej : (nI j).toNatClampNeg = j := rk_cl (by omega)
    have ej1 : (nI j + 1).toNatClampNeg = j + 1 := by rw [nI_1]; exact rk_cl (by omega)
    have ij : vp_in (nI j) 30 := rk_in (by omega)
    have ij1 : vp_in (nI j + 1) 30 := by rw [nI_1]; exact rk_in (by omega)
    exact br_f (nI_ge (a := j) (b := n) (by omega) (by omega)) ⟨ij1, ij, nm_r (e' := rk_sh (C 66) k (j + 1)) (by rw [ej, ej1, rk_sh_s _ hk]) ⟨ij1, ij, nm_r (e' := rk_sh (C 67) k (j + 1)) (by rw [ej, ej1, rk_sh_s _ hk]) ⟨ij1, ij, nm_r (e' := rk_sh (C 68) k (j + 1)) (by rw [ej, ej1, rk_sh_s _ hk]) (nm_r (nI_1 j) (ih (j + 1) (by omega) (by omega)))⟩⟩⟩
theorem rk_ytakeOut {post : SY → Prop} {n : Nat} (hn : n ≤ 29) (hk : k ≤ n) (hl : (C 57 0) = nI (n + 1)) (K : post (rk_mY (rk_tko C k n))) : wpY_takeOut post (rk_mY C) (nI k) := by
  have z := rk_ytakeOutL hn K (n - k) k (by omega) (Nat.le_refl k)
  rw [rk_sh_0, rk_sh_0, rk_sh_0] at z
  exact nm_r (e' := nI n) (by rw [hl, nI_pred]) ⟨_, z⟩
end
end
section
/-! post -/
section
variable {C : rk_ST} {N : Nat} {s r p k c a : Nat} {x e v how : Int32} {bs : Nat → Nat} {w : Nat} {Q F A1 A2 : List Nat} {tt : Nat → Nat} {sg : Nat → Int}
theorem rk_take_s {l : List Nat} {i c : Nat} (h : l[i]? = some c) : l.take (i + 1) = l.take i ++ [c] := by
  rw [List.take_succ, h]
  rfl
theorem rk_yownL (h : rk_LY Q tt (C 29) (C 35) (C 66) (C 67) (C 68) (C 57 0)) (hQ : Q.length ≤ 30) (b : Int32) : ∀ d i, i + d = Q.length → ∀ post : Int32 → Prop, post (nI (Q.countP (fun c => (C 29) c == b))) → wY_own_4 post b (C 57 0) (C 58 0) (C 8) (C 59) (C 9) (C 10) (C 11) (C 13) (C 60) (C 16) (C 15) (C 61) (C 62) (C 36) (C 38) (C 37) (C 63) (C 64) (C 18) (C 65) (C 66) (C 67) (C 68) (C 39) (C 42) (C 43) (C 40) (C 69) (C 70) (C 49) (C 52) (C 51) (C 53) (C 71) (C 72) (C 54) (C 73) (C 74) (C 56) (d + 1) (nI ((Q.take i).countP (fun c => (C 29) c == b))) (nI i) := by
  intro d
  induction d with
  | zero =>
    intro i hi post K
    have e : i = Q.length := by omega
    subst e
    rw [List.take_length]
    exact br_t (by rw [h.1]; exact nI_le (Nat.le_refl _) (by omega)) K
  | succ d ih =>
    intro i hi post K
    have hl : i < Q.length := by omega
    have hc : Q[i]? = some Q[i] := List.getElem?_eq_getElem hl
    have ei : (nI i).toNatClampNeg = i := rk_cl (by omega)
    have hf := (h.2 i _ hc).1
    have z := ih (i + 1) (by omega) post K
    rw [rk_take_s hc, List.countP_append, List.countP_singleton] at z
    refine br_f (by rw [h.1]; exact nI_ge hl (by omega)) ⟨rk_in (by omega), ?_⟩
    by_cases y : (C 29) Q[i] = b
    · rw [if_pos (beq_iff_eq.mpr y)] at z
      exact br_t (by rw [ei, hf]; exact y) (nm_r (nI_1 _) (nm_r (nI_1 i) z))
    · rw [if_neg (fun q => y (beq_iff_eq.mp q)), Nat.add_zero] at z
      exact br_f (by rw [ei, hf]; exact y) (nm_r (nI_1 i) z)
theorem rk_yown (h : rk_LY Q tt (C 29) (C 35) (C 66) (C 67) (C 68) (C 57 0)) (hQ : Q.length ≤ 30) {post : Int32 → Prop} (K : post (nI (Q.countP (fun c => (C 29) c == nI r)))) : wpY_own post (rk_mY C) (nI r) := ⟨_, rk_yownL h hQ (nI r) Q.length 0 (Nat.zero_add _) post K⟩
def rk_psX (C : rk_ST) (r s c : Nat) (x : Int32) : rk_ST :=
  rk_sA (rk_sA (rk_sA (rk_sA (rk_sA (rk_sA (rk_sA (rk_sA C 0 (fun _ => (C 30) c)) 29 (upd (C 29) c (nI r))) 35 (upd (C 35) c x)) 30 (rk_qB (C 30) (C 32) (C 33) s c)) 31 (rk_qF (C 31) (C 33) s c)) 32 (upd (C 32) s (nI c))) 33 (upd (C 33) s ((C 33) s + 1))) 34 (upd (C 34) r ((C 34) r + 1))
def rk_cps (C : rk_ST) (r s c n : Nat) (x : Int32) : rk_ST :=
  rk_sA (rk_sA (rk_sA (rk_sA (rk_psX C r s c x) 57 (fun _ => (C 57 0) + 1)) 66 (upd (C 66) n (nI r))) 67 (upd (C 67) n (nI s))) 68 (upd (C 68) n x)
theorem rk_xpost167 {post : Int32 → SX → Prop} (hr : r < 10) (hs : s < 10) (hc : c < 30) (hlc : ∃ n, n ≤ 30 ∧ (C 33) s = nI n) (hpo : ∃ n, n ≤ 30 ∧ (C 34) r = nI n)
    (K : post 0 (rk_mX (rk_sA (rk_sA (rk_sA C 32 (upd (C 32) s (nI c))) 33 (upd (C 33) s ((C 33) s + 1))) 34 (upd (C 34) r ((C 34) r + 1))))) : wX_post_167 post (nI r) (nI s) (nI c) (C 0 0) (C 1 0) (C 2 0) (C 3 0) (C 4 0) (C 5 0) (C 6 0) (C 7 0) (C 8) (C 9) (C 10) (C 11) (C 12) (C 13) (C 14) (C 15) (C 16) (C 17) (C 18) (C 19) (C 20) (C 21) (C 22) (C 23) (C 24) (C 25) (C 26) (C 27) (C 28) (C 29) (C 30) (C 31) (C 32) (C 33) (C 34) (C 35) (C 36) (C 37) (C 38) (C 39) (C 40) (C 41) (C 42) (C 43) (C 44) (C 45) (C 46) (C 47) (C 48) (C 49) (C 50) (C 51) (C 52) (C 53) (C 54) (C 55) (C 56) := by
  have ir : vp_in (nI r) 10 := rk_in hr
  have is : vp_in (nI s) 10 := rk_in hs
  have er : (nI r).toNatClampNeg = r := rk_cl (by omega)
  have es : (nI s).toNatClampNeg = s := rk_cl (by omega)
  obtain ⟨n, hn, en⟩ := hlc
  obtain ⟨m, hm, em⟩ := hpo
  exact And.intro is (nm_r (e' := upd (C 32) s (nI c)) (by rw [es, rk_vb8 (by omega)]) ⟨is, is, nm_r (e' := upd (C 33) s ((C 33) s + 1)) (by rw [es, en, nI_1, rk_vb8 (by omega)]) ⟨ir, ir, nm_r (e' := upd (C 34) r ((C 34) r + 1)) (by rw [er, em, nI_1, rk_vb8 (by omega)]) K⟩⟩)
theorem rk_post (hN : N + 1 ≤ 67108864) (h : rk_In N bs w C) (to x : Int32) :
    ∃ r C', rk_In (N + 1) bs w C' ∧ (∀ post : Int32 → SX → Prop, post r (rk_mX C') → wpX_post post (rk_mX C) to x) ∧ (∀ post : Int32 → SY → Prop, post r (rk_mY C') → wpY_post post (rk_mY C) to x) := by
  have hup : rk_In (N + 1) bs w C := rk_In_up (by omega) h
  obtain ⟨v, hv, RX, RY⟩ := rk_runner h.1
  rcases hv with ⟨rfl, _⟩ | ⟨r, hr, rfl, r1, _⟩
  · refine ⟨-1, C, hup, fun post K => ?_, fun post K => ?_⟩
    · unfold wpX_post
      exact RX _ (br_f rk_m1nle (br_f (by decide) K))
    · unfold wpY_post
      exact RY _ (br_f rk_m1nle K)
  · have p0 : (0 : Int32) ≤ nI r := nI_pos' (by omega)
    have ir : vp_in (nI r) 10 := rk_in hr
    have er : (nI r).toNatClampNeg = r := rk_cl (by omega)
    obtain ⟨wr, hw, WX, WY⟩ := rk_wrong (by omega) h.1 hr to 1
    obtain ⟨Q, tt, sg, F, hLX, hLY⟩ := h.2.1
    have hQ30 : Q.length ≤ 30 := by have := hLX.2.2.2.2.2.2.2; omega
    have bad : ¬ wr = 0 → ¬ 0 ≤ wr → ∃ r C', rk_In (N + 1) bs w C' ∧ (∀ post : Int32 → SX → Prop, post r (rk_mX C') → wpX_post post (rk_mX C) to x) ∧ (∀ post : Int32 → SY → Prop, post r (rk_mY C') → wpY_post post (rk_mY C) to x) := by
      intro z1 z2
      refine ⟨wr, C, hup, fun post K => ?_, fun post K => ?_⟩
      · unfold wpX_post
        exact RX _ (br_t p0 (WX _ (br_f z1 K)))
      · unfold wpY_post
        exact RY _ (br_t p0 (WY _ (nm_e (rk_yown hLY hQ30 (br_f z2 K)))))
    rcases hw with z | z | z | ⟨z, s, hs, hsr, has, hto⟩
    · exact bad (by rw [z]; decide) (by rw [z]; decide)
    · exact bad (by rw [z]; decide) (by rw [z]; decide)
    · exact bad (by rw [z]; decide) (by rw [z]; decide)
    · subst z
      have h0 := h.1
      obtain ⟨hT, hL, hB, hM, hR, hW, hA, hQ⟩ := h0
      have e15 : to &&& 15 = nI s := by rw [hto]; exact rk_ep_and (by omega) hB hs
      have har := rk_Tie_al hT hr (by rw [r1]; decide)
      have hpo := hLX.2.2.2.1 r hr
      by_cases c3 : Q.countP (fun c => (C 29) c == nI r) = 3
      · refine ⟨-7, C, hup, fun post K => ?_, fun post K => ?_⟩
        · unfold wpX_post
          exact RX _ (br_t p0 (WX _ (br_t rfl ⟨ir, br_t (by rw [er, hpo.2.1, c3]; rfl) K⟩)))
        · unfold wpY_post
          exact RY _ (br_t p0 (WY _ (nm_e (rk_yown hLY hQ30 (br_t (by decide) (br_t (by rw [c3]; rfl) K))))))
      · have n3 : ¬ nI (Q.countP (fun c => (C 29) c == nI r)) = 3 := fun z => c3 (rk_inj (b := 3) (by omega) (by omega) z)
        obtain ⟨t, ht, TX, TY⟩ := rk_takes hW hs (rk_ep (C 12) r) 2
        rcases ht with rfl | ⟨rfl, h34⟩
        · obtain ⟨hroom, c, F', eF, hc30, hsp⟩ := rk_LX_room hr (by omega) hLX
          subst eF
          have hcQ : c ∉ Q := (hLX.2.2.2.2.2.2.1 c List.mem_cons_self).2
          obtain ⟨sg', hX'⟩ := rk_LX_add hs has hr har (by omega) hLX
          have hY' := rk_LY_add (r := s) (v := nI r) (x := x) hcQ hLY
          have es : (nI s).toNatClampNeg = s := rk_cl (by omega)
          have is : vp_in (nI s) 10 := rk_in hs
          have ic : vp_in (C 0 0) 30 := by rw [hsp]; exact rk_in hc30
          have ec : (C 0 0).toNatClampNeg = c := by rw [hsp]; exact rk_cl (by omega)
          have hlc : ∃ n, n ≤ 30 ∧ (C 33) s = nI n := ⟨_, Nat.le_trans List.countP_le_length hQ30, (hLX.2.2.2.1 s hs).1⟩
          have hpo' : ∃ n, n ≤ 30 ∧ (C 34) r = nI n := ⟨_, Nat.le_trans List.countP_le_length hQ30, hpo.2.1⟩
          refine ⟨0, rk_cps C r s c Q.length x, ?_, fun post K => ?_, fun post K => ?_⟩
          · obtain ⟨h0, h1, h2⟩ := hup
            exact ⟨h0, ⟨Q ++ [c], _, sg', F', hX', hY'⟩, h2⟩
          · unfold wpX_post
            have hK : post 0 (rk_mX (rk_psX C r s c x)) := (by simp only [rk_mX, rk_mY, rk_sA_s, rk_sA_n, ne_eq, Nat.reduceEqDiff, not_false_eq_true, rk_cps] at K ⊢; exact K)
            refine RX _ (br_t p0 (WX _ (br_t rfl ⟨ir, br_f (by rw [er, hpo.2.1]; exact n3) (nm_r (e' := nI s) e15 (rk_xep hr (TX _ (br_t rfl ?_))))⟩)))
            unfold rk_psX rk_qB rk_qF at hK
            refine And.intro ic (nm_r (e' := (C 30) c) (by rw [ec]) ⟨ic, nm_r (e' := upd (C 29) c (nI r)) (by rw [ec, rk_vb8 (by omega)]) ⟨ic, nm_r (e' := upd (C 35) c x) (by rw [ec]) ⟨ic, nm_r (e' := upd (C 30) c (-1)) (by rw [ec, rk_vbm]) ⟨is, ?_⟩⟩⟩⟩)
            by_cases cl : (C 33) s ≤ 0
            · rw [if_pos cl, if_pos cl] at hK
              refine br_t (by rw [es]; exact cl) ⟨is, nm_r (e' := upd (C 31) s (nI c)) (by rw [es, hsp, rk_vb8 (by omega)]) ?_⟩
              rw [hsp]
              exact rk_xpost167 (C := rk_sA (rk_sA (rk_sA (rk_sA (rk_sA C 0 (fun _ => (C 30) c)) 29 (upd (C 29) c (nI r))) 35 (upd (C 35) c x)) 30 (upd (C 30) c (-1))) 31 (upd (C 31) s (nI c))) hr hs hc30 hlc hpo' hK
            · rw [if_neg cl, if_neg cl] at hK
              have y : ∃ t, rk_T Q tt s t := by
                refine Classical.byContradiction (fun y => cl ?_)
                rw [(hLX.2.2.2.1 s hs).1]
                have z : Q.countP (fun c => tt c == s) = 0 := by
                  rcases Nat.eq_zero_or_pos (Q.countP (fun c => tt c == s)) with z | z
                  · exact z
                  · obtain ⟨t, y1, y2⟩ := List.countP_pos_iff.mp z
                    exact absurd ⟨t, y1, beq_iff_eq.mp y2⟩ y
                rw [z]
                decide
              rcases ((hLX.2.2.1 s hs).2 y).2 with ⟨_, u⟩ | ⟨b, u1, u2, _⟩
              · obtain ⟨t, y⟩ := y
                exact absurd y (u t)
              · have hb30 := (hLX.1 b u2.1).1
                rw [u1, rk_cl (by omega)] at hK
                refine br_f (by rw [es]; exact cl) ⟨is, by rw [es, u1]; exact rk_in hb30, nm_r (e' := upd (upd (C 30) c (-1)) b (nI c)) (by rw [es, u1, rk_cl (by omega), hsp, rk_vb8 (by omega)]) ?_⟩
                rw [hsp]
                exact rk_xpost167 (C := rk_sA (rk_sA (rk_sA (rk_sA C 0 (fun _ => (C 30) c)) 29 (upd (C 29) c (nI r))) 35 (upd (C 35) c x)) 30 (upd (upd (C 30) c (-1)) b (nI c))) hr hs hc30 hlc hpo' hK
          · unfold wpY_post
            have il : vp_in (C 57 0) 30 := by rw [hLY.1]; exact rk_in hroom
            have el : (C 57 0).toNatClampNeg = Q.length := by rw [hLY.1]; exact rk_cl (by omega)
            refine RY _ (br_t p0 (WY _ (nm_r (e' := nI s) e15 (rk_yown hLY hQ30 (br_t (by decide) (br_f n3 (rk_yep hB hr har (TY _ (br_t rfl ?_)))))))))
            exact And.intro il (nm_r (e' := upd (C 66) Q.length (nI r)) (by rw [el]) ⟨il, nm_r (e' := upd (C 67) Q.length (nI s)) (by rw [el]) (nm_r (e' := (C 57 0) + 1) rfl ⟨il, nm_r (e' := upd (C 68) Q.length x) (by rw [el]) (by simp only [rk_mX, rk_mY, rk_sA_s, rk_sA_n, ne_eq, Nat.reduceEqDiff, not_false_eq_true, rk_cps, rk_psX] at K ⊢; exact K)⟩)⟩)
        · obtain ⟨p, h1, FX, FY⟩ := rk_in_fr (C := rk_cg2 C s (rk_ep (C 12) r) x) (N := N) (by omega) hs h34 0 (rk_in_g2 h)
          refine ⟨0, _, h1, fun post K => ?_, fun post K => ?_⟩
          · unfold wpX_post
            exact RX _ (br_t p0 (WX _ (br_t rfl ⟨ir, br_f (by rw [er, hpo.2.1]; exact n3) (nm_r (e' := nI s) e15 (rk_xep hr (TX _ (br_f (by decide) (rk_xgot2 hs (FX _ K))))))⟩)))
          · unfold wpY_post
            exact RY _ (br_t p0 (WY _ (nm_r (e' := nI s) e15 (rk_yown hLY hQ30 (br_t (by decide) (br_f n3 (rk_yep hB hr har (TY _ (br_f (by decide) (rk_ygets2 hs (FY _ K)))))))))))
end
end
section
/-! receive: the notes -/
def rk_src (be : Nat → Int32) (k : Nat) : Int32 := if k < 10 then rk_ep be k else -2 - nI (k - 10)
/-- whom one receives from: any (-1), or one that is there -/
def rk_fm (C : rk_ST) (fm : Int32) : Prop := fm = -1 ∨ ∃ s, s < 10 ∧ (C 75) s = 1 ∧ fm = rk_ep (C 12) s
def rk_mk (be : Nat → Int32) (fm : Int32) (k : Nat) : Prop := fm = -1 ∨ (k < 10 ∧ fm = rk_ep be k)
def rk_cno (C : rk_ST) (r k : Nat) : rk_ST := rk_cg1 (rk_sA (rk_sA C 28 (upd (C 28) r ((C 28) r &&& (((1 : Int32) <<< (nI k &&& 31)) ^^^ (-1))))) 65 (upd (C 65) (14 * r + k) 0)) r (rk_src (C 12) k) 0
section
variable {C : rk_ST} {N : Nat} {s r p k c a : Nat} {x e v how fm : Int32} {bs : Nat → Nat} {w : Nat}
theorem rk_src_hi (h : 10 ≤ k) (h14 : k < 14) (be : Nat → Int32) : rk_src be k < 0 ∧ rk_src be k = (if k = 10 then -2 else (-3) - (nI k - 11)) ∧ (if k = 10 then (-2 : Int32) else (-3) - ((nI k - 10) - 1)) = rk_src be k := by
  unfold rk_src
  rw [if_neg (by omega : ¬ k < 10)]
  rcases (by omega : k = 10 ∨ k = 11 ∨ k = 12 ∨ k = 13) with rfl | rfl | rfl | rfl <;> decide
theorem rk_xsrc {post : Int32 → Prop} (hk : k < 14) (K : post (rk_src (C 12) k)) : (10 ≤ nI k → wpX_sourceOf post (nI k)) ∧ (¬ 10 ≤ nI k → wpX_endpoint post (rk_mX C) (nI k)) := by
  rcases Nat.lt_or_ge k 10 with h | h
  · refine br_f (nI_ge (b := 10) h (by omega)) (rk_xep h ?_)
    unfold rk_src at K
    rw [if_pos h] at K
    exact K
  · refine br_t (nI_le (a := 10) h (by omega)) ?_
    have z := (rk_src_hi h hk (C 12)).2.2
    by_cases e : k = 10
    · rw [if_pos e] at z
      exact br_t (by rw [e]; rfl) (by rw [← z] at K; exact K)
    · rw [if_neg e] at z
      exact br_f (fun y => e (rk_inj (b := 10) (by omega) (by omega) y)) (by rw [← z] at K; exact K)
theorem rk_ysrcK {post : Int32 → Prop} (hB : rk_Bir N (C 75) (C 12) (C 59)) (hk : k < 14) (ha : k < 10 → (C 75) k = 1) (K : post (rk_src (C 12) k)) : wpY_sourceOf post (rk_mY C) (nI k) := by
  rcases Nat.lt_or_ge k 10 with h | h
  · refine br_f (nI_ge (b := 10) h (by omega)) (rk_yep hB h (ha h) ?_)
    unfold rk_src at K
    rw [if_pos h] at K
    exact K
  · refine br_t (nI_le (a := 10) h (by omega)) ?_
    have z := (rk_src_hi h hk (C 12)).2.1
    by_cases e : k = 10
    · rw [if_pos e] at z
      exact br_t (by rw [e]; rfl) (by rw [z] at K; exact K)
    · rw [if_neg e] at z
      exact br_f (fun y => e (rk_inj (b := 10) (by omega) (by omega) y)) (by rw [z] at K; exact K)
theorem rk_ysrcE (hk : k < 14) : ∃ e, ∀ post : Int32 → Prop, post e → wpY_sourceOf post (rk_mY C) (nI k) := by
  rcases Nat.lt_or_ge k 10 with h | h
  · exact ⟨_, fun post K => br_f (nI_ge (b := 10) h (by omega)) (And.intro (rk_in h) K)⟩
  · by_cases e : k = 10
    · exact ⟨_, fun post K => br_t (nI_le (a := 10) h (by omega)) (br_t (by rw [e]; rfl) K)⟩
    · exact ⟨_, fun post K => br_t (nI_le (a := 10) h (by omega)) (br_f (fun y => e (rk_inj (b := 10) (by omega) (by omega) y)) K)⟩
theorem rk_xnoteL {z : Int32} (hr : r < 10) (hk : k < 14) (hz : bt z k = true) : ∀ d i, i + d = k → (∀ j, i ≤ j → j < k → bt z j = false) → ∀ post : Int32 → SX → Prop, post 1 (rk_mX (rk_cno C r k)) → wX_takeNote_37 post (nI r) z (C 0 0) (C 1 0) (C 2 0) (C 3 0) (C 4 0) (C 5 0) (C 6 0) (C 7 0) (C 8) (C 9) (C 10) (C 11) (C 12) (C 13) (C 14) (C 15) (C 16) (C 17) (C 18) (C 19) (C 20) (C 21) (C 22) (C 23) (C 24) (C 25) (C 26) (C 27) (C 28) (C 29) (C 30) (C 31) (C 32) (C 33) (C 34) (C 35) (C 36) (C 37) (C 38) (C 39) (C 40) (C 41) (C 42) (C 43) (C 44) (C 45) (C 46) (C 47) (C 48) (C 49) (C 50) (C 51) (C 52) (C 53) (C 54) (C 55) (C 56) (d + 1) (nI i) := by
  have ir : vp_in (nI r) 10 := rk_in hr
  have er : (nI r).toNatClampNeg = r := rk_cl (by omega)
  intro d
  induction d with
  | zero =>
    intro i hi hj post K
    have e : i = k := by omega
    subst e
    refine br_f (fun y => ?_) ⟨ir, ir, nm_r (e' := upd (C 28) r ((C 28) r &&& (((1 : Int32) <<< (nI i &&& 31)) ^^^ (-1)))) (by rw [er]) ?_⟩
    · rw [rk_btst0 z (by omega), hz] at y
      exact absurd y (by decide)
    · have hK : post 1 (rk_mX (rk_cg1 (rk_sA C 28 (upd (C 28) r ((C 28) r &&& (((1 : Int32) <<< (nI i &&& 31)) ^^^ (-1))))) r (rk_src (C 12) i) 0)) := (by simp only [rk_mX, rk_mY, rk_sA_s, rk_sA_n, ne_eq, Nat.reduceEqDiff, not_false_eq_true, rk_cno, rk_cg1] at K ⊢; exact K)
      have e : ∀ q, q = rk_src (C 12) i → wX_takeNote_88 post (nI r) q (C 0 0) (C 1 0) (C 2 0) (C 3 0) (C 4 0) (C 5 0) (C 6 0) (C 7 0) (C 8) (C 9) (C 10) (C 11) (C 12) (C 13) (C 14) (C 15) (C 16) (C 17) (C 18) (C 19) (C 20) (C 21) (C 22) (C 23) (C 24) (C 25) (C 26) (C 27) (upd (C 28) r ((C 28) r &&& (((1 : Int32) <<< (nI i &&& 31)) ^^^ (-1)))) (C 29) (C 30) (C 31) (C 32) (C 33) (C 34) (C 35) (C 36) (C 37) (C 38) (C 39) (C 40) (C 41) (C 42) (C 43) (C 44) (C 45) (C 46) (C 47) (C 48) (C 49) (C 50) (C 51) (C 52) (C 53) (C 54) (C 55) (C 56) := by
        intro q hq
        subst hq
        unfold wX_takeNote_88
        exact rk_xgot1 (C := rk_sA C 28 (upd (C 28) r ((C 28) r &&& (((1 : Int32) <<< (nI i &&& 31)) ^^^ (-1))))) hr hK
      exact rk_xsrc (C := rk_sA C 28 (upd (C 28) r ((C 28) r &&& (((1 : Int32) <<< (nI i &&& 31)) ^^^ (-1))))) (post := fun q => wX_takeNote_88 post (nI r) q (C 0 0) (C 1 0) (C 2 0) (C 3 0) (C 4 0) (C 5 0) (C 6 0) (C 7 0) (C 8) (C 9) (C 10) (C 11) (C 12) (C 13) (C 14) (C 15) (C 16) (C 17) (C 18) (C 19) (C 20) (C 21) (C 22) (C 23) (C 24) (C 25) (C 26) (C 27) (upd (C 28) r ((C 28) r &&& (((1 : Int32) <<< (nI i &&& 31)) ^^^ (-1)))) (C 29) (C 30) (C 31) (C 32) (C 33) (C 34) (C 35) (C 36) (C 37) (C 38) (C 39) (C 40) (C 41) (C 42) (C 43) (C 44) (C 45) (C 46) (C 47) (C 48) (C 49) (C 50) (C 51) (C 52) (C 53) (C 54) (C 55) (C 56)) hk (e _ rfl)
  | succ d ih =>
    intro i hi hj post K
    exact br_t ((rk_btst0 z (by omega)).mpr (hj i (Nat.le_refl i) (by omega))) (nm_r (nI_1 i) (ih (i + 1) (by omega) (fun j y1 y2 => hj j (by omega) y2) post K))
theorem rk_mk_dec (hN : N ≤ 67108864) (hB : rk_Bir N (C 75) (C 12) (C 59)) (hfm : rk_fm C fm) : ∃ z : Int32, (∀ i, i < 32 → (bt z i = true ↔ bt ((C 28) r) i = true ∧ rk_mk (C 12) fm i)) ∧
    (r < 10 → ∀ post : Int32 → SX → Prop, wX_takeNote_27 post (nI r) z (C 0 0) (C 1 0) (C 2 0) (C 3 0) (C 4 0) (C 5 0) (C 6 0) (C 7 0) (C 8) (C 9) (C 10) (C 11) (C 12) (C 13) (C 14) (C 15) (C 16) (C 17) (C 18) (C 19) (C 20) (C 21) (C 22) (C 23) (C 24) (C 25) (C 26) (C 27) (C 28) (C 29) (C 30) (C 31) (C 32) (C 33) (C 34) (C 35) (C 36) (C 37) (C 38) (C 39) (C 40) (C 41) (C 42) (C 43) (C 44) (C 45) (C 46) (C 47) (C 48) (C 49) (C 50) (C 51) (C 52) (C 53) (C 54) (C 55) (C 56) → wpX_takeNote post (rk_mX C) (nI r) fm) := by
  by_cases c : fm = -1
  · refine ⟨(C 28) r, fun i hi => ⟨fun y => ⟨y, Or.inl c⟩, fun y => y.1⟩, fun hr post K => br_t c ⟨rk_in hr, ?_⟩⟩
    rw [rk_cl (by omega)]
    exact K
  · rcases hfm with y | ⟨s0, h1, h2, h3⟩
    · exact absurd y c
    · have e15 : fm &&& 15 = nI s0 := by rw [h3]; exact rk_ep_and hN hB h1
      refine ⟨(C 28) r &&& ((1 : Int32) <<< (nI s0 &&& 31)), fun i hi => ?_, fun hr post K => br_f c ⟨rk_in hr, ?_⟩⟩
      · rw [b_and, rk_b1 s0 i (by omega) hi, Bool.and_eq_true, decide_eq_true_iff]
        constructor
        · rintro ⟨y1, y2⟩
          subst y2
          exact ⟨y1, Or.inr ⟨h1, h3⟩⟩
        · rintro ⟨y1, y2 | ⟨y2, y3⟩⟩
          · exact absurd y2 c
          · exact ⟨y1, rk_ep_inj hN hB y2 h1 (y3.symm.trans h3)⟩
      · rw [rk_cl (by omega), e15]
        exact K
theorem rk_yskip (hN : N ≤ 67108864) (hB : rk_Bir N (C 75) (C 12) (C 59)) (hno : rk_No (C 75) (C 28) (C 65)) (hfm : rk_fm C fm) (hr : r < 10) (hk : k < 14) (hnm : ¬ (bt ((C 28) r) k = true ∧ rk_mk (C 12) fm k)) {n : Nat} {post : Int32 → SY → Prop} (K : wY_fetch_2 post (nI r) fm (C 57 0) (C 58 0) (C 8) (C 59) (C 9) (C 10) (C 11) (C 13) (C 60) (C 16) (C 15) (C 61) (C 62) (C 36) (C 38) (C 37) (C 63) (C 64) (C 18) (C 65) (C 66) (C 67) (C 68) (C 39) (C 42) (C 43) (C 40) (C 69) (C 70) (C 49) (C 52) (C 51) (C 53) (C 71) (C 72) (C 54) (C 73) (C 74) (C 56) n (nI (k + 1))) : wY_fetch_2 post (nI r) fm (C 57 0) (C 58 0) (C 8) (C 59) (C 9) (C 10) (C 11) (C 13) (C 60) (C 16) (C 15) (C 61) (C 62) (C 36) (C 38) (C 37) (C 63) (C 64) (C 18) (C 65) (C 66) (C 67) (C 68) (C 39) (C 42) (C 43) (C 40) (C 69) (C 70) (C 49) (C 52) (C 51) (C 53) (C 71) (C 72) (C 54) (C 73) (C 74) (C 56) (n + 1) (nI k) := by
  have n14 : ¬ (14 : Int32) ≤ nI k := nI_ge (b := 14) hk (by omega)
  have ix : vp_in ((14 : Int32) * nI r + nI k) 140 := by rw [rk_14]; exact rk_in (by omega)
  have ex : ((14 : Int32) * nI r + nI k).toNatClampNeg = 14 * r + k := by rw [rk_14]; exact rk_cl (by omega)
  have hy := hno.1 r hr k hk
  refine br_f n14 ?_
  by_cases b : bt ((C 28) r) k = true
  · rw [if_pos b] at hy
    have nm : ¬ rk_mk (C 12) fm k := fun y => hnm ⟨b, y⟩
    have hal : k < 10 → (C 75) k = 1 := fun y => hno.2.2 r hr k y b
    refine rk_ysrcK hB hk hal (And.intro ix (br_f (by rw [ex, hy]; decide) (br_f (fun y => nm (Or.inl y)) (br_f (fun y => ?_) (nm_r (nI_1 k) K)))))
    rcases Nat.lt_or_ge k 10 with z | z
    · unfold rk_src at y
      rw [if_pos z] at y
      exact nm (Or.inr ⟨z, y.symm⟩)
    · rcases hfm with u | ⟨s0, u1, u2, u3⟩
      · exact nm (Or.inl u)
      · rw [u3] at y
        have q := (rk_src_hi z hk (C 12)).1
        rw [y] at q
        exact rk_ep_pos hN hB u1 q
  · rw [if_neg b] at hy
    obtain ⟨e, E⟩ := rk_ysrcE (C := C) hk
    exact E _ (And.intro ix (br_t (by rw [ex]; exact hy) (nm_r (nI_1 k) K)))
theorem rk_yskips (hN : N ≤ 67108864) (hB : rk_Bir N (C 75) (C 12) (C 59)) (hno : rk_No (C 75) (C 28) (C 65)) (hfm : rk_fm C fm) (hr : r < 10) {post : Int32 → SY → Prop} {n : Nat} : ∀ d i, i + d ≤ 14 → (∀ j, i ≤ j → j < i + d → ¬ (bt ((C 28) r) j = true ∧ rk_mk (C 12) fm j)) → wY_fetch_2 post (nI r) fm (C 57 0) (C 58 0) (C 8) (C 59) (C 9) (C 10) (C 11) (C 13) (C 60) (C 16) (C 15) (C 61) (C 62) (C 36) (C 38) (C 37) (C 63) (C 64) (C 18) (C 65) (C 66) (C 67) (C 68) (C 39) (C 42) (C 43) (C 40) (C 69) (C 70) (C 49) (C 52) (C 51) (C 53) (C 71) (C 72) (C 54) (C 73) (C 74) (C 56) n (nI (i + d)) → wY_fetch_2 post (nI r) fm (C 57 0) (C 58 0) (C 8) (C 59) (C 9) (C 10) (C 11) (C 13) (C 60) (C 16) (C 15) (C 61) (C 62) (C 36) (C 38) (C 37) (C 63) (C 64) (C 18) (C 65) (C 66) (C 67) (C 68) (C 39) (C 42) (C 43) (C 40) (C 69) (C 70) (C 49) (C 52) (C 51) (C 53) (C 71) (C 72) (C 54) (C 73) (C 74) (C 56) (n + d) (nI i) := by
  intro d
  induction d with
  | zero => intro i hi hj K; exact K
  | succ d ih =>
    intro i hi hj K
    refine rk_yskip hN hB hno hfm hr (by omega) (hj i (Nat.le_refl i) (by omega)) (n := n + d) (ih (i + 1) (by omega) (fun j y1 y2 => hj j (by omega) (by omega)) ?_)
    rw [show i + 1 + d = i + (d + 1) by omega]
    exact K
theorem rk_tnote (hN : N ≤ 67108864) (h : rk_In N bs w C) (hr : r < 10) (hfm : rk_fm C fm) :
    ((∀ post : Int32 → SX → Prop, post 0 (rk_mX C) → wpX_takeNote post (rk_mX C) (nI r) fm) ∧ (∀ post : Int32 → SY → Prop, (∃ n, wY_fetch_74 post (nI r) fm (C 57 0) (C 58 0) (C 8) (C 59) (C 9) (C 10) (C 11) (C 13) (C 60) (C 16) (C 15) (C 61) (C 62) (C 36) (C 38) (C 37) (C 63) (C 64) (C 18) (C 65) (C 66) (C 67) (C 68) (C 39) (C 42) (C 43) (C 40) (C 69) (C 70) (C 49) (C 52) (C 51) (C 53) (C 71) (C 72) (C 54) (C 73) (C 74) (C 56) n 0) → wpY_fetch post (rk_mY C) (nI r) fm)) ∨
    (∃ C', rk_In N bs w C' ∧ (∀ post : Int32 → SX → Prop, post 1 (rk_mX C') → wpX_takeNote post (rk_mX C) (nI r) fm) ∧ (∀ post : Int32 → SY → Prop, post 1 (rk_mY C') → wpY_fetch post (rk_mY C) (nI r) fm)) := by
  have hB := h.1.2.2.1
  have hno := h.2.2.1
  obtain ⟨z, hz, ZX⟩ := rk_mk_dec (r := r) hN hB hfm
  by_cases hex : ∃ k, k < 14 ∧ bt ((C 28) r) k = true ∧ rk_mk (C 12) fm k
  · obtain ⟨k, ⟨hk, hb, hm⟩, hmin⟩ := pk_least (fun k => k < 14 ∧ bt ((C 28) r) k = true ∧ rk_mk (C 12) fm k) hex
    right
    have hzk : bt z k = true := (hz k (by omega)).mpr ⟨hb, hm⟩
    have nz : ¬ z = 0 := by
      intro y
      rw [y, b_0] at hzk
      exact absurd hzk (by decide)
    have hal : k < 10 → (C 75) k = 1 := fun y => hno.2.2 r hr k y hb
    refine ⟨rk_cno C r k, rk_in_g1 ?_, fun post K => ZX hr post (br_f nz ⟨_, rk_xnoteL hr hk hzk k 0 (Nat.zero_add k) (fun j _ hj => ?_) post K⟩), fun post K => ?_⟩
    · obtain ⟨h0, h1, h2, h3⟩ := h
      exact ⟨h0, h1, rk_No_clr hr hk h2, h3⟩
    · cases y : bt z j
      · rfl
      · exact absurd ⟨by omega, (hz j (by omega)).mp y⟩ (hmin j hj)
    · have ix : vp_in ((14 : Int32) * nI r + nI k) 140 := by rw [rk_14]; exact rk_in (by omega)
      have ex : ((14 : Int32) * nI r + nI k).toNatClampNeg = 14 * r + k := by rw [rk_14]; exact rk_cl (by omega)
      have hy := hno.1 r hr k hk
      rw [if_pos hb] at hy
      have fin : ∀ q, q = rk_src (C 12) k → wY_fetch_43 post (nI r) (nI k) q (C 57 0) (C 58 0) (C 8) (C 59) (C 9) (C 10) (C 11) (C 13) (C 60) (C 16) (C 15) (C 61) (C 62) (C 36) (C 38) (C 37) (C 63) (C 64) (C 18) (C 65) (C 66) (C 67) (C 68) (C 39) (C 42) (C 43) (C 40) (C 69) (C 70) (C 49) (C 52) (C 51) (C 53) (C 71) (C 72) (C 54) (C 73) (C 74) (C 56) := by
        intro q hq
        subst hq
        exact And.intro ix (nm_r (e' := upd (C 65) (14 * r + k) 0) (by rw [ex, rk_vt0]) (rk_ygets1 (C := rk_sA C 65 (upd (C 65) (14 * r + k) 0)) hr (by simp only [rk_mX, rk_mY, rk_sA_s, rk_sA_n, ne_eq, Nat.reduceEqDiff, not_false_eq_true, rk_cno, rk_cg1] at K ⊢; exact K)))
      refine ⟨1 + k, rk_yskips hN hB hno hfm hr k 0 (by omega) (fun j _ hj y => hmin j (by omega) ⟨by omega, y⟩) ?_⟩
      rw [Nat.zero_add]
      refine br_f (nI_ge (b := 14) hk (by omega)) (rk_ysrcK hB hk hal (And.intro ix (br_f (by rw [ex, hy]; decide) ?_)))
      by_cases c : fm = -1
      · exact br_t c (fin _ rfl)
      · refine br_f c (br_t ?_ (fin _ rfl))
        rcases hm with y | ⟨y1, y2⟩
        · exact absurd y c
        · unfold rk_src
          rw [if_pos y1]
          exact y2.symm
  · left
    have z0 : z = 0 := by
      apply b_ext
      intro i hi
      rw [b_0]
      cases y : bt z i
      · rfl
      · exfalso
        obtain ⟨y1, y2⟩ := (hz i hi).mp y
        rcases Nat.lt_or_ge i 14 with u | u
        · exact hex ⟨i, u, y1, y2⟩
        · rw [hno.2.1 r hr i u] at y1
          exact absurd y1 (by decide)
    refine ⟨fun post K => ZX hr post (br_t z0 K), fun post K => ⟨1 + 14, rk_yskips hN hB hno hfm hr 14 0 (by omega) (fun j _ hj y => hex ⟨j, by omega, y⟩) ?_⟩⟩
    exact br_t (by decide) K
end
end
section
/-! receive: the messages -/
def rk_P (C : rk_ST) (r : Nat) (fm : Int32) (t : Nat) : Prop := rk_S (C 8) (C 14) (C 12) r t ∧ (fm = -1 ∨ fm = rk_ep (C 12) t)
def rk_snd (C : rk_ST) (r : Nat) (fm v : Int32) : Prop := (v = -1 ∧ ∀ t, ¬ rk_P C r fm t) ∨ ∃ s, v = nI s ∧ rk_P C r fm s ∧ ∀ t, rk_P C r fm t → rk_m (C 63) s ≤ rk_m (C 63) t
section
variable {C : rk_ST} {N : Nat} {s r p k c a : Nat} {x e v how fm : Int32} {bs : Nat → Nat} {w : Nat}
theorem rk_snd_uni (h : rk_Co N rk_fa 0 C C) {v v' : Int32} (h1 : rk_snd C r fm v) (h2 : rk_snd C r fm v') : v = v' := by
  rcases h1 with ⟨e, l⟩ | ⟨a, e, Pa, l⟩
  · rcases h2 with ⟨e', l'⟩ | ⟨a', e', Pa', l'⟩
    · rw [e, e']
    · exact absurd Pa' (l a')
  · rcases h2 with ⟨e', l'⟩ | ⟨a', e', Pa', l'⟩
    · exact absurd Pa (l' a)
    · have q1 := l a' Pa'
      have q2 := l' a Pa
      have : a = a' := rk_S_in h.1 h.2.2.2.1 r a a' Pa.1 Pa'.1 (by omega)
      rw [e, e', this]
theorem rk_ysndL (hT : rk_Tie (C 8) (C 75)) (hB : rk_Bir N (C 75) (C 12) (C 59)) (hW : rk_Wt rk_fa 0 (C 8) (C 75) (C 14) (C 60) (C 15) (C 12) (C 27) (C 17) (C 64)) (hr : r < 10) (har : (C 75) r = 1) :
    ∀ d i x, i + d = 10 → ((x = -1 ∧ ∀ t, t < i → ¬ rk_P C r fm t) ∨ ∃ b, b < i ∧ x = nI b ∧ rk_P C r fm b ∧ ∀ t, t < i → rk_P C r fm t → rk_m (C 63) b ≤ rk_m (C 63) t) →
      ∃ v, rk_snd C r fm v ∧ ∀ post : Int32 → Prop, post v → wY_firstSender_5 post (nI r) fm (C 57 0) (C 58 0) (C 8) (C 59) (C 9) (C 10) (C 11) (C 13) (C 60) (C 16) (C 15) (C 61) (C 62) (C 36) (C 38) (C 37) (C 63) (C 64) (C 18) (C 65) (C 66) (C 67) (C 68) (C 39) (C 42) (C 43) (C 40) (C 69) (C 70) (C 49) (C 52) (C 51) (C 53) (C 71) (C 72) (C 54) (C 73) (C 74) (C 56) (d + 1) x (nI i) := by
  intro d
  induction d with
  | zero =>
    intro i x hi h
    have e : i = 10 := by omega
    subst e
    refine ⟨x, ?_, fun post K => br_t (nI_le (a := 10) (by omega) (by omega)) K⟩
    rcases h with ⟨e, l⟩ | ⟨b, hb, e, Pb, l⟩
    · exact Or.inl ⟨e, fun t z => l t z.1.2.1 z⟩
    · exact Or.inr ⟨b, e, Pb, fun t z => l t z.1.2.1 z⟩
  | succ d ih =>
    intro i x hi h
    have hi10 : i < 10 := by omega
    have ii : vp_in (nI i) 10 := rk_in hi10
    have ei : (nI i).toNatClampNeg = i := rk_cl (by omega)
    have n10 : ¬ (10 : Int32) ≤ nI i := nI_ge (b := 10) hi10 (by omega)
    by_cases hP : rk_P C r fm i
    · have s2 := hP.1.2.2.1
      have hoth : (C 60) i = rk_ep (C 12) r := by rw [(hW.1 i hi10 (Or.inl s2)).1]; exact hP.1.2.2.2
      have hai := rk_Tie_al hT hi10 (by rw [s2]; decide)
      have go : ∀ (J : Int32 → Int32 → Prop) (post : Int32 → Prop) (n : Nat), wY_firstSender_58 post (wY_firstSender_5 post (nI r) fm (C 57 0) (C 58 0) (C 8) (C 59) (C 9) (C 10) (C 11) (C 13) (C 60) (C 16) (C 15) (C 61) (C 62) (C 36) (C 38) (C 37) (C 63) (C 64) (C 18) (C 65) (C 66) (C 67) (C 68) (C 39) (C 42) (C 43) (C 40) (C 69) (C 70) (C 49) (C 52) (C 51) (C 53) (C 71) (C 72) (C 54) (C 73) (C 74) (C 56) n) (nI r) fm x (nI i) 1 (C 57 0) (C 58 0) (C 8) (C 59) (C 9) (C 10) (C 11) (C 13) (C 60) (C 16) (C 15) (C 61) (C 62) (C 36) (C 38) (C 37) (C 63) (C 64) (C 18) (C 65) (C 66) (C 67) (C 68) (C 39) (C 42) (C 43) (C 40) (C 69) (C 70) (C 49) (C 52) (C 51) (C 53) (C 71) (C 72) (C 54) (C 73) (C 74) (C 56) → wY_firstSender_5 post (nI r) fm (C 57 0) (C 58 0) (C 8) (C 59) (C 9) (C 10) (C 11) (C 13) (C 60) (C 16) (C 15) (C 61) (C 62) (C 36) (C 38) (C 37) (C 63) (C 64) (C 18) (C 65) (C 66) (C 67) (C 68) (C 39) (C 42) (C 43) (C 40) (C 69) (C 70) (C 49) (C 52) (C 51) (C 53) (C 71) (C 72) (C 54) (C 73) (C 74) (C 56) (n + 1) x (nI i) := by
        intro J post n K
        refine br_f n10 ⟨ii, br_t (by rw [ei]; exact s2) ⟨ii, rk_yep hB hr har (br_t (by rw [ei]; exact hoth) ?_)⟩⟩
        by_cases c : fm = -1
        · exact br_t c K
        · exact br_f c (rk_yep hB hi10 hai (br_t ((hP.2.resolve_left c).symm) K))
      rcases h with ⟨e, l⟩ | ⟨b, hb, e, Pb, l⟩
      · obtain ⟨v, h1, h2⟩ := ih (i + 1) (nI i) (by omega) (Or.inr ⟨i, by omega, rfl, hP, fun t ht z => by
          rcases Nat.lt_or_ge t i with y | y
          · exact absurd z (l t y)
          · have : t = i := by omega
            subst this
            exact Int.le_refl _⟩)
        exact ⟨v, h1, fun post K => go (fun _ _ => True) post (d + 1) (br_f (by decide) (br_t (by rw [e]; exact rk_m1lt) (nm_r (nI_1 i) (h2 post K))))⟩
      · have ib : vp_in (nI b) 10 := rk_in (by omega)
        have eb : (nI b).toNatClampNeg = b := rk_cl (by omega)
        subst e
        by_cases cm : (C 63) b ≤ (C 63) i
        · obtain ⟨v, h1, h2⟩ := ih (i + 1) (nI b) (by omega) (Or.inr ⟨b, by omega, rfl, Pb, fun t ht z => by
            rcases Nat.lt_or_ge t i with y | y
            · exact l t y z
            · have : t = i := by omega
              subst this
              exact Int32.le_iff_toInt_le.mp cm⟩)
          exact ⟨v, h1, fun post K => go (fun _ _ => True) post (d + 1) (br_f (by decide) (br_f (nI_pos (by omega)) ⟨ii, ib, br_t (by rw [ei, eb]; exact cm) (nm_r (nI_1 i) (h2 post K))⟩))⟩
        · have cm' : rk_m (C 63) i ≤ rk_m (C 63) b := Int.le_of_lt (Int32.lt_iff_toInt_lt.mp (Int32.not_le.mp cm))
          obtain ⟨v, h1, h2⟩ := ih (i + 1) (nI i) (by omega) (Or.inr ⟨i, by omega, rfl, hP, fun t ht z => by
            rcases Nat.lt_or_ge t i with y | y
            · exact Int.le_trans cm' (l t y z)
            · have : t = i := by omega
              subst this
              exact Int.le_refl _⟩)
          exact ⟨v, h1, fun post K => go (fun _ _ => True) post (d + 1) (br_f (by decide) (br_f (nI_pos (by omega)) ⟨ii, ib, br_f (by rw [ei, eb]; exact cm) (nm_r (nI_1 i) (h2 post K))⟩))⟩
    · obtain ⟨v, h1, h2⟩ := ih (i + 1) x (by omega) (by
        rcases h with ⟨e, l⟩ | ⟨b, hb, e, Pb, l⟩
        · refine Or.inl ⟨e, fun t ht z => ?_⟩
          rcases Nat.lt_or_ge t i with y | y
          · exact l t y z
          · have : t = i := by omega
            subst this
            exact hP z
        · refine Or.inr ⟨b, by omega, e, Pb, fun t ht z => ?_⟩
          rcases Nat.lt_or_ge t i with y | y
          · exact l t y z
          · have : t = i := by omega
            subst this
            exact absurd z hP)
      refine ⟨v, h1, fun post K => br_f n10 ⟨ii, ?_⟩⟩
      have no : wY_firstSender_58 post (wY_firstSender_5 post (nI r) fm (C 57 0) (C 58 0) (C 8) (C 59) (C 9) (C 10) (C 11) (C 13) (C 60) (C 16) (C 15) (C 61) (C 62) (C 36) (C 38) (C 37) (C 63) (C 64) (C 18) (C 65) (C 66) (C 67) (C 68) (C 39) (C 42) (C 43) (C 40) (C 69) (C 70) (C 49) (C 52) (C 51) (C 53) (C 71) (C 72) (C 54) (C 73) (C 74) (C 56) (d + 1)) (nI r) fm x (nI i) 0 (C 57 0) (C 58 0) (C 8) (C 59) (C 9) (C 10) (C 11) (C 13) (C 60) (C 16) (C 15) (C 61) (C 62) (C 36) (C 38) (C 37) (C 63) (C 64) (C 18) (C 65) (C 66) (C 67) (C 68) (C 39) (C 42) (C 43) (C 40) (C 69) (C 70) (C 49) (C 52) (C 51) (C 53) (C 71) (C 72) (C 54) (C 73) (C 74) (C 56) := br_t rfl (nm_r (nI_1 i) (h2 post K))
      by_cases s2 : (C 8) i = 2
      · have hai := rk_Tie_al hT hi10 (by rw [s2]; decide)
        have ho := (hW.1 i hi10 (Or.inl s2)).1
        refine br_t (by rw [ei]; exact s2) ⟨ii, rk_yep hB hr har ?_⟩
        by_cases c1 : (C 60) i = rk_ep (C 12) r
        · have hS : rk_S (C 8) (C 14) (C 12) r i := ⟨hr, hi10, s2, by rw [← ho]; exact c1⟩
          have nf : ¬ (fm = -1 ∨ fm = rk_ep (C 12) i) := fun y => hP ⟨hS, y⟩
          exact br_t (by rw [ei]; exact c1) (br_f (fun y => nf (Or.inl y)) (rk_yep hB hi10 hai (br_f (fun y => nf (Or.inr y.symm)) no)))
        · exact br_f (by rw [ei]; exact c1) no
      · exact br_f (by rw [ei]; exact s2) no
theorem rk_xsnd (hN : N ≤ 67108864) (h : rk_Co N rk_fa 0 C C) (hr : r < 10) (hfm : rk_fm C fm) : ∃ v, rk_snd C r fm v ∧ ∀ post : Int32 → SX → Prop, wX_takeMessage_68 post (nI r) v (C 0 0) (C 1 0) (C 2 0) (C 3 0) (C 4 0) (C 5 0) (C 6 0) (C 7 0) (C 8) (C 9) (C 10) (C 11) (C 12) (C 13) (C 14) (C 15) (C 16) (C 17) (C 18) (C 19) (C 20) (C 21) (C 22) (C 23) (C 24) (C 25) (C 26) (C 27) (C 28) (C 29) (C 30) (C 31) (C 32) (C 33) (C 34) (C 35) (C 36) (C 37) (C 38) (C 39) (C 40) (C 41) (C 42) (C 43) (C 44) (C 45) (C 46) (C 47) (C 48) (C 49) (C 50) (C 51) (C 52) (C 53) (C 54) (C 55) (C 56) → wpX_takeMessage post (rk_mX C) (nI r) fm := by
  obtain ⟨hT, hL, hB, hM, hR, hW, hA, hQ⟩ := h
  have ir : vp_in (nI r) 10 := rk_in hr
  have er : (nI r).toNatClampNeg = r := rk_cl (by omega)
  by_cases c : (C 26) r ≤ 0
  · have he := (rk_se_0 hr hQ).mp c
    refine ⟨-1, Or.inl ⟨rfl, fun t z => he t z.1⟩, fun post K => And.intro ir (br_t (by rw [er]; exact c) ?_)⟩
    by_cases f : fm = -1
    · exact br_t f K
    · exact br_f f (br_t rk_m1lt K)
  · have he : ∃ t, rk_S (C 8) (C 14) (C 12) r t := Classical.byContradiction (fun y => c ((rk_se_0 hr hQ).mpr (fun t u => y ⟨t, u⟩)))
    rcases ((hQ r hr).1.2 he).1 with ⟨_, u⟩ | ⟨b, u1, u2, u3⟩
    · obtain ⟨t, he⟩ := he
      exact absurd he (u t)
    · by_cases f : fm = -1
      · refine ⟨nI b, Or.inr ⟨b, rfl, ⟨u2, Or.inl f⟩, fun t z => u3 t z.1⟩, fun post K => And.intro ir (br_f (by rw [er]; exact c) ⟨ir, br_t f ?_⟩)⟩
        rw [er, u1]
        exact K
      · rcases hfm with y | ⟨s0, h1, h2, h3⟩
        · exact absurd y f
        · have e15 : fm &&& 15 = nI s0 := by rw [h3]; exact rk_ep_and hN hB h1
          have es0 : (nI s0).toNatClampNeg = s0 := rk_cl (by omega)
          have i0 : vp_in (nI s0) 10 := rk_in h1
          have nf : ¬ (C 24) r < 0 := by rw [u1]; exact nI_pos (by have := u2.2.1; omega)
          by_cases q : rk_S (C 8) (C 14) (C 12) r s0
          · refine ⟨nI s0, Or.inr ⟨s0, rfl, ⟨q, Or.inr h3⟩, fun t z => ?_⟩, fun post K => And.intro ir (br_f (by rw [er]; exact c) ⟨ir, br_f f (br_f (by rw [er]; exact nf) ⟨by rw [e15]; exact i0, br_t (by rw [e15, es0]; exact q.2.2.1) ⟨by rw [e15]; exact i0, rk_xep hr (br_t (by rw [e15, es0]; exact q.2.2.2) ?_)⟩⟩)⟩)⟩
            · have : t = s0 := rk_ep_inj hN hB z.1.2.1 h1 ((z.2.resolve_left f).symm.trans h3)
              subst this
              exact Int.le_refl _
            · rw [e15]
              exact K
          · refine ⟨-1, Or.inl ⟨rfl, fun t z => ?_⟩, fun post K => And.intro ir (br_f (by rw [er]; exact c) ⟨ir, br_f f (br_f (by rw [er]; exact nf) ⟨by rw [e15]; exact i0, ?_⟩)⟩)⟩
            · have : t = s0 := rk_ep_inj hN hB z.1.2.1 h1 ((z.2.resolve_left f).symm.trans h3)
              subst this
              exact q z.1
            · by_cases s2 : (C 8) s0 = 2
              · exact br_t (by rw [e15, es0]; exact s2) ⟨by rw [e15]; exact i0, rk_xep hr (br_f (by rw [e15, es0]; exact fun y => q ⟨hr, h1, s2, y⟩) K)⟩
              · exact br_f (by rw [e15, es0]; exact s2) K
/-- a message: none, or one that is taken; Y at the end of the letters -/
theorem rk_msg (hN : N + 1 ≤ 67108864) (h : rk_In N bs w C) (hr : r < 10) (har : (C 75) r = 1) (hfm : rk_fm C fm) {L : Nat} (hL : (C 57 0) = nI L) (hL30 : L ≤ 30) :
    ((∀ post : Int32 → SX → Prop, post 0 (rk_mX C) → wpX_takeMessage post (rk_mX C) (nI r) fm) ∧ (∀ post : Int32 → SY → Prop, post (-1) (rk_mY C) → wY_fetch_74 post (nI r) fm (C 57 0) (C 58 0) (C 8) (C 59) (C 9) (C 10) (C 11) (C 13) (C 60) (C 16) (C 15) (C 61) (C 62) (C 36) (C 38) (C 37) (C 63) (C 64) (C 18) (C 65) (C 66) (C 67) (C 68) (C 39) (C 42) (C 43) (C 40) (C 69) (C 70) (C 49) (C 52) (C 51) (C 53) (C 71) (C 72) (C 54) (C 73) (C 74) (C 56) 1 (nI L))) ∨
    (∃ C', rk_In (N + 1) bs w C' ∧ (∀ post : Int32 → SX → Prop, post 1 (rk_mX C') → wpX_takeMessage post (rk_mX C) (nI r) fm) ∧ (∀ post : Int32 → SY → Prop, post 0 (rk_mY C') → wY_fetch_74 post (nI r) fm (C 57 0) (C 58 0) (C 8) (C 59) (C 9) (C 10) (C 11) (C 13) (C 60) (C 16) (C 15) (C 61) (C 62) (C 36) (C 38) (C 37) (C 63) (C 64) (C 18) (C 65) (C 66) (C 67) (C 68) (C 39) (C 42) (C 43) (C 40) (C 69) (C 70) (C 49) (C 52) (C 51) (C 53) (C 71) (C 72) (C 54) (C 73) (C 74) (C 56) 1 (nI L))) := by
  obtain ⟨v, hv, VX⟩ := rk_xsnd (by omega) h.1 hr hfm
  have h0 := h.1
  obtain ⟨hT, hLv, hB, hM, hR, hW, hA, hQ⟩ := h0
  obtain ⟨v', hv', VY⟩ := rk_ysndL (fm := fm) hT hB hW hr har 10 0 (-1) rfl (Or.inl ⟨rfl, fun t ht => absurd ht (Nat.not_lt_zero t)⟩)
  have e := rk_snd_uni h.1 hv' hv
  subst e
  have lL : (C 57 0) ≤ nI L := by rw [hL]; exact nI_le (Nat.le_refl L) (by omega)
  have VY' : ∀ post : Int32 → Prop, post v' → wpY_firstSender post (rk_mY C) (nI r) fm := fun post K => ⟨_, VY post K⟩
  rcases hv with ⟨e, l⟩ | ⟨s, e, hP, l⟩
  · subst e
    exact Or.inl ⟨fun post K => VX post (br_f rk_m1nle K), fun post K => br_t lL (VY' _ (br_f rk_m1nle K))⟩
  · subst e
    right
    have hS := hP.1
    have hs10 := hS.2.1
    have s2 := hS.2.2.1
    have has := rk_Tie_al hT hs10 (by rw [s2]; decide)
    have is : vp_in (nI s) 10 := rk_in hs10
    have es : (nI s).toNatClampNeg = s := rk_cl (by omega)
    have p0 : (0 : Int32) ≤ nI s := nI_pos' (by omega)
    have hsn : ∃ n, n ≤ 10 ∧ (C 26) r = nI (n + 1) := by
      have c10 := rk_cn_le (rk_sb (C 8) (C 14) (C 12) r) 10
      have z : 0 < rk_cn (rk_sb (C 8) (C 14) (C 12) r) 10 := rk_cn_pos.mpr ⟨s, hs10, (rk_sb_S hr hs10).mpr hS⟩
      refine ⟨rk_cn (rk_sb (C 8) (C 14) (C 12) r) 10 - 1, by omega, ?_⟩
      rw [(hQ r hr).2]
      exact congrArg nI (by omega)
    obtain ⟨pc, hpc, DX⟩ := rk_xdequeue (S := rk_S (C 8) (C 14) (C 12) r) (m := rk_m (C 63)) (fun t z => z.2.1) (rk_S_in hT hM r) hS hr (hQ r hr).1 hsn
    obtain ⟨p, hp, hlp⟩ := (hLv s hs10).1
    have hg := rk_in_g0 (s := r) (e := rk_ep (C 12) s) (x := (C 16) s) h
    obtain ⟨q1, q2⟩ := hW.2.2 s hs10 s2
    have hwt := rk_wait_tg hW hs10 (Or.inl s2)
    have hre : (C 15) s = 0 := (hW.1 s hs10 (Or.inl s2)).2.1
    by_cases c0 : (C 17) s = 0
    · have y0 : (C 64) s = 0 := by rw [← q1]; exact c0
      refine ⟨rk_cfr (rk_deq (rk_cg0 C r (rk_ep (C 12) s) ((C 16) s)) s r pc) s p 0, ⟨rk_co_df (C := rk_cg0 C r (rk_ep (C 12) s) ((C 16) s)) hN hS hp hlp hpc hg.1, hg.2⟩, fun post K => VX post (br_t p0 (DX _ ?_)), fun post K => br_t lL (VY' _ (br_t p0 (rk_yep hB hs10 has (rk_yep hB hr har (And.intro is ?_)))))⟩
      · refine rk_xep (C := rk_deq C s r pc) hs10 (And.intro is ?_)
        rw [es]
        refine rk_xgot0 (C := rk_deq C s r pc) hr (And.intro is ?_)
        refine br_t c0 ?_
        exact rk_xfree (C := rk_cg0 (rk_deq C s r pc) r (rk_ep (C 12) s) ((C 16) s)) hs10 hp hlp (rk_cd_Tl (fun t z => z.2.1) (hR p hp).2.2.2) (rk_tg_of (by omega) hB hwt) (by simp only [rk_mX, rk_mY, rk_sA_s, rk_sA_n, ne_eq, Nat.reduceEqDiff, not_false_eq_true, rk_cfr, rk_lst, rk_frX, rk_app, rk_deq, rk_cg0] at K ⊢; exact K)
      · rw [es]
        refine rk_ygets0 (C := C) hr (And.intro is ?_)
        refine br_t y0 ?_
        exact rk_yready (C := rk_cg0 C r (rk_ep (C 12) s) ((C 16) s)) hs10 (by simp only [rk_mX, rk_mY, rk_sA_s, rk_sA_n, ne_eq, Nat.reduceEqDiff, not_false_eq_true, rk_cfr, rk_lst, rk_frX, rk_app, rk_deq, rk_cg0, rk_rdyY] at K ⊢; exact K)
    · have y0 : ¬ (C 64) s = 0 := by rw [← q1]; exact c0
      have e1 : upd (C 15) s 0 = (C 15) := by rw [← hre, rk_upp]
      have e2 : (C 14) s = rk_ep (C 12) r := hS.2.2.2
      refine ⟨rk_caw (rk_cg0 C r (rk_ep (C 12) s) ((C 16) s)) s r pc, ⟨rk_co_da (C := rk_cg0 C r (rk_ep (C 12) s) ((C 16) s)) hN hS hpc hg.1, hg.2⟩, fun post K => VX post (br_t p0 (DX _ ?_)), fun post K => br_t lL (VY' _ (br_t p0 (rk_yep hB hs10 has (rk_yep hB hr har (And.intro is ?_)))))⟩
      · refine rk_xep (C := rk_deq C s r pc) hs10 (And.intro is ?_)
        rw [es]
        refine rk_xgot0 (C := rk_deq C s r pc) hr (And.intro is ?_)
        exact br_f c0 ⟨is, nm_r (e' := upd (C 17) s 0) (by rw [rk_vt0]; rfl) ⟨is, nm_r (e' := upd (C 8) s 4) (by rw [rk_vb4]; rfl) (by simp only [rk_mX, rk_mY, rk_sA_s, rk_sA_n, ne_eq, Nat.reduceEqDiff, not_false_eq_true, rk_caw, rk_lst, rk_deq, rk_cg0] at K ⊢; exact K)⟩⟩
      · rw [es]
        refine rk_ygets0 (C := C) hr (And.intro is ?_)
        refine br_f y0 ?_
        refine rk_ywaits (C := rk_cg0 C r (rk_ep (C 12) s) ((C 16) s)) hs10 ?_
        simp only [rk_mX, rk_mY, rk_sA_s, rk_sA_n, ne_eq, Nat.reduceEqDiff, not_false_eq_true, rk_caw, rk_lst, rk_deq, rk_cg0, rk_wtsY] at K ⊢
        rw [e1, ← e2]
        exact K
end
end
section
/-! receive -/
def rk_fq (C : rk_ST) (fm fq : Int32) : Prop := (fm = -1 ∧ fq = -1) ∨ (¬ fm = -1 ∧ ¬ fq = -1 ∧ ∀ a, a < 10 → (C 75) a = 1 → (rk_ep (C 12) a = fm ↔ nI a = fq))
section
variable {C : rk_ST} {N : Nat} {s r p k c a : Nat} {x e v how fm fq : Int32} {bs : Nat → Nat} {w : Nat} {Q F A1 A2 : List Nat} {tt : Nat → Nat} {sg : Nat → Int}
theorem rk_ylskip (hB : rk_Bir N (C 75) (C 12) (C 59)) (hX : rk_LX Q tt sg F (C 75) (C 29) (C 30) (C 31) (C 32) (C 33) (C 34) (C 0 0)) (hY : rk_LY Q tt (C 29) (C 35) (C 66) (C 67) (C 68) (C 57 0)) (hr : r < 10) (hfq : rk_fq C fm fq) {post : Int32 → SY → Prop} {n : Nat} :
    ∀ d i, i + d ≤ Q.length → (∀ j c, i ≤ j → j < i + d → Q[j]? = some c → tt c = r → ¬ rk_mt (C 29) fq c) → wY_fetch_74 post (nI r) fm (C 57 0) (C 58 0) (C 8) (C 59) (C 9) (C 10) (C 11) (C 13) (C 60) (C 16) (C 15) (C 61) (C 62) (C 36) (C 38) (C 37) (C 63) (C 64) (C 18) (C 65) (C 66) (C 67) (C 68) (C 39) (C 42) (C 43) (C 40) (C 69) (C 70) (C 49) (C 52) (C 51) (C 53) (C 71) (C 72) (C 54) (C 73) (C 74) (C 56) n (nI (i + d)) → wY_fetch_74 post (nI r) fm (C 57 0) (C 58 0) (C 8) (C 59) (C 9) (C 10) (C 11) (C 13) (C 60) (C 16) (C 15) (C 61) (C 62) (C 36) (C 38) (C 37) (C 63) (C 64) (C 18) (C 65) (C 66) (C 67) (C 68) (C 39) (C 42) (C 43) (C 40) (C 69) (C 70) (C 49) (C 52) (C 51) (C 53) (C 71) (C 72) (C 54) (C 73) (C 74) (C 56) (n + d) (nI i) := by
  have hQ30 : Q.length ≤ 30 := by have := hX.2.2.2.2.2.2.2; omega
  intro d
  induction d with
  | zero => intro i hi hj K; exact K
  | succ d ih =>
    intro i hi hj K
    have hl : i < Q.length := by omega
    have hc : Q[i]? = some Q[i] := List.getElem?_eq_getElem hl
    have ei : (nI i).toNatClampNeg = i := rk_cl (by omega)
    have ii : vp_in (nI i) 30 := rk_in (by omega)
    obtain ⟨y1, y2, y3⟩ := hY.2 i _ hc
    obtain ⟨u1, u2, u3, a, u4, u5, u6⟩ := hX.1 _ (List.mem_of_getElem? hc)
    have nx : wY_fetch_74 post (nI r) fm (C 57 0) (C 58 0) (C 8) (C 59) (C 9) (C 10) (C 11) (C 13) (C 60) (C 16) (C 15) (C 61) (C 62) (C 36) (C 38) (C 37) (C 63) (C 64) (C 18) (C 65) (C 66) (C 67) (C 68) (C 39) (C 42) (C 43) (C 40) (C 69) (C 70) (C 49) (C 52) (C 51) (C 53) (C 71) (C 72) (C 54) (C 73) (C 74) (C 56) (n + d) (nI (i + 1)) := by
      refine ih (i + 1) (by omega) (fun j c z1 z2 => hj j c (by omega) (by omega)) ?_
      rw [show i + 1 + d = i + (d + 1) by omega]
      exact K
    refine br_f (by rw [hY.1]; exact nI_ge hl (by omega)) ⟨ii, ?_⟩
    by_cases ct : tt Q[i] = r
    · have nm := hj i _ (Nat.le_refl i) (by omega) hc ct
      rcases hfq with ⟨_, z⟩ | ⟨z1, z2, z3⟩
      · exact absurd (Or.inl z) nm
      · refine br_t (by rw [ei, y2, ct]) (br_f z1 ⟨ii, ?_⟩)
        rw [ei, y1, u6]
        refine rk_yep hB u4 u5 (br_f (fun q => nm (Or.inr ?_)) (nm_r (nI_1 i) nx))
        rw [u6]
        exact (z3 a u4 u5).mp q
    · refine br_f ?_ (nm_r (nI_1 i) nx)
      rw [ei, y2]
      exact fun q => ct (rk_inj (by omega) (by omega) q)
theorem rk_ch_cd {ln : Nat → Int32} {v : Int32} (hF : ∀ c, c ∈ F → c < 30) (h : rk_Ch ln v F) : rk_cd 30 v := by
  cases F with
  | nil => exact Or.inl h
  | cons d F => exact Or.inr ⟨d, hF d List.mem_cons_self, h.1⟩
/-- the letter part of receive: none, or one that is taken -/
theorem rk_let (h : rk_In N bs w C) (hr : r < 10) (har : (C 75) r = 1) (hfq : rk_fq C fm fq) :
    ((∀ post : Int32 → SX → Prop, post (-1) (rk_mX C) → wpX_takeLetter post (rk_mX C) (nI r) fq) ∧ ∃ L, (C 57 0) = nI L ∧ L ≤ 30 ∧ (∀ post : Int32 → SY → Prop, wY_fetch_74 post (nI r) fm (C 57 0) (C 58 0) (C 8) (C 59) (C 9) (C 10) (C 11) (C 13) (C 60) (C 16) (C 15) (C 61) (C 62) (C 36) (C 38) (C 37) (C 63) (C 64) (C 18) (C 65) (C 66) (C 67) (C 68) (C 39) (C 42) (C 43) (C 40) (C 69) (C 70) (C 49) (C 52) (C 51) (C 53) (C 71) (C 72) (C 54) (C 73) (C 74) (C 56) 1 (nI L) → ∃ n, wY_fetch_74 post (nI r) fm (C 57 0) (C 58 0) (C 8) (C 59) (C 9) (C 10) (C 11) (C 13) (C 60) (C 16) (C 15) (C 61) (C 62) (C 36) (C 38) (C 37) (C 63) (C 64) (C 18) (C 65) (C 66) (C 67) (C 68) (C 39) (C 42) (C 43) (C 40) (C 69) (C 70) (C 49) (C 52) (C 51) (C 53) (C 71) (C 72) (C 54) (C 73) (C 74) (C 56) n 0)) ∨
    (∃ C', rk_In N bs w C' ∧ (∀ (x1 x2 : Int32) (post : Int32 → SX → Prop), post 2 (rk_mX C') → wX_receive_65 post x1 x2 (nI r) fq (nI r) (C 0 0) (C 1 0) (C 2 0) (C 3 0) (C 4 0) (C 5 0) (C 6 0) (C 7 0) (C 8) (C 9) (C 10) (C 11) (C 12) (C 13) (C 14) (C 15) (C 16) (C 17) (C 18) (C 19) (C 20) (C 21) (C 22) (C 23) (C 24) (C 25) (C 26) (C 27) (C 28) (C 29) (C 30) (C 31) (C 32) (C 33) (C 34) (C 35) (C 36) (C 37) (C 38) (C 39) (C 40) (C 41) (C 42) (C 43) (C 44) (C 45) (C 46) (C 47) (C 48) (C 49) (C 50) (C 51) (C 52) (C 53) (C 54) (C 55) (C 56)) ∧ (∀ post : Int32 → SY → Prop, post 2 (rk_mY C') → ∃ n, wY_fetch_74 post (nI r) fm (C 57 0) (C 58 0) (C 8) (C 59) (C 9) (C 10) (C 11) (C 13) (C 60) (C 16) (C 15) (C 61) (C 62) (C 36) (C 38) (C 37) (C 63) (C 64) (C 18) (C 65) (C 66) (C 67) (C 68) (C 39) (C 42) (C 43) (C 40) (C 69) (C 70) (C 49) (C 52) (C 51) (C 53) (C 71) (C 72) (C 54) (C 73) (C 74) (C 56) n 0)) := by
  obtain ⟨h0, ⟨Q, tt, sg, F, hX, hY⟩, h2⟩ := h
  have hB := h0.2.2.1
  have hQ30 : Q.length ≤ 30 := by have := hX.2.2.2.2.2.2.2; omega
  rcases rk_xtake hX hr fq with ⟨no, TX⟩ | ⟨A1, c, A2, pc, ⟨hQ, hc, hm, hA, hpc⟩, TX⟩
  · refine Or.inl ⟨TX, Q.length, hY.1, hQ30, fun post K => ⟨1 + Q.length, ?_⟩⟩
    refine rk_ylskip hB hX hY hr hfq Q.length 0 (by omega) (fun j c _ _ z1 z2 => no c (List.mem_of_getElem? z1) z2) ?_
    rw [Nat.zero_add]
    exact K
  · right
    subst hQ
    have hcQ : c ∈ A1 ++ c :: A2 := List.mem_append_right _ List.mem_cons_self
    have hck : (A1 ++ c :: A2)[A1.length]? = some c := by rw [List.getElem?_append_right (Nat.le_refl _), Nat.sub_self]; rfl
    obtain ⟨u1, u2, u3, a, u4, u5, u6⟩ := hX.1 c hcQ
    obtain ⟨y1, y2, y3⟩ := hY.2 _ c hck
    have hlen : A1.length + A2.length + 1 = (A1 ++ c :: A2).length := by rw [List.length_append, List.length_cons]; omega
    have hyl : (C 57 0) = nI (A1.length + A2.length + 1) := by rw [hlen]; exact hY.1
    have ec : (nI c).toNatClampNeg = c := rk_cl (by omega)
    have ic : vp_in (nI c) 30 := rk_in u1
    have hpo : ∃ n, n ≤ 30 ∧ (C 34) a = nI (n + 1) := by
      have z : 0 < (A1 ++ c :: A2).countP (fun c => (C 29) c == nI a) := List.countP_pos_iff.mpr ⟨c, hcQ, beq_iff_eq.mpr u6⟩
      have y : (A1 ++ c :: A2).countP (fun c => (C 29) c == nI a) ≤ (A1 ++ c :: A2).length := List.countP_le_length
      refine ⟨(A1 ++ c :: A2).countP (fun c => (C 29) c == nI a) - 1, by omega, ?_⟩
      rw [(hX.2.2.2.1 a u4).2.1]
      exact congrArg nI (by omega)
    have hsp : rk_cd 30 (C 0 0) := rk_ch_cd (fun d hd => (hX.2.2.2.2.2.2.1 d hd).1) hX.2.2.2.2.1
    refine ⟨rk_tko (rk_spl (rk_tkl (rk_cg2 C r (rk_ep (C 12) a) ((C 35) c)) c r pc) c a) A1.length (A1.length + A2.length), ?_, fun x1 x2 post K => ?_, fun post K => ?_⟩
    · obtain ⟨g0, g1, g2⟩ := rk_in_g2 (s := r) (e := rk_ep (C 12) a) (x := (C 35) c) (⟨h0, ⟨A1 ++ c :: A2, tt, sg, F, hX, hY⟩, h2⟩ : rk_In N bs w C)
      have hY' := rk_LY_del hY
      rw [hyl, nI_pred] at hY'
      exact ⟨g0, ⟨A1 ++ A2, tt, sg, c :: F, rk_LX_del u4 hc u6 hpc hX, hY'⟩, g2⟩
    · unfold wX_receive_65
      refine TX _ (br_f (nI_pos (by omega)) ⟨ic, ?_⟩)
      have hf' : rk_tkl C c r pc 29 c = nI a := u6
      rw [ec, hf']
      refine rk_xep (C := rk_tkl C c r pc) u4 (And.intro ic ?_)
      refine rk_xgot2 (C := rk_tkl C c r pc) hr ?_
      exact rk_xspare (C := rk_cg2 (rk_tkl C c r pc) r (rk_ep (C 12) a) ((C 35) c)) u1 u4 u6 hpo hsp (by simp only [rk_mX, rk_mY, rk_sA_s, rk_sA_n, ne_eq, Nat.reduceEqDiff, not_false_eq_true, rk_tko, rk_spl, rk_tkl, rk_cg2] at K ⊢; exact K)
    · have ei : (nI A1.length).toNatClampNeg = A1.length := rk_cl (by omega)
      have ii : vp_in (nI A1.length) 30 := rk_in (by omega)
      refine ⟨1 + A1.length, rk_ylskip hB hX hY hr hfq A1.length 0 (by omega) (fun j d _ hj z1 z2 => hA d ?_ z2) ?_⟩
      · rw [List.getElem?_append_left (by omega)] at z1
        exact List.mem_of_getElem? z1
      · rw [Nat.zero_add]
        have fin : wY_fetch_114 post (nI r) (nI A1.length) (C 57 0) (C 58 0) (C 8) (C 59) (C 9) (C 10) (C 11) (C 13) (C 60) (C 16) (C 15) (C 61) (C 62) (C 36) (C 38) (C 37) (C 63) (C 64) (C 18) (C 65) (C 66) (C 67) (C 68) (C 39) (C 42) (C 43) (C 40) (C 69) (C 70) (C 49) (C 52) (C 51) (C 53) (C 71) (C 72) (C 54) (C 73) (C 74) (C 56) := by
          refine And.intro ii ?_
          rw [ei, y1, u6]
          refine rk_yep hB u4 u5 (And.intro ii ?_)
          rw [y3]
          exact rk_ygets2 (C := C) hr (rk_ytakeOut (C := rk_cg2 C r (rk_ep (C 12) a) ((C 35) c)) (by omega) (by omega) hyl (by simp only [rk_mX, rk_mY, rk_sA_s, rk_sA_n, ne_eq, Nat.reduceEqDiff, not_false_eq_true, rk_tko, rk_spl, rk_tkl, rk_cg2] at K ⊢; exact K))
        refine br_f (by rw [hY.1]; exact nI_ge (by omega) (by omega)) ⟨ii, br_t (by rw [ei, y2, hc]) ?_⟩
        rcases hfq with ⟨z1, z2⟩ | ⟨z1, z2, z3⟩
        · exact br_t z1 fin
        · refine br_f z1 ⟨ii, ?_⟩
          rw [ei, y1, u6]
          refine rk_yep hB u4 u5 (br_t ?_ fin)
          refine (z3 a u4 u5).mpr ?_
          rw [← u6]
          exact hm.resolve_left z2
theorem rk_receive (hN : N + 1 ≤ 67108864) (h : rk_In N bs w C) (fr wait : Int32) :
    ∃ r C', rk_In (N + 1) bs w C' ∧ (∀ post : Int32 → SX → Prop, post r (rk_mX C') → wpX_receive post (rk_mX C) fr wait) ∧ (∀ post : Int32 → SY → Prop, post r (rk_mY C') → wpY_receive post (rk_mY C) fr wait) := by
  have hup : rk_In (N + 1) bs w C := rk_In_up (by omega) h
  obtain ⟨v, hv, RX, RY⟩ := rk_runner h.1
  rcases hv with ⟨rfl, _⟩ | ⟨r, hr, rfl, r1, _⟩
  · refine ⟨-1, C, hup, fun post K => ?_, fun post K => ?_⟩
    · unfold wpX_receive
      exact RX _ (br_f rk_m1nle (br_f (by decide) K))
    · unfold wpY_receive
      exact RY _ (br_f rk_m1nle K)
  · have p0 : (0 : Int32) ≤ nI r := nI_pos' (by omega)
    obtain ⟨wv, hw, WX, WY⟩ := rk_wrongA (by omega) h.1 hr fr
    have hw' := hw
    rcases rk_wr_sgn hw with w0 | ⟨w1, w2⟩
    · subst w0
      have h0 := h.1
      obtain ⟨hT, hL, hB, hM, hR, hW, hA, hQ⟩ := h0
      have har := rk_Tie_al hT hr (by rw [r1]; decide)
      have hfm : rk_fm C fr := by
        rcases hw' with z | ⟨_, z | z | z | ⟨_, s, z1, _, z2, z3⟩⟩
        · exact Or.inl z.2
        · exact absurd z (by decide)
        · exact absurd z (by decide)
        · exact absurd z (by decide)
        · exact Or.inr ⟨s, z1, z2, z3⟩
      have hff : ∃ fq, rk_fq C fr fq ∧ (∀ (post : Int32 → SX → Prop), wX_receive_65 post fr wait (nI r) fq (nI r) (C 0 0) (C 1 0) (C 2 0) (C 3 0) (C 4 0) (C 5 0) (C 6 0) (C 7 0) (C 8) (C 9) (C 10) (C 11) (C 12) (C 13) (C 14) (C 15) (C 16) (C 17) (C 18) (C 19) (C 20) (C 21) (C 22) (C 23) (C 24) (C 25) (C 26) (C 27) (C 28) (C 29) (C 30) (C 31) (C 32) (C 33) (C 34) (C 35) (C 36) (C 37) (C 38) (C 39) (C 40) (C 41) (C 42) (C 43) (C 44) (C 45) (C 46) (C 47) (C 48) (C 49) (C 50) (C 51) (C 52) (C 53) (C 54) (C 55) (C 56) → ((fr = -1 → wX_receive_65 post fr wait (nI r) (-1) (nI r) (C 0 0) (C 1 0) (C 2 0) (C 3 0) (C 4 0) (C 5 0) (C 6 0) (C 7 0) (C 8) (C 9) (C 10) (C 11) (C 12) (C 13) (C 14) (C 15) (C 16) (C 17) (C 18) (C 19) (C 20) (C 21) (C 22) (C 23) (C 24) (C 25) (C 26) (C 27) (C 28) (C 29) (C 30) (C 31) (C 32) (C 33) (C 34) (C 35) (C 36) (C 37) (C 38) (C 39) (C 40) (C 41) (C 42) (C 43) (C 44) (C 45) (C 46) (C 47) (C 48) (C 49) (C 50) (C 51) (C 52) (C 53) (C 54) (C 55) (C 56)) ∧ (¬ fr = -1 → wX_receive_65 post fr wait (nI r) (fr &&& 15) (nI r) (C 0 0) (C 1 0) (C 2 0) (C 3 0) (C 4 0) (C 5 0) (C 6 0) (C 7 0) (C 8) (C 9) (C 10) (C 11) (C 12) (C 13) (C 14) (C 15) (C 16) (C 17) (C 18) (C 19) (C 20) (C 21) (C 22) (C 23) (C 24) (C 25) (C 26) (C 27) (C 28) (C 29) (C 30) (C 31) (C 32) (C 33) (C 34) (C 35) (C 36) (C 37) (C 38) (C 39) (C 40) (C 41) (C 42) (C 43) (C 44) (C 45) (C 46) (C 47) (C 48) (C 49) (C 50) (C 51) (C 52) (C 53) (C 54) (C 55) (C 56)))) := by
        by_cases c : fr = -1
        · exact ⟨-1, Or.inl ⟨c, rfl⟩, fun post K => br_t c K⟩
        · rcases hfm with z | ⟨s, z1, z2, z3⟩
          · exact absurd z c
          · have e15 : fr &&& 15 = nI s := by rw [z3]; exact rk_ep_and (by omega) hB z1
            refine ⟨nI s, Or.inr ⟨c, rk_nI_m1 (by omega), fun a q1 q2 => ?_⟩, fun post K => br_f c (by rw [e15]; exact K)⟩
            rw [z3]
            exact ⟨fun y => by rw [rk_ep_inj (by omega) hB q1 z1 y], fun y => by rw [rk_inj (by omega) (by omega) y]⟩
      obtain ⟨fq, hfq, FQ⟩ := hff
      have topX : ∀ post : Int32 → SX → Prop, wX_receive_29 post fr wait (nI r) 0 (C 0 0) (C 1 0) (C 2 0) (C 3 0) (C 4 0) (C 5 0) (C 6 0) (C 7 0) (C 8) (C 9) (C 10) (C 11) (C 12) (C 13) (C 14) (C 15) (C 16) (C 17) (C 18) (C 19) (C 20) (C 21) (C 22) (C 23) (C 24) (C 25) (C 26) (C 27) (C 28) (C 29) (C 30) (C 31) (C 32) (C 33) (C 34) (C 35) (C 36) (C 37) (C 38) (C 39) (C 40) (C 41) (C 42) (C 43) (C 44) (C 45) (C 46) (C 47) (C 48) (C 49) (C 50) (C 51) (C 52) (C 53) (C 54) (C 55) (C 56) → wpX_receive post (rk_mX C) fr wait := by
        intro post K
        unfold wpX_receive
        exact RX _ (br_t p0 (WX (fun z => wX_receive_29 post fr wait (nI r) z (C 0 0) (C 1 0) (C 2 0) (C 3 0) (C 4 0) (C 5 0) (C 6 0) (C 7 0) (C 8) (C 9) (C 10) (C 11) (C 12) (C 13) (C 14) (C 15) (C 16) (C 17) (C 18) (C 19) (C 20) (C 21) (C 22) (C 23) (C 24) (C 25) (C 26) (C 27) (C 28) (C 29) (C 30) (C 31) (C 32) (C 33) (C 34) (C 35) (C 36) (C 37) (C 38) (C 39) (C 40) (C 41) (C 42) (C 43) (C 44) (C 45) (C 46) (C 47) (C 48) (C 49) (C 50) (C 51) (C 52) (C 53) (C 54) (C 55) (C 56)) K))
      have topY : ∀ post : Int32 → SY → Prop, wY_receive_27 post fr wait (nI r) 0 (C 57 0) (C 58 0) (C 8) (C 59) (C 9) (C 10) (C 11) (C 13) (C 60) (C 16) (C 15) (C 61) (C 62) (C 36) (C 38) (C 37) (C 63) (C 64) (C 18) (C 65) (C 66) (C 67) (C 68) (C 39) (C 42) (C 43) (C 40) (C 69) (C 70) (C 49) (C 52) (C 51) (C 53) (C 71) (C 72) (C 54) (C 73) (C 74) (C 56) → wpY_receive post (rk_mY C) fr wait := by
        intro post K
        unfold wpY_receive
        exact RY _ (br_t p0 (WY (fun z => wY_receive_27 post fr wait (nI r) z (C 57 0) (C 58 0) (C 8) (C 59) (C 9) (C 10) (C 11) (C 13) (C 60) (C 16) (C 15) (C 61) (C 62) (C 36) (C 38) (C 37) (C 63) (C 64) (C 18) (C 65) (C 66) (C 67) (C 68) (C 39) (C 42) (C 43) (C 40) (C 69) (C 70) (C 49) (C 52) (C 51) (C 53) (C 71) (C 72) (C 54) (C 73) (C 74) (C 56)) K))
      rcases rk_tnote (by omega) h hr hfm with ⟨NX, NY⟩ | ⟨C', g, NX, NY⟩
      · rcases rk_let h hr har hfq with ⟨LX, L, hL1, hL2, LY⟩ | ⟨C', g, LX, LY⟩
        · rcases rk_msg hN h hr har hfm hL1 hL2 with ⟨MX, MY⟩ | ⟨C', g, MX, MY⟩
          · have midX : ∀ post : Int32 → SX → Prop, ((wait = 0 → post (-6) (rk_mX C)) ∧ (¬ wait = 0 → ((fr = -1 → wX_receive_149 post fr (nI r) (C 0 0) (C 1 0) (C 2 0) (C 3 0) (C 4 0) (C 5 0) (C 6 0) (C 7 0) (C 8) (C 9) (C 10) (C 11) (C 12) (C 13) (C 14) (C 15) (C 16) (C 17) (C 18) (C 19) (C 20) (C 21) (C 22) (C 23) (C 24) (C 25) (C 26) (C 27) (C 28) (C 29) (C 30) (C 31) (C 32) (C 33) (C 34) (C 35) (C 36) (C 37) (C 38) (C 39) (C 40) (C 41) (C 42) (C 43) (C 44) (C 45) (C 46) (C 47) (C 48) (C 49) (C 50) (C 51) (C 52) (C 53) (C 54) (C 55) (C 56)) ∧ (¬ fr = -1 → wpX_stuck (fun q => ((q = 0 → wX_receive_149 post fr (nI r) (C 0 0) (C 1 0) (C 2 0) (C 3 0) (C 4 0) (C 5 0) (C 6 0) (C 7 0) (C 8) (C 9) (C 10) (C 11) (C 12) (C 13) (C 14) (C 15) (C 16) (C 17) (C 18) (C 19) (C 20) (C 21) (C 22) (C 23) (C 24) (C 25) (C 26) (C 27) (C 28) (C 29) (C 30) (C 31) (C 32) (C 33) (C 34) (C 35) (C 36) (C 37) (C 38) (C 39) (C 40) (C 41) (C 42) (C 43) (C 44) (C 45) (C 46) (C 47) (C 48) (C 49) (C 50) (C 51) (C 52) (C 53) (C 54) (C 55) (C 56)) ∧ (¬ q = 0 → post (-5) (rk_mX C)))) (rk_mX C) (fr &&& 15) (nI r))))) → wpX_receive post (rk_mX C) fr wait := by
              intro post K
              refine topX post (br_t rfl (NX _ (br_t rfl (FQ post ?_))))
              unfold wX_receive_65
              exact LX _ (br_t rk_m1lt (MX _ (br_t rfl K)))
            have midY : ∀ post : Int32 → SY → Prop, ((wait = 0 → post (-6) (rk_mY C)) ∧ (¬ wait = 0 → ((fr = -1 → wY_receive_80 post fr (nI r) (C 57 0) (C 58 0) (C 8) (C 59) (C 9) (C 10) (C 11) (C 13) (C 60) (C 16) (C 15) (C 61) (C 62) (C 36) (C 38) (C 37) (C 63) (C 64) (C 18) (C 65) (C 66) (C 67) (C 68) (C 39) (C 42) (C 43) (C 40) (C 69) (C 70) (C 49) (C 52) (C 51) (C 53) (C 71) (C 72) (C 54) (C 73) (C 74) (C 56)) ∧ (¬ fr = -1 → wpY_isStuck (fun q => ((q = 0 → wY_receive_80 post fr (nI r) (C 57 0) (C 58 0) (C 8) (C 59) (C 9) (C 10) (C 11) (C 13) (C 60) (C 16) (C 15) (C 61) (C 62) (C 36) (C 38) (C 37) (C 63) (C 64) (C 18) (C 65) (C 66) (C 67) (C 68) (C 39) (C 42) (C 43) (C 40) (C 69) (C 70) (C 49) (C 52) (C 51) (C 53) (C 71) (C 72) (C 54) (C 73) (C 74) (C 56)) ∧ (¬ q = 0 → post (-5) (rk_mY C)))) (rk_mY C) (fr &&& 15) (nI r))))) → wpY_receive post (rk_mY C) fr wait := by
              intro post K
              exact topY post (br_t (by decide) (NY _ (LY _ (MY _ (br_t rk_m1lt K)))))
            by_cases c0 : wait = 0
            · exact ⟨-6, C, hup, fun post K => midX post (br_t c0 K), fun post K => midY post (br_t c0 K)⟩
            · by_cases c1 : fr = -1
              · obtain ⟨p, g, BX, BY⟩ := rk_in_bk (k := 3) (x := fr) hN hr r1 (Or.inl rfl) (Or.inl ⟨c1, rfl⟩) h
                exact ⟨-2, _, g, fun post K => midX post (br_f c0 (br_t c1 (BX _ K))), fun post K => midY post (br_f c0 (br_t c1 (BY _ K)))⟩
              · rcases hw' with z | ⟨_, z | z | z | ⟨_, s, z1, z2, z3, z4⟩⟩
                · exact absurd z.2 c1
                · exact absurd z (by decide)
                · exact absurd z (by decide)
                · exact absurd z (by decide)
                · have e15 : fr &&& 15 = nI s := by rw [z4]; exact rk_ep_and (by omega) hB z1
                  obtain ⟨q, hq, SX, SY⟩ := rk_stuck (by omega) h.1 z1 hr z2
                  rcases hq with rfl | ⟨rfl, hnr⟩
                  · exact ⟨-5, C, hup, fun post K => midX post (br_f c0 (br_f c1 (by rw [e15]; exact SX _ (br_f (by decide) K)))), fun post K => midY post (br_f c0 (br_f c1 (by rw [e15]; exact SY _ (br_f (by decide) K))))⟩
                  · obtain ⟨p, g, BX, BY⟩ := rk_in_bk (k := 3) (x := fr) hN hr r1 (Or.inl rfl) (Or.inr ⟨s, z1, z2, z3, z4, hnr⟩) h
                    exact ⟨-2, _, g, fun post K => midX post (br_f c0 (br_f c1 (by rw [e15]; exact SX _ (br_t rfl (BX _ K))))), fun post K => midY post (br_f c0 (br_f c1 (by rw [e15]; exact SY _ (br_t rfl (BY _ K)))))⟩
          · refine ⟨0, C', g, fun post K => ?_, fun post K => ?_⟩
            · refine topX post (br_t rfl (NX _ (br_t rfl (FQ post ?_))))
              unfold wX_receive_65
              exact LX _ (br_t rk_m1lt (MX _ (br_f (by decide) K)))
            · exact topY post (br_t (by decide) (NY _ (LY _ (MY _ (br_f (by decide) K)))))
        · refine ⟨2, C', rk_In_up (by omega) g, fun post K => ?_, fun post K => ?_⟩
          · exact topX post (br_t rfl (NX _ (br_t rfl (FQ post (LX fr wait post K)))))
          · exact topY post (br_t (by decide) (NY _ (LY _ (br_f (by decide) K))))
      · refine ⟨1, C', rk_In_up (by omega) g, fun post K => ?_, fun post K => ?_⟩
        · exact topX post (br_t rfl (NX _ (br_f (by decide) K)))
        · exact topY post (br_t (by decide) (NY _ (br_f (by decide) K)))
    · refine ⟨wv, C, hup, fun post K => ?_, fun post K => ?_⟩
      · unfold wpX_receive
        exact RX _ (br_t p0 (WX (fun z => wX_receive_29 post fr wait (nI r) z (C 0 0) (C 1 0) (C 2 0) (C 3 0) (C 4 0) (C 5 0) (C 6 0) (C 7 0) (C 8) (C 9) (C 10) (C 11) (C 12) (C 13) (C 14) (C 15) (C 16) (C 17) (C 18) (C 19) (C 20) (C 21) (C 22) (C 23) (C 24) (C 25) (C 26) (C 27) (C 28) (C 29) (C 30) (C 31) (C 32) (C 33) (C 34) (C 35) (C 36) (C 37) (C 38) (C 39) (C 40) (C 41) (C 42) (C 43) (C 44) (C 45) (C 46) (C 47) (C 48) (C 49) (C 50) (C 51) (C 52) (C 53) (C 54) (C 55) (C 56)) (br_f w1 K)))
      · unfold wpY_receive
        exact RY _ (br_t p0 (WY (fun z => wY_receive_27 post fr wait (nI r) z (C 57 0) (C 58 0) (C 8) (C 59) (C 9) (C 10) (C 11) (C 13) (C 60) (C 16) (C 15) (C 61) (C 62) (C 36) (C 38) (C 37) (C 63) (C 64) (C 18) (C 65) (C 66) (C 67) (C 68) (C 39) (C 42) (C 43) (C 40) (C 69) (C 70) (C 49) (C 52) (C 51) (C 53) (C 71) (C 72) (C 54) (C 73) (C 74) (C 56)) (br_f w2 K)))
end
end
section
/-! births -/
def rk_zr (f : Nat → Int32) (lo hi : Nat) : Nat → Int32 := fun k => if lo ≤ k ∧ k < hi then 0 else f k
def rk_mk0 (C : rk_ST) (s p : Nat) (m : Int32) : rk_ST :=
  rk_sA (rk_sA (rk_sA (rk_sA (rk_sA (rk_sA (rk_sA (rk_sA (rk_sA (rk_sA (rk_sA (rk_sA (rk_sA C 8 (upd (C 8) s 1)) 9 (upd (C 9) s (nI p))) 10 (upd (C 10) s (nI p))) 11 (upd (C 11) s 4)) 13 (upd (C 13) s m)) 14 (upd (C 14) s (rk_ep (C 12) s))) 15 (upd (C 15) s 0)) 36 (upd (C 36) s 0)) 38 (upd (C 38) s 0)) 37 (upd (C 37) s 0)) 45 (upd (C 45) s (C 1 0))) 46 (upd (C 46) s (C 1 0))) 47 (upd (C 47) s (-1))
def rk_mkX (C : rk_ST) (s p : Nat) (m : Int32) : rk_ST := rk_sA (rk_app (rk_sA (rk_mk0 C s p m) 18 (rk_zr (C 18) (16 * s) (16 * s + 16))) s p) 2 (fun _ => (C 2 0) + 1)
def rk_mkY (C : rk_ST) (s p : Nat) (m : Int32) : rk_ST :=
  rk_lst (rk_sA (rk_sA (rk_sA (rk_sA (rk_sA (rk_sA (rk_sA (rk_sA (rk_sA (rk_sA (rk_sA (rk_sA (rk_sA (rk_sA C 59 (upd (C 59) s ((C 59) s + 1))) 9 (upd (C 9) s (nI p))) 10 (upd (C 10) s (nI p))) 13 (upd (C 13) s m)) 11 (upd (C 11) s 4)) 61 (upd (C 61) s 0)) 62 (upd (C 62) s 0)) 36 (upd (C 36) s 0)) 38 (upd (C 38) s 0)) 37 (upd (C 37) s 0)) 18 (rk_zr (C 18) (16 * s) (16 * s + 16))) 74 (upd (C 74) 1 ((C 74) 1 + 1))) 8 (upd (C 8) s 1)) 15 (upd (C 15) s 0)) s
def rk_mkc (C : rk_ST) (s p : Nat) (m : Int32) : rk_ST :=
  rk_lst (rk_sA (rk_sA (rk_sA (rk_sA (rk_sA (rk_mkX C s p m) 59 (upd (C 59) s ((C 59) s + 1))) 61 (upd (C 61) s 0)) 62 (upd (C 62) s 0)) 74 (upd (C 74) 1 ((C 74) 1 + 1))) 75 (upd (C 75) s 1)) s
section
variable {C : rk_ST} {N : Nat} {s r p k c a : Nat} {x e v how fm fq m : Int32} {bs : Nat → Nat} {w : Nat}
theorem rk_zr_0 (f : Nat → Int32) (k : Nat) : rk_zr f k k = f := by
  funext i
  exact if_neg (by omega)
theorem rk_zr_s (f : Nat → Int32) {k j : Nat} (h : k ≤ j) : upd (rk_zr f k j) j 0 = rk_zr f k (j + 1) := by
  funext i
  by_cases e : i = j
  · subst e
    rw [pk_us]
    unfold rk_zr
    rw [if_pos ⟨h, by omega⟩]
  · rw [pk_un e]
    unfold rk_zr
    by_cases z : k ≤ i ∧ i < j
    · rw [if_pos z, if_pos ⟨z.1, by omega⟩]
    · rw [if_neg z, if_neg (by omega)]
/-! the first free slot -/
theorem rk_xfreeL {x1 x2 : Int32} : ∀ d i, i + d = 10 → (∀ j, j < i → (C 8) j ≠ 0) → ∃ s, ((s = 10 ∧ ∀ j, j < 10 → (C 8) j ≠ 0) ∨ (s < 10 ∧ (C 8) s = 0 ∧ ∀ j, j < s → (C 8) j ≠ 0)) ∧ ∀ post : Int32 → SX → Prop, wX_make_23 post x1 x2 (nI s) (C 0 0) (C 1 0) (C 2 0) (C 3 0) (C 4 0) (C 5 0) (C 6 0) (C 7 0) (C 8) (C 9) (C 10) (C 11) (C 12) (C 13) (C 14) (C 15) (C 16) (C 17) (C 18) (C 19) (C 20) (C 21) (C 22) (C 23) (C 24) (C 25) (C 26) (C 27) (C 28) (C 29) (C 30) (C 31) (C 32) (C 33) (C 34) (C 35) (C 36) (C 37) (C 38) (C 39) (C 40) (C 41) (C 42) (C 43) (C 44) (C 45) (C 46) (C 47) (C 48) (C 49) (C 50) (C 51) (C 52) (C 53) (C 54) (C 55) (C 56) → wX_make_2 post x1 x2 (C 0 0) (C 1 0) (C 2 0) (C 3 0) (C 4 0) (C 5 0) (C 6 0) (C 7 0) (C 8) (C 9) (C 10) (C 11) (C 12) (C 13) (C 14) (C 15) (C 16) (C 17) (C 18) (C 19) (C 20) (C 21) (C 22) (C 23) (C 24) (C 25) (C 26) (C 27) (C 28) (C 29) (C 30) (C 31) (C 32) (C 33) (C 34) (C 35) (C 36) (C 37) (C 38) (C 39) (C 40) (C 41) (C 42) (C 43) (C 44) (C 45) (C 46) (C 47) (C 48) (C 49) (C 50) (C 51) (C 52) (C 53) (C 54) (C 55) (C 56) (d + 1) (nI i) := by
  intro d
  induction d with
  | zero =>
    intro i hi h
    have e : i = 10 := by omega
    subst e
    exact ⟨10, Or.inl ⟨rfl, h⟩, fun post K => br_t (nI_le (a := 10) (by omega) (by omega)) K⟩
  | succ d ih =>
    intro i hi h
    have hi10 : i < 10 := by omega
    have ei : (nI i).toNatClampNeg = i := rk_cl (by omega)
    have n10 : ¬ (10 : Int32) ≤ nI i := nI_ge (b := 10) hi10 (by omega)
    by_cases c : (C 8) i = 0
    · exact ⟨i, Or.inr ⟨hi10, c, h⟩, fun post K => br_f n10 ⟨rk_in hi10, br_t (by rw [ei]; exact c) K⟩⟩
    · obtain ⟨s, h1, h2⟩ := ih (i + 1) (by omega) (fun j hj => by
        rcases Nat.lt_or_ge j i with y | y
        · exact h j y
        · have : j = i := by omega
          subst this
          exact c)
      exact ⟨s, h1, fun post K => br_f n10 ⟨rk_in hi10, br_f (by rw [ei]; exact c) (nm_r (nI_1 i) (h2 post K))⟩⟩
theorem rk_yfreeL {s : Nat} (hs : (s = 10 ∧ ∀ j, j < 10 → (C 8) j ≠ 0) ∨ (s < 10 ∧ (C 8) s = 0 ∧ ∀ j, j < s → (C 8) j ≠ 0)) : ∀ d i, i + d = 10 → i ≤ s → ∀ post : Int32 → Prop, post (if s = 10 then -1 else nI s) → wY_free_2 post (C 57 0) (C 58 0) (C 8) (C 59) (C 9) (C 10) (C 11) (C 13) (C 60) (C 16) (C 15) (C 61) (C 62) (C 36) (C 38) (C 37) (C 63) (C 64) (C 18) (C 65) (C 66) (C 67) (C 68) (C 39) (C 42) (C 43) (C 40) (C 69) (C 70) (C 49) (C 52) (C 51) (C 53) (C 71) (C 72) (C 54) (C 73) (C 74) (C 56) (d + 1) (nI i) := by
  intro d
  induction d with
  | zero =>
    intro i hi h post K
    have e : i = 10 := by omega
    subst e
    have es : s = 10 := by omega
    rw [if_pos es] at K
    exact br_t (nI_le (a := 10) (by omega) (by omega)) K
  | succ d ih =>
    intro i hi h post K
    have hi10 : i < 10 := by omega
    have ei : (nI i).toNatClampNeg = i := rk_cl (by omega)
    have n10 : ¬ (10 : Int32) ≤ nI i := nI_ge (b := 10) hi10 (by omega)
    by_cases c : (C 8) i = 0
    · have e : s = i := by
        rcases hs with ⟨_, z⟩ | ⟨z1, z2, z3⟩
        · exact absurd c (z i hi10)
        · rcases Nat.lt_or_ge i s with y | y
          · exact absurd c (z3 i y)
          · omega
      subst e
      rw [if_neg (by omega)] at K
      exact br_f n10 ⟨rk_in hi10, br_t (by rw [ei]; exact c) K⟩
    · have hne : s ≠ i := by
        intro e
        rcases hs with z | z
        · omega
        · rw [e] at z; exact c z.2.1
      exact br_f n10 ⟨rk_in hi10, br_f (by rw [ei]; exact c) (nm_r (nI_1 i) (ih (i + 1) (by omega) (by omega) post K))⟩
theorem rk_xmake140 {post : Int32 → SX → Prop} (hs : s < 10) (hp : p < 4) (hl : (C 10) s = nI p) (hb : rk_cd 10 ((C 22) p)) (K : post (nI s) (rk_mX (rk_sA (rk_app (rk_sA C 18 (rk_zr (C 18) (16 * s) (16 * s + 16))) s p) 2 (fun _ => (C 2 0) + 1)))) :
    ∀ d j, j + d = 16 * s + 16 → 16 * s ≤ j → wX_make_140 post (nI s) (C 0 0) (C 1 0) (C 2 0) (C 3 0) (C 4 0) (C 5 0) (C 6 0) (C 7 0) (d + 1) (nI j) (C 8) (C 9) (C 10) (C 11) (C 12) (C 13) (C 14) (C 15) (C 16) (C 17) (rk_zr (C 18) (16 * s) j) (C 19) (C 20) (C 21) (C 22) (C 23) (C 24) (C 25) (C 26) (C 27) (C 28) (C 29) (C 30) (C 31) (C 32) (C 33) (C 34) (C 35) (C 36) (C 37) (C 38) (C 39) (C 40) (C 41) (C 42) (C 43) (C 44) (C 45) (C 46) (C 47) (C 48) (C 49) (C 50) (C 51) (C 52) (C 53) (C 54) (C 55) (C 56) := by
  have e16 : (16 : Int32) * nI s + 16 = nI (16 * s + 16) := rk_16 s 16
  intro d
  induction d with
  | zero =>
    intro j hj hk
    have e : j = 16 * s + 16 := by omega
    subst e
    refine br_t (by rw [e16]; exact nI_le (Nat.le_refl _) (by omega)) ?_
    exact rk_xappend (C := rk_sA C 18 (rk_zr (C 18) (16 * s) (16 * s + 16))) hs hp hl hb (nm_r (e' := (C 2 0) + 1) rfl K)
  | succ d ih =>
    intro j hj hk
    have ej : (nI j).toNatClampNeg = j := rk_cl (by omega)
    exact br_f (by rw [e16]; exact nI_ge (by omega) (by omega)) ⟨rk_in (by omega), nm_r (e' := rk_zr (C 18) (16 * s) (j + 1)) (by rw [ej, rk_zr_s _ hk]) (nm_r (nI_1 j) (ih (j + 1) (by omega) (by omega)))⟩
theorem rk_xmake23 {post : Int32 → SX → Prop} (hs : s < 10) (hp : p < 4) (hb : rk_cd 10 ((C 22) p)) (K : post (nI s) (rk_mX (rk_mkX C s p m))) : wX_make_23 post (nI p) m (nI s) (C 0 0) (C 1 0) (C 2 0) (C 3 0) (C 4 0) (C 5 0) (C 6 0) (C 7 0) (C 8) (C 9) (C 10) (C 11) (C 12) (C 13) (C 14) (C 15) (C 16) (C 17) (C 18) (C 19) (C 20) (C 21) (C 22) (C 23) (C 24) (C 25) (C 26) (C 27) (C 28) (C 29) (C 30) (C 31) (C 32) (C 33) (C 34) (C 35) (C 36) (C 37) (C 38) (C 39) (C 40) (C 41) (C 42) (C 43) (C 44) (C 45) (C 46) (C 47) (C 48) (C 49) (C 50) (C 51) (C 52) (C 53) (C 54) (C 55) (C 56) := by
  have is : vp_in (nI s) 10 := rk_in hs
  have es : (nI s).toNatClampNeg = s := rk_cl (by omega)
  refine br_f (fun y => ?_) ⟨is, nm_r (e' := upd (C 8) s 1) (by rw [es, rk_vb1]) ⟨is, nm_r (e' := upd (C 9) s (nI p)) (by rw [es, rk_vb8 (by omega)]) ⟨is, nm_r (e' := upd (C 10) s (nI p)) (by rw [es, rk_vb8 (by omega)]) ⟨is, nm_r (e' := upd (C 11) s 4) (by rw [es, rk_vb4]) ⟨is, nm_r (e' := upd (C 13) s m) (by rw [es]) ?_⟩⟩⟩⟩⟩
  · have := rk_inj (b := 10) (by omega) (by omega) y
    omega
  · refine rk_xep (C := rk_sA (rk_sA (rk_sA (rk_sA (rk_sA C 8 (upd (C 8) s 1)) 9 (upd (C 9) s (nI p))) 10 (upd (C 10) s (nI p))) 11 (upd (C 11) s 4)) 13 (upd (C 13) s m)) hs ?_
    refine And.intro is (nm_r (e' := upd (C 14) s (rk_ep (C 12) s)) (by rw [es]; rfl) ⟨is, nm_r (e' := upd (C 15) s 0) (by rw [es]) ⟨is, nm_r (e' := upd (C 36) s 0) (by rw [es]) ⟨is, nm_r (e' := upd (C 38) s 0) (by rw [es, rk_vb0]) ⟨is, nm_r (e' := upd (C 37) s 0) (by rw [es]) ⟨is, nm_r (e' := upd (C 45) s (C 1 0)) (by rw [es]) ⟨is, nm_r (e' := upd (C 46) s (C 1 0)) (by rw [es]) ⟨is, nm_r (e' := upd (C 47) s (-1)) (by rw [es, rk_vbm]) (nm_r (e' := nI (16 * s)) (by rw [show (16 : Int32) = nI 16 from rfl, pk_mul]) ⟨17, ?_⟩)⟩⟩⟩⟩⟩⟩⟩)
    have z := rk_xmake140 (C := rk_mk0 C s p m) (post := post) hs hp (by show upd (C 10) s (nI p) s = nI p; exact pk_us) hb (by simp only [rk_mX, rk_mY, rk_sA_s, rk_sA_n, ne_eq, Nat.reduceEqDiff, not_false_eq_true, rk_mkX, rk_mk0, rk_app] at K ⊢; exact K) 16 (16 * s) (by omega) (Nat.le_refl _)
    rw [rk_zr_0] at z
    exact z
theorem rk_ybegin76 {post : Int32 → SY → Prop} (hs : s < 10) (he : 16 * ((C 59) s - 1) + nI s = rk_ep (C 12) s) (K : post (rk_ep (C 12) s) (rk_mY (rk_rdyY (rk_sA (rk_sA C 18 (rk_zr (C 18) (16 * s) (16 * s + 16))) 74 (upd (C 74) 1 ((C 74) 1 + 1))) s 0))) :
    ∀ d j, j + d = 16 → wY_begin_76 post (nI s) (C 57 0) (C 58 0) (d + 1) (nI j) (C 8) (C 59) (C 9) (C 10) (C 11) (C 13) (C 60) (C 16) (C 15) (C 61) (C 62) (C 36) (C 38) (C 37) (C 63) (C 64) (rk_zr (C 18) (16 * s) (16 * s + j)) (C 65) (C 66) (C 67) (C 68) (C 39) (C 42) (C 43) (C 40) (C 69) (C 70) (C 49) (C 52) (C 51) (C 53) (C 71) (C 72) (C 54) (C 73) (C 74) (C 56) := by
  have is : vp_in (nI s) 10 := rk_in hs
  have es : (nI s).toNatClampNeg = s := rk_cl (by omega)
  intro d
  induction d with
  | zero =>
    intro j hj
    have e : j = 16 := by omega
    subst e
    refine br_t (nI_le (a := 16) (by omega) (by omega)) (nm_r (e' := upd (C 74) 1 ((C 74) 1 + 1)) rfl ?_)
    refine rk_yready (C := rk_sA (rk_sA C 18 (rk_zr (C 18) (16 * s) (16 * s + 16))) 74 (upd (C 74) 1 ((C 74) 1 + 1))) hs ?_
    refine And.intro is ?_
    rw [es]
    have he' : 16 * (rk_rdyY (rk_sA (rk_sA C 18 (rk_zr (C 18) (16 * s) (16 * s + 16))) 74 (upd (C 74) 1 ((C 74) 1 + 1))) s 0 59 s - 1) + nI s = rk_ep (C 12) s := he
    rw [he']
    exact K
  | succ d ih =>
    intro j hj
    have ix : vp_in ((16 : Int32) * nI s + nI j) 160 := by rw [rk_16]; exact rk_in (by omega)
    have ex : ((16 : Int32) * nI s + nI j).toNatClampNeg = 16 * s + j := by rw [rk_16]; exact rk_cl (by omega)
    exact br_f (nI_ge (b := 16) (by omega) (by omega)) ⟨ix, nm_r (e' := rk_zr (C 18) (16 * s) (16 * s + (j + 1))) (by rw [ex, rk_zr_s _ (by omega)]; rfl) (nm_r (nI_1 j) (ih (j + 1) (by omega)))⟩
theorem rk_ybegin {post : Int32 → SY → Prop} (hs : s < 10) (hB : rk_Bir N (C 75) (C 12) (C 59)) (ha : (C 75) s = 0) (K : post (rk_ep (C 12) s) (rk_mY (rk_mkY C s p m))) : wpY_begin post (rk_mY C) (nI s) (nI p) m := by
  have is : vp_in (nI s) 10 := rk_in hs
  have es : (nI s).toNatClampNeg = s := rk_cl (by omega)
  obtain ⟨b, hb, eb, z⟩ := hB s hs
  have yb : (C 59) s = nI b := by
    rcases z with z | z
    · exact z.2
    · rw [ha] at z; exact absurd z.1 (by decide)
  refine And.intro is ⟨is, nm_r (e' := upd (C 59) s ((C 59) s + 1)) (by rw [es]) ⟨is, nm_r (e' := upd (C 9) s (nI p)) (by rw [es]) ⟨is, nm_r (e' := upd (C 10) s (nI p)) (by rw [es]) ⟨is, nm_r (e' := upd (C 13) s m) (by rw [es]) ⟨is, nm_r (e' := upd (C 11) s 4) (by rw [es]) ⟨is, nm_r (e' := upd (C 61) s 0) (by rw [es]) ⟨is, nm_r (e' := upd (C 62) s 0) (by rw [es]) ⟨is, nm_r (e' := upd (C 36) s 0) (by rw [es]) ⟨is, nm_r (e' := upd (C 38) s 0) (by rw [es]) ⟨is, nm_r (e' := upd (C 37) s 0) (by rw [es]) ⟨17, ?_⟩⟩⟩⟩⟩⟩⟩⟩⟩⟩⟩
  have z := rk_ybegin76 (C := rk_sA (rk_sA (rk_sA (rk_sA (rk_sA (rk_sA (rk_sA (rk_sA (rk_sA (rk_sA C 59 (upd (C 59) s ((C 59) s + 1))) 9 (upd (C 9) s (nI p))) 10 (upd (C 10) s (nI p))) 13 (upd (C 13) s m)) 11 (upd (C 11) s 4)) 61 (upd (C 61) s 0)) 62 (upd (C 62) s 0)) 36 (upd (C 36) s 0)) 38 (upd (C 38) s 0)) 37 (upd (C 37) s 0)) (post := post) hs (by
    show 16 * (upd (C 59) s ((C 59) s + 1) s - 1) + nI s = rk_ep (C 12) s
    rw [pk_us, yb, nI_1, nI_pred]
    unfold rk_ep
    rw [eb]) (by simp only [rk_mX, rk_mY, rk_sA_s, rk_sA_n, ne_eq, Nat.reduceEqDiff, not_false_eq_true, rk_mkY, rk_rdyY, rk_lst] at K ⊢; exact K) 16 0 rfl
  rw [show 16 * s + 0 = 16 * s from rfl, rk_zr_0] at z
  exact z
end
end
section
/-! births: the law; birth -/
section
variable {C : rk_ST} {N : Nat} {s r p k c a : Nat} {x e v how fm fq m : Int32} {bs : Nat → Nat} {w : Nat} {Q F : List Nat} {tt : Nat → Nat} {sg : Nat → Int}
theorem rk_LX_al {al al' lf ln f1 f2 lc po : Nat → Int32} {sp : Int32} (hl : ∀ t, al t = 1 → al' t = 1) (h : rk_LX Q tt sg F al lf ln f1 f2 lc po sp) : rk_LX Q tt sg F al' lf ln f1 f2 lc po sp := by
  obtain ⟨h1, h2⟩ := h
  refine ⟨fun c hc => ?_, h2⟩
  obtain ⟨a1, a2, a3, a, a4, a5, a6⟩ := h1 c hc
  exact ⟨a1, a2, hl _ a3, a, a4, hl a a5, a6⟩
theorem rk_To_1 {to : Nat → Int32} {nw pr mg ng lg en co pr' : Int32} (h : rk_To to nw pr mg ng lg en co) : rk_To (upd to 1 pr') nw pr' mg ng lg en co :=
  ⟨(pk_un (j := 0) (k := 1) (by decide)).trans h.1, pk_us, (pk_un (j := 2) (k := 1) (by decide)).trans h.2.2.1, (pk_un (j := 3) (k := 1) (by decide)).trans h.2.2.2.1, (pk_un (j := 4) (k := 1) (by decide)).trans h.2.2.2.2.1, (pk_un (j := 5) (k := 1) (by decide)).trans h.2.2.2.2.2.1, (pk_un (j := 6) (k := 1) (by decide)).trans h.2.2.2.2.2.2⟩
theorem rk_in_mk (hN : N + 1 ≤ 67108864) (hs : s < 10) (hp : p < 4) (h0s : (C 8) s = 0) (h : rk_In N bs w C) : rk_In (N + 1) bs w (rk_mkc C s p m) := by
  obtain ⟨⟨hT, hL, hB, hM, hR, hW, hA, hQ⟩, h1, h2, h3, h4, h5, h6, h7, h8, h9⟩ := h
  have ha := rk_Tie_0 hT hs h0s
  have hal : ∀ t, (C 75) t = 1 → upd (C 75) s 1 t = 1 := by
    intro t z
    by_cases e : t = s
    · rw [e, pk_us]
    · rw [pk_un e]; exact z
  have hne : ∀ t, (C 75) t = 1 → t ≠ s := by
    intro t z e
    rw [e, ha] at z
    exact absurd z (by decide)
  have n1 : (C 8) s ≠ 1 := by rw [h0s]; decide
  have hR' : rk_Ro (C 8) (upd (C 10) s (nI p)) (C 63) (C 19) (C 20) (C 21) (C 22) := by
    have z := rk_Ro_same (s := s) (v := (C 8) s) (x := nI p) (y := (C 63) s) n1 n1 hR
    rw [rk_upp, rk_upp] at z
    exact z
  refine ⟨⟨rk_Tie_new hT, fun t ht => ?_, fun t ht => ?_, rk_Mom_last (al := (C 75)) (by omega) (fun t ht z => ?_) hM, ?_, rk_Wt_new hal h0s (fun t ht => pk_un ht) (fun t ht => pk_un ht) hW, ?_, ?_⟩, ?_, ?_, fun t ht => ?_, fun j hj q hq => ?_, ⟨fun j hj => ?_, fun q hq z => ?_⟩, h6, h7, ?_, h9⟩
  · show (∃ q, q < 4 ∧ upd (C 10) s (nI p) t = nI q) ∧ (∃ q, q < 4 ∧ upd (C 9) s (nI p) t = nI q) ∧ (∃ q, q ≤ 4 ∧ upd (C 11) s 4 t = nI q)
    by_cases e : t = s
    · subst e
      rw [pk_us, pk_us, pk_us]
      exact ⟨⟨p, hp, rfl⟩, ⟨p, hp, rfl⟩, ⟨4, by omega, rfl⟩⟩
    · rw [pk_un e, pk_un e, pk_un e]
      exact hL t ht
  · show ∃ b, b ≤ N + 1 ∧ (C 12) t = nI b ∧ ((upd (C 75) s 1 t = 0 ∧ upd (C 59) s ((C 59) s + 1) t = nI b) ∨ (upd (C 75) s 1 t = 1 ∧ upd (C 59) s ((C 59) s + 1) t = nI (b + 1)))
    obtain ⟨b, b1, b2, b3⟩ := hB t ht
    refine ⟨b, by omega, b2, ?_⟩
    by_cases e : t = s
    · subst e
      rw [pk_us, pk_us]
      rcases b3 with z | z
      · rw [z.2, nI_1]
        exact Or.inr ⟨rfl, rfl⟩
      · rw [ha] at z
        exact absurd z.1 (by decide)
    · rw [pk_un e, pk_un e]
      exact b3
  · have z' : upd (C 75) s 1 t = 1 := z
    rw [pk_un ht] at z'
    exact z'
  · exact rk_Ro_rdy (lv := upd (C 10) s (nI p)) (by omega) hT hM hs hp pk_us n1 hR'
  · refine rk_Ac_mono (fun r t z => ?_) hA
    have e : t ≠ s := fun e => rk_wg_1 (e ▸ z.2.2.1)
    have y : upd (C 14) s (rk_ep (C 12) s) t = rk_ep (C 12) r := z.2.2.2
    rw [pk_un e] at y
    exact ⟨z.1, z.2.1, (rk_wg_ne e).mp z.2.2.1, y⟩
  · refine rk_Qu_same (fun r t => ?_) (fun r t z => ?_) hQ
    · show rk_S (upd (C 8) s 1) (upd (C 14) s (rk_ep (C 12) s)) (C 12) r t ↔ rk_S (C 8) (C 14) (C 12) r t
      unfold rk_S
      by_cases e : t = s
      · subst e
        rw [pk_us, h0s]
        exact ⟨fun z => absurd z.2.2.1 (by decide), fun z => absurd z.2.2.1 (by decide)⟩
      · rw [pk_un e, pk_un e]
    · refine rk_m_ne (fun e => ?_)
      have y := z.2.2.1
      rw [e, h0s] at y
      exact absurd y (by decide)
  · obtain ⟨Q, tt, sg, F, hX, hY⟩ := h1
    exact ⟨Q, tt, sg, F, rk_LX_al hal hX, hY⟩
  · exact ⟨h2.1, h2.2.1, fun r hr k hk z => hal k (h2.2.2 r hr k hk z)⟩
  · show (upd (C 75) s 1 t = 0 ∧ (C 44) t = 0) ∨ (upd (C 75) s 1 t = 1 ∧ (((C 44) t = 0 ∧ upd (C 61) s 0 t = 0) ∨ ∃ a, 1 ≤ a ∧ a ≤ 100 ∧ upd (C 61) s 0 t = nI a ∧ (C 44) t = nI (bs t + a)))
    by_cases e : t = s
    · subst e
      rw [pk_us, pk_us]
      refine Or.inr ⟨rfl, Or.inl ⟨?_, rfl⟩⟩
      rcases h3 t ht with z | z
      · exact z.2
      · rw [ha] at z
        exact absurd z.1 (by decide)
    · rw [pk_un e, pk_un e]
      exact h3 t ht
  · show bt ((C 55) j) q = (decide (upd (C 75) s 1 q = 1) && bt (upd (C 62) s 0 q) j)
    rw [h4 j hj q hq]
    by_cases e : q = s
    · subst e
      rw [pk_us, pk_us, ha, b_0, Bool.and_false]
      rfl
    · rw [pk_un e, pk_un e]
  · show rk_Sk (upd (C 75) s 1) (C 12) (C 48) (C 50) (C 70) (upd (C 47) s (-1)) (upd (C 46) s (C 1 0)) (upd (C 45) s (C 1 0)) (C 71) (C 72) (C 73) j
    rcases h5.1 j hj with y | y | ⟨y0, y0', q, y1, y2, y3, y4, y5, y6, y7⟩
    · exact Or.inl y
    · exact Or.inr (Or.inl y)
    · have hq := hne q y3
      refine Or.inr (Or.inr ⟨y0, y0', q, y1, y2, hal q y3, ?_, y5, ?_, ?_⟩)
      · rw [pk_un hq]; exact y4
      · rw [pk_un hq]; exact y6
      · rw [pk_un hq]; exact y7
  · show upd (C 47) s (-1) q = -1 ∨ ∃ k, k < 3 ∧ upd (C 47) s (-1) q = nI k ∧ (C 50) k = nI q
    by_cases e : q = s
    · subst e
      exact Or.inl pk_us
    · have z' : upd (C 75) s 1 q = 1 := z
      rw [pk_un e] at z' ⊢
      exact h5.2 q hq z'
  · have z := rk_To_1 (pr' := (C 74) 1 + 1) h8
    rw [show (C 74) 1 + 1 = (C 2 0) + 1 by rw [h8.2.1]] at z
    show rk_To (upd (C 74) 1 ((C 74) 1 + 1)) (C 1 0) ((C 2 0) + 1) (C 3 0) (C 4 0) (C 5 0) (C 6 0) (C 7 0)
    rw [show (C 74) 1 + 1 = (C 2 0) + 1 by rw [h8.2.1]]
    exact z
/-- make and free: no slot is free, or the first one -/
theorem rk_make (hN : N + 1 ≤ 67108864) (h : rk_In N bs w C) (hp : p < 4) (m : Int32) :
    ((∀ post : Int32 → SX → Prop, post (-1) (rk_mX C) → wpX_make post (rk_mX C) (nI p) m) ∧ (∀ post : Int32 → Prop, post (-1) → wpY_free post (rk_mY C))) ∨
    (∃ s, s < 10 ∧ (C 8) s = 0 ∧ (C 75) s = 0 ∧ rk_In (N + 1) bs w (rk_mkc C s p m) ∧ (∀ post : Int32 → SX → Prop, post (nI s) (rk_mX (rk_mkX C s p m)) → wpX_make post (rk_mX C) (nI p) m) ∧ (∀ post : Int32 → Prop, post (nI s) → wpY_free post (rk_mY C))) := by
  obtain ⟨s, hs, X⟩ := rk_xfreeL (C := C) (x1 := nI p) (x2 := m) 10 0 rfl (fun j hj => absurd hj (Nat.not_lt_zero j))
  have Y := rk_yfreeL (C := C) hs 10 0 rfl (Nat.zero_le s)
  rcases hs with ⟨rfl, _⟩ | ⟨h1, h2, _⟩
  · exact Or.inl ⟨fun post K => ⟨_, X post (br_t rfl K)⟩, fun post K => ⟨_, Y post (by rw [if_pos rfl]; exact K)⟩⟩
  · refine Or.inr ⟨s, h1, h2, rk_Tie_0 h.1.1 h1 h2, rk_in_mk hN h1 hp h2 h, fun post K => ⟨_, X post (rk_xmake23 h1 hp ?_ K)⟩, fun post K => ⟨_, Y post (by rw [if_neg (by omega)]; exact K)⟩⟩
    exact rk_cd_Tl (fun t z => z.2.1) (h.1.2.2.2.2.1 p hp).2.2.2
theorem rk_birth (hN : N + 1 ≤ 67108864) (h : rk_In N bs w C) (v1 v2 : Int32) :
    ∃ r C', rk_In (N + 1) bs w C' ∧ (∀ post : Int32 → SX → Prop, post r (rk_mX C') → wpX_birth post (rk_mX C) v1 v2) ∧ (∀ post : Int32 → SY → Prop, post r (rk_mY C') → wpY_birth post (rk_mY C) v1 v2) := by
  have hup : rk_In (N + 1) bs w C := rk_In_up (by omega) h
  rcases rk_rng v1 0 3 with z | ⟨z1, z2⟩
  · refine ⟨-1, C, hup, fun post K => ?_, fun post K => ?_⟩
    · unfold wpX_birth
      exact rk_xout1 z (br_f (by decide) K)
    · unfold wpY_birth
      exact rk_yin0 z (br_t rfl K)
  · rcases rk_rng v2 0 1023 with y | ⟨y1, y2⟩
    · refine ⟨-1, C, hup, fun post K => ?_, fun post K => ?_⟩
      · unfold wpX_birth
        exact rk_xout0 z1 z2 (br_t rfl (rk_xout1 y (br_f (by decide) K)))
      · unfold wpY_birth
        exact rk_yin1 z1 z2 (br_f (by decide) (rk_yin0 y (br_t rfl K)))
    · obtain ⟨p, hp, rfl⟩ := nI_of2 (n := 3) (by decide) z1 z2
      rcases rk_make hN h (p := p) (by omega) v2 with ⟨MX, MY⟩ | ⟨s, hs, h0s, has, g, MX, MY⟩
      · refine ⟨-7, C, hup, fun post K => ?_, fun post K => ?_⟩
        · unfold wpX_birth
          exact rk_xout0 z1 z2 (br_t rfl (rk_xout0 y1 y2 (br_t rfl (MX _ (br_f rk_m1nle K)))))
        · unfold wpY_birth
          exact rk_yin1 z1 z2 (br_f (by decide) (rk_yin1 y1 y2 (br_f (by decide) (MY _ (br_f rk_m1nle K)))))
      · have p0 : (0 : Int32) ≤ nI s := nI_pos' (by omega)
        refine ⟨rk_ep (C 12) s, rk_mkc C s p v2, g, fun post K => ?_, fun post K => ?_⟩
        · unfold wpX_birth
          exact rk_xout0 z1 z2 (br_t rfl (rk_xout0 y1 y2 (br_t rfl (MX _ (br_t p0 (rk_xep (C := rk_mkX C s p v2) hs (by simp only [rk_mX, rk_mY, rk_sA_s, rk_sA_n, ne_eq, Nat.reduceEqDiff, not_false_eq_true, rk_mkc, rk_lst, rk_mkX, rk_app, rk_mk0] at K ⊢; exact K)))))))
        · unfold wpY_birth
          exact rk_yin1 z1 z2 (br_f (by decide) (rk_yin1 y1 y2 (br_f (by decide) (MY _ (br_t p0 (rk_ybegin hs h.1.2.2.1 has (by simp only [rk_mX, rk_mY, rk_sA_s, rk_sA_n, ne_eq, Nat.reduceEqDiff, not_false_eq_true, rk_mkc, rk_lst, rk_mkX, rk_app, rk_mk0, rk_mkY] at K ⊢; exact K)))))))
end
end
section
/-! an end: all letters to it and from it go -/
def rk_le (C : rk_ST) (ln f1 f2 lc po : Nat → Int32) (sp : Int32) : rk_ST := rk_sA (rk_sA (rk_sA (rk_sA (rk_sA (rk_sA C 30 ln) 31 f1) 32 f2) 33 lc) 34 po) 0 (fun _ => sp)
def rk_ly (C : rk_ST) (yf yt yx : Nat → Int32) (yl : Int32) : rk_ST := rk_sA (rk_sA (rk_sA (rk_sA C 66 yf) 67 yt) 68 yx) 57 (fun _ => yl)
def rk_gd (tt : Nat → Nat) (lf : Nat → Int32) (s : Nat) (c : Nat) : Bool := !(tt c == s) && !(lf c == nI s)
/-- Q' is Q but for some bad ones -/
def rk_sb2 (tt : Nat → Nat) (lf : Nat → Int32) (s : Nat) (Q Q' : List Nat) : Prop := ∃ P : Nat → Bool, Q' = Q.filter P ∧ ∀ c, c ∈ Q → rk_gd tt lf s c = true → P c = true
section
variable {C : rk_ST} {N : Nat} {s r p k c a : Nat} {x e v how fm fq m : Int32} {bs : Nat → Nat} {w : Nat} {Q Q' F A1 A2 : List Nat} {tt : Nat → Nat} {sg : Nat → Int}
theorem rk_gd_iff {lf : Nat → Int32} : rk_gd tt lf s c = true ↔ tt c ≠ s ∧ lf c ≠ nI s := by
  unfold rk_gd
  rw [Bool.and_eq_true, Bool.not_eq_true', Bool.not_eq_true', beq_eq_false_iff_ne, beq_eq_false_iff_ne]
theorem rk_sb2_0 {lf : Nat → Int32} : rk_sb2 tt lf s Q Q := ⟨fun _ => true, by rw [List.filter_eq_self.mpr (fun _ _ => rfl)], fun _ _ _ => rfl⟩
theorem rk_sb2_del {lf : Nat → Int32} (nd : (A1 ++ c :: A2).Nodup) (hb : ¬ rk_gd tt lf s c = true) (h : rk_sb2 tt lf s Q (A1 ++ c :: A2)) : rk_sb2 tt lf s Q (A1 ++ A2) := by
  obtain ⟨P, h1, h2⟩ := h
  refine ⟨fun x => P x && !(x == c), ?_, fun x hx hg => ?_⟩
  · have z := rk_nd_mid nd
    have e : (A1 ++ c :: A2).filter (fun x => !(x == c)) = A1 ++ A2 := by
      rw [List.filter_append, List.filter_cons_of_neg (by simp)]
      rw [List.filter_eq_self.mpr (fun x hx => ?_), List.filter_eq_self.mpr (fun x hx => ?_)]
      · rw [Bool.not_eq_true', beq_eq_false_iff_ne]
        exact fun q => z.2 (q ▸ hx)
      · rw [Bool.not_eq_true', beq_eq_false_iff_ne]
        exact fun q => z.1 (q ▸ hx)
    rw [← e, h1, List.filter_filter]
    exact List.filter_congr (fun x _ => Bool.and_comm _ _)
  · rw [Bool.and_eq_true, Bool.not_eq_true', beq_eq_false_iff_ne]
    exact ⟨h2 x hx hg, fun q => hb (q ▸ hg)⟩
theorem rk_sb2_fin {lf : Nat → Int32} (h : rk_sb2 tt lf s Q Q') (hg : ∀ c, c ∈ Q' → rk_gd tt lf s c = true) : Q' = Q.filter (rk_gd tt lf s) := by
  obtain ⟨P, h1, h2⟩ := h
  rw [h1]
  refine List.filter_congr (fun x hx => ?_)
  rw [Bool.eq_iff_iff]
  exact ⟨fun z => hg x (by rw [h1]; exact List.mem_filter.mpr ⟨hx, z⟩), fun z => h2 x hx z⟩
/-- X's cells after: what holds of the arrays -/
def rk_LL (C : rk_ST) (tt : Nat → Nat) (sg : Nat → Int) (Q F : List Nat) (ln f1 f2 lc po : Nat → Int32) (sp : Int32) : Prop := rk_LX Q tt sg F (C 75) (C 29) ln f1 f2 lc po sp
/-- take a letter out and spare its cell -/
theorem rk_xts {ln f1 f2 lc po : Nat → Int32} {sp pc : Int32} (h : rk_LL C tt sg (A1 ++ c :: A2) F ln f1 f2 lc po sp) (hpc : rk_Pv (rk_T (A1 ++ c :: A2) tt r) sg c pc) (hr : tt c = r) :
    ∃ a, a < 10 ∧ (C 29) c = nI a ∧ rk_LL C tt sg (A1 ++ A2) (c :: F) (upd (rk_dB ln pc c) c sp) (rk_dF f1 ln pc r c) (rk_dL f2 pc r c) (upd lc r (lc r - 1)) (upd po a (po a - 1)) (nI c) ∧
      ∀ post : SX → Prop, post (rk_mX (rk_spl (rk_tkl (rk_le C ln f1 f2 lc po sp) c r pc) c a)) → wpX_spareLetter post (rk_mX (rk_tkl (rk_le C ln f1 f2 lc po sp) c r pc)) (nI c) := by
  have hcQ : c ∈ A1 ++ c :: A2 := List.mem_append_right _ List.mem_cons_self
  obtain ⟨u1, u2, u3, a, u4, u5, u6⟩ := h.1 c hcQ
  have hQ30 : (A1 ++ c :: A2).length ≤ 30 := by have := h.2.2.2.2.2.2.2; omega
  have hpo : ∃ n, n ≤ 30 ∧ po a = nI (n + 1) := by
    have z : 0 < (A1 ++ c :: A2).countP (fun c => (C 29) c == nI a) := List.countP_pos_iff.mpr ⟨c, hcQ, beq_iff_eq.mpr u6⟩
    have y : (A1 ++ c :: A2).countP (fun c => (C 29) c == nI a) ≤ (A1 ++ c :: A2).length := List.countP_le_length
    refine ⟨(A1 ++ c :: A2).countP (fun c => (C 29) c == nI a) - 1, by omega, ?_⟩
    rw [(h.2.2.2.1 a u4).2.1]
    exact congrArg nI (by omega)
  have hsp : rk_cd 30 sp := rk_ch_cd (fun d hd => (h.2.2.2.2.2.2.1 d hd).1) h.2.2.2.2.1
  exact ⟨a, u4, u6, rk_LX_del u4 hr u6 hpc h, fun post K => rk_xspare (C := rk_tkl (rk_le C ln f1 f2 lc po sp) c r pc) u1 u4 u6 hpo hsp K⟩
/-- the inner loop: all from s to q go -/
theorem rk_xf48 (hs : s < 10) (hq : r < 10) : ∀ (n : Nat) (Q' F : List Nat) (ln f1 f2 lc po : Nat → Int32) (sp : Int32) (A1 : List Nat) (c : Nat) (A2 : List Nat) (pc : Int32), Q'.length ≤ n → rk_LL C tt sg Q' F ln f1 f2 lc po sp → rk_sb2 tt (C 29) s Q Q' → (∀ x, x ∈ Q' → tt x < r → (C 29) x ≠ nI s) → (∀ x, x ∈ Q' → tt x ≠ s) → rk_fnd Q' tt sg (C 29) r (nI s) A1 c A2 pc →
    ∃ (Q2 F2 : List Nat) (ln2 f12 f22 lc2 po2 : Nat → Int32) (sp2 : Int32), rk_LL C tt sg Q2 F2 ln2 f12 f22 lc2 po2 sp2 ∧ rk_sb2 tt (C 29) s Q Q2 ∧ (∀ x, x ∈ Q2 → tt x < r + 1 → (C 29) x ≠ nI s) ∧ (∀ x, x ∈ Q2 → tt x ≠ s) ∧
      ∀ (post : SX → Prop) (J : Int32 → Int32 → Int32 → Int32 → Int32 → Int32 → Int32 → Int32 → Int32 → (Nat → Int32) → (Nat → Int32) → (Nat → Int32) → (Nat → Int32) → (Nat → Int32) → (Nat → Int32) → (Nat → Int32) → (Nat → Int32) → (Nat → Int32) → (Nat → Int32) → (Nat → Int32) → (Nat → Int32) → (Nat → Int32) → (Nat → Int32) → (Nat → Int32) → (Nat → Int32) → (Nat → Int32) → (Nat → Int32) → (Nat → Int32) → (Nat → Int32) → (Nat → Int32) → (Nat → Int32) → (Nat → Int32) → (Nat → Int32) → (Nat → Int32) → (Nat → Int32) → (Nat → Int32) → (Nat → Int32) → (Nat → Int32) → (Nat → Int32) → (Nat → Int32) → (Nat → Int32) → (Nat → Int32) → (Nat → Int32) → (Nat → Int32) → (Nat → Int32) → (Nat → Int32) → (Nat → Int32) → (Nat → Int32) → (Nat → Int32) → (Nat → Int32) → (Nat → Int32) → (Nat → Int32) → (Nat → Int32) → (Nat → Int32) → (Nat → Int32) → (Nat → Int32) → (Nat → Int32) → (Nat → Int32) → Prop),
        J (nI (r + 1)) (sp2) (C 1 0) (C 2 0) (C 3 0) (C 4 0) (C 5 0) (C 6 0) (C 7 0) (C 8) (C 9) (C 10) (C 11) (C 12) (C 13) (C 14) (C 15) (C 16) (C 17) (C 18) (C 19) (C 20) (C 21) (C 22) (C 23) (C 24) (C 25) (C 26) (C 27) (C 28) (C 29) (ln2) (f12) (f22) (lc2) (po2) (C 35) (C 36) (C 37) (C 38) (C 39) (C 40) (C 41) (C 42) (C 43) (C 44) (C 45) (C 46) (C 47) (C 48) (C 49) (C 50) (C 51) (C 52) (C 53) (C 54) (C 55) (C 56) → wX_forgetLetters_48 post J (nI s) (nI r) (n + 1) (nI c) ((rk_tkl (rk_le C ln f1 f2 lc po sp) c r pc) 0 0) ((rk_tkl (rk_le C ln f1 f2 lc po sp) c r pc) 1 0) ((rk_tkl (rk_le C ln f1 f2 lc po sp) c r pc) 2 0) ((rk_tkl (rk_le C ln f1 f2 lc po sp) c r pc) 3 0) ((rk_tkl (rk_le C ln f1 f2 lc po sp) c r pc) 4 0) ((rk_tkl (rk_le C ln f1 f2 lc po sp) c r pc) 5 0) ((rk_tkl (rk_le C ln f1 f2 lc po sp) c r pc) 6 0) ((rk_tkl (rk_le C ln f1 f2 lc po sp) c r pc) 7 0) ((rk_tkl (rk_le C ln f1 f2 lc po sp) c r pc) 8) ((rk_tkl (rk_le C ln f1 f2 lc po sp) c r pc) 9) ((rk_tkl (rk_le C ln f1 f2 lc po sp) c r pc) 10) ((rk_tkl (rk_le C ln f1 f2 lc po sp) c r pc) 11) ((rk_tkl (rk_le C ln f1 f2 lc po sp) c r pc) 12) ((rk_tkl (rk_le C ln f1 f2 lc po sp) c r pc) 13) ((rk_tkl (rk_le C ln f1 f2 lc po sp) c r pc) 14) ((rk_tkl (rk_le C ln f1 f2 lc po sp) c r pc) 15) ((rk_tkl (rk_le C ln f1 f2 lc po sp) c r pc) 16) ((rk_tkl (rk_le C ln f1 f2 lc po sp) c r pc) 17) ((rk_tkl (rk_le C ln f1 f2 lc po sp) c r pc) 18) ((rk_tkl (rk_le C ln f1 f2 lc po sp) c r pc) 19) ((rk_tkl (rk_le C ln f1 f2 lc po sp) c r pc) 20) ((rk_tkl (rk_le C ln f1 f2 lc po sp) c r pc) 21) ((rk_tkl (rk_le C ln f1 f2 lc po sp) c r pc) 22) ((rk_tkl (rk_le C ln f1 f2 lc po sp) c r pc) 23) ((rk_tkl (rk_le C ln f1 f2 lc po sp) c r pc) 24) ((rk_tkl (rk_le C ln f1 f2 lc po sp) c r pc) 25) ((rk_tkl (rk_le C ln f1 f2 lc po sp) c r pc) 26) ((rk_tkl (rk_le C ln f1 f2 lc po sp) c r pc) 27) ((rk_tkl (rk_le C ln f1 f2 lc po sp) c r pc) 28) ((rk_tkl (rk_le C ln f1 f2 lc po sp) c r pc) 29) ((rk_tkl (rk_le C ln f1 f2 lc po sp) c r pc) 30) ((rk_tkl (rk_le C ln f1 f2 lc po sp) c r pc) 31) ((rk_tkl (rk_le C ln f1 f2 lc po sp) c r pc) 32) ((rk_tkl (rk_le C ln f1 f2 lc po sp) c r pc) 33) ((rk_tkl (rk_le C ln f1 f2 lc po sp) c r pc) 34) ((rk_tkl (rk_le C ln f1 f2 lc po sp) c r pc) 35) ((rk_tkl (rk_le C ln f1 f2 lc po sp) c r pc) 36) ((rk_tkl (rk_le C ln f1 f2 lc po sp) c r pc) 37) ((rk_tkl (rk_le C ln f1 f2 lc po sp) c r pc) 38) ((rk_tkl (rk_le C ln f1 f2 lc po sp) c r pc) 39) ((rk_tkl (rk_le C ln f1 f2 lc po sp) c r pc) 40) ((rk_tkl (rk_le C ln f1 f2 lc po sp) c r pc) 41) ((rk_tkl (rk_le C ln f1 f2 lc po sp) c r pc) 42) ((rk_tkl (rk_le C ln f1 f2 lc po sp) c r pc) 43) ((rk_tkl (rk_le C ln f1 f2 lc po sp) c r pc) 44) ((rk_tkl (rk_le C ln f1 f2 lc po sp) c r pc) 45) ((rk_tkl (rk_le C ln f1 f2 lc po sp) c r pc) 46) ((rk_tkl (rk_le C ln f1 f2 lc po sp) c r pc) 47) ((rk_tkl (rk_le C ln f1 f2 lc po sp) c r pc) 48) ((rk_tkl (rk_le C ln f1 f2 lc po sp) c r pc) 49) ((rk_tkl (rk_le C ln f1 f2 lc po sp) c r pc) 50) ((rk_tkl (rk_le C ln f1 f2 lc po sp) c r pc) 51) ((rk_tkl (rk_le C ln f1 f2 lc po sp) c r pc) 52) ((rk_tkl (rk_le C ln f1 f2 lc po sp) c r pc) 53) ((rk_tkl (rk_le C ln f1 f2 lc po sp) c r pc) 54) ((rk_tkl (rk_le C ln f1 f2 lc po sp) c r pc) 55) ((rk_tkl (rk_le C ln f1 f2 lc po sp) c r pc) 56) := by
  intro n
  induction n with
  | zero =>
    intro Q' F ln f1 f2 lc po sp A1 c A2 pc hl hLL hsb hlo hns hf
    rw [hf.1, List.length_append, List.length_cons] at hl
    omega
  | succ n ih =>
    intro Q' F ln f1 f2 lc po sp A1 c A2 pc hl hLL hsb hlo hns hf
    obtain ⟨f1e, f2e, f3, f4, f5⟩ := hf
    subst f1e
    have hcQ : c ∈ A1 ++ c :: A2 := List.mem_append_right _ List.mem_cons_self
    have hc30 := (hLL.1 c hcQ).1
    have n0 : ¬ nI c < 0 := nI_pos (by omega)
    have hbad : ¬ rk_gd tt (C 29) s c = true := by
      rw [rk_gd_iff]
      intro z
      rcases f3 with y | y
      · exact rk_nI_m1 (by omega) y
      · exact z.2 y
    obtain ⟨a, ha, hfa, hLL1, SX⟩ := rk_xts hLL f5 f2e
    have hsb1 := rk_sb2_del (rk_sg_nd hLL.2.1) hbad hsb
    have sub : ∀ x, x ∈ A1 ++ A2 → x ∈ A1 ++ c :: A2 := by
      intro x hx
      rcases List.mem_append.mp hx with z | z
      · exact List.mem_append_left _ z
      · exact List.mem_append_right _ (List.mem_cons_of_mem c z)
    have hlen : (A1 ++ A2).length ≤ n := by
      rw [List.length_append, List.length_cons] at hl
      rw [List.length_append]
      omega
    have e1 : rk_mX (rk_spl (rk_tkl (rk_le C ln f1 f2 lc po sp) c r pc) c a) = rk_mX (rk_le C (upd (rk_dB ln pc c) c sp) (rk_dF f1 ln pc r c) (rk_dL f2 pc r c) (upd lc r (lc r - 1)) (upd po a (po a - 1)) (nI c)) := by
      simp only [rk_mX, rk_sA_s, rk_sA_n, ne_eq, Nat.reduceEqDiff, not_false_eq_true, rk_spl, rk_tkl, rk_le]
    rcases rk_xtake (C := rk_le C (upd (rk_dB ln pc c) c sp) (rk_dF f1 ln pc r c) (rk_dL f2 pc r c) (upd lc r (lc r - 1)) (upd po a (po a - 1)) (nI c)) hLL1 hq (nI s) with ⟨no, TX⟩ | ⟨B1, d, B2, pd, fd, TX⟩
    · refine ⟨A1 ++ A2, c :: F, _, _, _, _, _, _, hLL1, hsb1, fun x hx hlt => ?_, fun x hx => hns x (sub x hx), fun post J K => ?_⟩
      · rcases Nat.lt_or_ge (tt x) r with z | z
        · exact hlo x (sub x hx) z
        · exact fun y => no x hx (by omega) (Or.inr y)
      · refine br_f n0 (SX _ ?_)
        rw [e1]
        exact TX _ (br_t rk_m1lt (nm_r (nI_1 r) K))
    · obtain ⟨Q2, F2, ln2, f12, f22, lc2, po2, sp2, g1, g2, g3, g4, g5⟩ := ih (A1 ++ A2) (c :: F) _ _ _ _ _ _ B1 d B2 pd hlen hLL1 hsb1 (fun x hx => hlo x (sub x hx)) (fun x hx => hns x (sub x hx)) fd
      refine ⟨Q2, F2, ln2, f12, f22, lc2, po2, sp2, g1, g2, g3, g4, fun post J K => ?_⟩
      refine br_f n0 (SX _ ?_)
      rw [e1]
      exact TX _ (g5 post J K)
end
end
section
/-! an end: the letters, second part -/
section
variable {C : rk_ST} {N : Nat} {s r p k c a : Nat} {x e v how fm fq m : Int32} {bs : Nat → Nat} {w : Nat} {Q Q' F A1 A2 : List Nat} {tt : Nat → Nat} {sg : Nat → Int}
def rk_fin (C : rk_ST) (tt : Nat → Nat) (sg : Nat → Int) (s : Nat) (Q : List Nat) (W : (SX → Prop) → Prop) : Prop :=
  ∃ (F2 : List Nat) (ln2 f12 f22 lc2 po2 : Nat → Int32) (sp2 : Int32), rk_LL C tt sg (Q.filter (rk_gd tt (C 29) s)) F2 ln2 f12 f22 lc2 po2 sp2 ∧ ∀ post : SX → Prop, post (rk_mX (rk_le C ln2 f12 f22 lc2 po2 sp2)) → W post
theorem rk_xf26 (hs : s < 10) : ∀ (d q : Nat) (Q' F : List Nat) (ln f1 f2 lc po : Nat → Int32) (sp : Int32), q + d = 10 → rk_LL C tt sg Q' F ln f1 f2 lc po sp → rk_sb2 tt (C 29) s Q Q' → (∀ x, x ∈ Q' → tt x < q → (C 29) x ≠ nI s) → (∀ x, x ∈ Q' → tt x ≠ s) →
    rk_fin C tt sg s Q (fun post => wX_forgetLetters_26 post (nI s) (d + 1) (nI q) (sp) (C 1 0) (C 2 0) (C 3 0) (C 4 0) (C 5 0) (C 6 0) (C 7 0) (C 8) (C 9) (C 10) (C 11) (C 12) (C 13) (C 14) (C 15) (C 16) (C 17) (C 18) (C 19) (C 20) (C 21) (C 22) (C 23) (C 24) (C 25) (C 26) (C 27) (C 28) (C 29) (ln) (f1) (f2) (lc) (po) (C 35) (C 36) (C 37) (C 38) (C 39) (C 40) (C 41) (C 42) (C 43) (C 44) (C 45) (C 46) (C 47) (C 48) (C 49) (C 50) (C 51) (C 52) (C 53) (C 54) (C 55) (C 56)) := by
  have is : vp_in (nI s) 10 := rk_in hs
  have es : (nI s).toNatClampNeg = s := rk_cl (by omega)
  intro d
  induction d with
  | zero =>
    intro q Q' F ln f1 f2 lc po sp hq hLL hsb hlo hns
    have e : q = 10 := by omega
    subst e
    have eQ : Q' = Q.filter (rk_gd tt (C 29) s) := rk_sb2_fin hsb (fun c hc => rk_gd_iff.mpr ⟨hns c hc, hlo c hc (hLL.1 c hc).2.1⟩)
    subst eQ
    refine ⟨F, ln, f1, f2, lc, po, sp, hLL, fun post K => br_t (nI_le (a := 10) (by omega) (by omega)) (by simp only [rk_mX, rk_mY, rk_sA_s, rk_sA_n, ne_eq, Nat.reduceEqDiff, not_false_eq_true, rk_le] at K ⊢; exact K)⟩
  | succ d ih =>
    intro q Q' F ln f1 f2 lc po sp hq hLL hsb hlo hns
    have hq10 : q < 10 := by omega
    have n10 : ¬ (10 : Int32) ≤ nI q := nI_ge (b := 10) hq10 (by omega)
    have hpo := (hLL.2.2.2.1 s hs).2.1
    have hQ30 : Q'.length ≤ 30 := by have := hLL.2.2.2.2.2.2.2; omega
    by_cases z : 0 < Q'.countP (fun c => (C 29) c == nI s)
    · have y : Q'.countP (fun c => (C 29) c == nI s) ≤ Q'.length := List.countP_le_length
      have np : ¬ po s ≤ 0 := by rw [hpo]; exact nI_nle z (by omega)
      rcases rk_xtake (C := rk_le C ln f1 f2 lc po sp) hLL hq10 (nI s) with ⟨no, TX⟩ | ⟨B1, b, B2, pd, fd, TX⟩
      · obtain ⟨F2, ln2, f12, f22, lc2, po2, sp2, g1, g2⟩ := ih (q + 1) Q' F ln f1 f2 lc po sp (by omega) hLL hsb (fun x hx hlt => by
          rcases Nat.lt_or_ge (tt x) q with u | u
          · exact hlo x hx u
          · exact fun y => no x hx (by omega) (Or.inr y)) hns
        refine ⟨F2, ln2, f12, f22, lc2, po2, sp2, g1, fun post K => br_f n10 ⟨is, br_f (by rw [es]; exact np) (TX _ ⟨1, br_t rk_m1lt (nm_r (nI_1 q) (g2 post K))⟩)⟩⟩
      · obtain ⟨Q2, F2', ln', f1', f2', lc', po', sp', k1, k2, k3, k4, k5⟩ := rk_xf48 (C := C) (Q := Q) hs hq10 Q'.length Q' F ln f1 f2 lc po sp B1 b B2 pd (Nat.le_refl _) hLL hsb hlo hns fd
        obtain ⟨F2, ln2, f12, f22, lc2, po2, sp2, g1, g2⟩ := ih (q + 1) Q2 F2' ln' f1' f2' lc' po' sp' (by omega) k1 k2 k3 k4
        refine ⟨F2, ln2, f12, f22, lc2, po2, sp2, g1, fun post K => br_f n10 ⟨is, br_f (by rw [es]; exact np) (TX _ ⟨_, k5 post _ (g2 post K)⟩)⟩⟩
    · have ep : po s ≤ 0 := by rw [hpo, show Q'.countP (fun c => (C 29) c == nI s) = 0 by omega]; decide
      have eQ : Q' = Q.filter (rk_gd tt (C 29) s) := rk_sb2_fin hsb (fun c hc => rk_gd_iff.mpr ⟨hns c hc, fun y => z (List.countP_pos_iff.mpr ⟨c, hc, beq_iff_eq.mpr y⟩)⟩)
      subst eQ
      refine ⟨F, ln, f1, f2, lc, po, sp, hLL, fun post K => br_f n10 ⟨is, br_t (by rw [es]; exact ep) (by simp only [rk_mX, rk_mY, rk_sA_s, rk_sA_n, ne_eq, Nat.reduceEqDiff, not_false_eq_true, rk_le] at K ⊢; exact K)⟩⟩
theorem rk_xf0 (hs : s < 10) : ∀ (n : Nat) (Q' F : List Nat) (ln f1 f2 lc po : Nat → Int32) (sp : Int32), Q'.length ≤ n → rk_LL C tt sg Q' F ln f1 f2 lc po sp → rk_sb2 tt (C 29) s Q Q' →
    rk_fin C tt sg s Q (fun post => wX_forgetLetters_0 post (nI s) (n + 1) (sp) (C 1 0) (C 2 0) (C 3 0) (C 4 0) (C 5 0) (C 6 0) (C 7 0) (C 8) (C 9) (C 10) (C 11) (C 12) (C 13) (C 14) (C 15) (C 16) (C 17) (C 18) (C 19) (C 20) (C 21) (C 22) (C 23) (C 24) (C 25) (C 26) (C 27) (C 28) (C 29) (ln) (f1) (f2) (lc) (po) (C 35) (C 36) (C 37) (C 38) (C 39) (C 40) (C 41) (C 42) (C 43) (C 44) (C 45) (C 46) (C 47) (C 48) (C 49) (C 50) (C 51) (C 52) (C 53) (C 54) (C 55) (C 56)) := by
  have is : vp_in (nI s) 10 := rk_in hs
  have es : (nI s).toNatClampNeg = s := rk_cl (by omega)
  intro n
  have stop : ∀ (n : Nat) (Q' F : List Nat) (ln f1 f2 lc po : Nat → Int32) (sp : Int32), rk_LL C tt sg Q' F ln f1 f2 lc po sp → rk_sb2 tt (C 29) s Q Q' → ¬ 0 < Q'.countP (fun c => tt c == s) →
      rk_fin C tt sg s Q (fun post => wX_forgetLetters_0 post (nI s) (n + 1) (sp) (C 1 0) (C 2 0) (C 3 0) (C 4 0) (C 5 0) (C 6 0) (C 7 0) (C 8) (C 9) (C 10) (C 11) (C 12) (C 13) (C 14) (C 15) (C 16) (C 17) (C 18) (C 19) (C 20) (C 21) (C 22) (C 23) (C 24) (C 25) (C 26) (C 27) (C 28) (C 29) (ln) (f1) (f2) (lc) (po) (C 35) (C 36) (C 37) (C 38) (C 39) (C 40) (C 41) (C 42) (C 43) (C 44) (C 45) (C 46) (C 47) (C 48) (C 49) (C 50) (C 51) (C 52) (C 53) (C 54) (C 55) (C 56)) := by
    intro n Q' F ln f1 f2 lc po sp hLL hsb z
    have el : lc s ≤ 0 := by rw [(hLL.2.2.2.1 s hs).1, show Q'.countP (fun c => tt c == s) = 0 by omega]; decide
    obtain ⟨F2, ln2, f12, f22, lc2, po2, sp2, g1, g2⟩ := rk_xf26 (C := C) (Q := Q) hs 10 0 Q' F ln f1 f2 lc po sp rfl hLL hsb (fun x _ hlt => absurd hlt (Nat.not_lt_zero _)) (fun x hx y => z (List.countP_pos_iff.mpr ⟨x, hx, beq_iff_eq.mpr y⟩))
    exact ⟨F2, ln2, f12, f22, lc2, po2, sp2, g1, fun post K => And.intro is (br_t (by rw [es]; exact el) ⟨_, g2 post K⟩)⟩
  induction n with
  | zero =>
    intro Q' F ln f1 f2 lc po sp hl hLL hsb
    have e : Q' = [] := List.eq_nil_of_length_eq_zero (by omega)
    refine stop 0 Q' F ln f1 f2 lc po sp hLL hsb ?_
    rw [e]
    exact Nat.lt_irrefl 0
  | succ n ih =>
    intro Q' F ln f1 f2 lc po sp hl hLL hsb
    by_cases z : 0 < Q'.countP (fun c => tt c == s)
    · have hQ30 : Q'.length ≤ 30 := by have := hLL.2.2.2.2.2.2.2; omega
      have y : Q'.countP (fun c => tt c == s) ≤ Q'.length := List.countP_le_length
      have nl : ¬ lc s ≤ 0 := by rw [(hLL.2.2.2.1 s hs).1]; exact nI_nle z (by omega)
      rcases rk_xtake (C := rk_le C ln f1 f2 lc po sp) hLL hs (-1) with ⟨no, TX⟩ | ⟨A1, c, A2, pc, fd, TX⟩
      · obtain ⟨t, y1, y2⟩ := List.countP_pos_iff.mp z
        exact absurd (Or.inl rfl) (no t y1 (beq_iff_eq.mp y2))
      · obtain ⟨f1e, f2e, f3, f4, f5⟩ := fd
        subst f1e
        obtain ⟨a, ha, hfa, hLL1, SX⟩ := rk_xts hLL f5 f2e
        have hbad : ¬ rk_gd tt (C 29) s c = true := by
          rw [rk_gd_iff]
          exact fun z => z.1 f2e
        have hlen : (A1 ++ A2).length ≤ n := by
          rw [List.length_append, List.length_cons] at hl
          rw [List.length_append]
          omega
        obtain ⟨F2, ln2, f12, f22, lc2, po2, sp2, g1, g2⟩ := ih (A1 ++ A2) (c :: F) _ _ _ _ _ _ hlen hLL1 (rk_sb2_del (rk_sg_nd hLL.2.1) hbad hsb)
        refine ⟨F2, ln2, f12, f22, lc2, po2, sp2, g1, fun post K => And.intro is (br_f (by rw [es]; exact nl) (TX _ (SX _ ?_)))⟩
        have e1 : rk_mX (rk_spl (rk_tkl (rk_le C ln f1 f2 lc po sp) c s pc) c a) = rk_mX (rk_le C (upd (rk_dB ln pc c) c sp) (rk_dF f1 ln pc s c) (rk_dL f2 pc s c) (upd lc s (lc s - 1)) (upd po a (po a - 1)) (nI c)) := by
          simp only [rk_mX, rk_sA_s, rk_sA_n, ne_eq, Nat.reduceEqDiff, not_false_eq_true, rk_spl, rk_tkl, rk_le]
        rw [e1]
        exact g2 post K
    · exact stop (n + 1) Q' F ln f1 f2 lc po sp hLL hsb z
theorem rk_xforget (hs : s < 10) (h : rk_LX Q tt sg F (C 75) (C 29) (C 30) (C 31) (C 32) (C 33) (C 34) (C 0 0)) :
    rk_fin C tt sg s Q (fun post => wpX_forgetLetters post (rk_mX C) (nI s)) := by
  obtain ⟨F2, ln2, f12, f22, lc2, po2, sp2, g1, g2⟩ := rk_xf0 (C := C) (Q := Q) hs Q.length Q F (C 30) (C 31) (C 32) (C 33) (C 34) (C 0 0) (Nat.le_refl _) h rk_sb2_0
  exact ⟨F2, ln2, f12, f22, lc2, po2, sp2, g1, fun post K => ⟨_, g2 post K⟩⟩
/-! Y -/
theorem rk_yf78 (hs : s < 10) (lf lw : Nat → Int32) (hlt : ∀ c, c ∈ Q → tt c < 10) :
    ∀ (n : Nat) (l1 rest : List Nat) (yf yt yx : Nat → Int32) (yl : Int32), l1.length = n → (∀ c, c ∈ l1 → c ∈ Q) → (l1 ++ rest).length ≤ 30 → rk_LY (l1 ++ rest) tt lf lw yf yt yx yl →
    ∃ (yf2 yt2 yx2 : Nat → Int32) (yl2 : Int32), rk_LY (l1.filter (rk_gd tt lf s) ++ rest) tt lf lw yf2 yt2 yx2 yl2 ∧
      ∀ (C : rk_ST) (old : Int32) (post : SY → Prop), (wY_ends_78 post (nI s) old 1 (-1) (yl2) (C 58 0) (C 8) (C 59) (C 9) (C 10) (C 11) (C 13) (C 60) (C 16) (C 15) (C 61) (C 62) (C 36) (C 38) (C 37) (C 63) (C 64) (C 18) (C 65) (yf2) (yt2) (yx2) (C 39) (C 42) (C 43) (C 40) (C 69) (C 70) (C 49) (C 52) (C 51) (C 53) (C 71) (C 72) (C 54) (C 73) (C 74) (C 56) → wY_ends_78 post (nI s) old (n + 1) (nI n + (-1)) (yl) (C 58 0) (C 8) (C 59) (C 9) (C 10) (C 11) (C 13) (C 60) (C 16) (C 15) (C 61) (C 62) (C 36) (C 38) (C 37) (C 63) (C 64) (C 18) (C 65) (yf) (yt) (yx) (C 39) (C 42) (C 43) (C 40) (C 69) (C 70) (C 49) (C 52) (C 51) (C 53) (C 71) (C 72) (C 54) (C 73) (C 74) (C 56)) := by
  intro n
  induction n with
  | zero =>
    intro l1 rest yf yt yx yl hl hQ h30 h
    have e : l1 = [] := List.eq_nil_of_length_eq_zero hl
    subst e
    exact ⟨yf, yt, yx, yl, h, fun C old post K => by rw [show nI 0 + (-1) = -1 from rfl]; exact K⟩
  | succ n ih =>
    intro l1 rest yf yt yx yl hl hQ h30 h
    obtain ⟨l, c, e⟩ : ∃ l c, l1 = l ++ [c] := ⟨l1.dropLast, l1.getLast (fun z => by rw [z] at hl; simp at hl), (List.dropLast_concat_getLast _).symm⟩
    subst e
    have hl' : l.length = n := by rw [List.length_append] at hl; simpa using hl
    rw [List.append_assoc] at h h30
    have hcQ := hQ c (List.mem_append_right _ List.mem_cons_self)
    have hn30 : n < 30 := by
      rw [List.length_append, hl'] at h30
      simp only [List.length_append, List.length_cons, List.length_nil] at h30
      omega
    have hk : (l ++ ([c] ++ rest))[n]? = some c := by rw [List.getElem?_append_right (by omega), hl', Nat.sub_self]; rfl
    obtain ⟨y1, y2, y3⟩ := h.2 n c hk
    have en : nI (n + 1) + (-1) = nI n := pk_m1 n
    have ei : (nI n).toNatClampNeg = n := rk_cl (by omega)
    have ii : vp_in (nI n) 30 := rk_in hn30
    have n0 : ¬ nI n < 0 := nI_pos (by omega)
    rw [List.filter_append]
    by_cases g : rk_gd tt lf s c = true
    · obtain ⟨yf2, yt2, yx2, yl2, q1, q2⟩ := ih l ([c] ++ rest) yf yt yx yl hl' (fun x hx => hQ x (List.mem_append_left _ hx)) h30 h
      refine ⟨yf2, yt2, yx2, yl2, ?_, fun C old post K => ?_⟩
      · rw [List.filter_cons_of_pos g, List.filter_nil, List.append_assoc]
        exact q1
      · rw [en]
        obtain ⟨g1, g2⟩ := rk_gd_iff.mp g
        have htt := hlt c hcQ
        exact br_f n0 ⟨ii, br_f (by rw [ei, y1]; exact g2) ⟨ii, br_f (by rw [ei, y2]; exact fun z => g1 (rk_inj (by omega) (by omega) z)) (nm_e (q2 C old post K))⟩⟩
    · have hd := rk_LY_del (A1 := l) (c := c) (A2 := rest) h
      have hlen : (l ++ rest).length ≤ 30 := by
        simp only [List.length_append, List.length_cons, List.length_nil] at h30 ⊢
        omega
      obtain ⟨yf2, yt2, yx2, yl2, q1, q2⟩ := ih l rest _ _ _ _ hl' (fun x hx => hQ x (List.mem_append_left _ hx)) hlen hd
      refine ⟨yf2, yt2, yx2, yl2, ?_, fun C old post K => ?_⟩
      · rw [List.filter_cons_of_neg g, List.filter_nil, List.append_nil]
        exact q1
      · rw [en]
        have hyl : yl = nI (n + rest.length + 1) := by
          rw [h.1]
          refine congrArg nI ?_
          simp only [List.length_append, List.length_cons, List.length_nil, hl']
          omega
        have hyl' : yl - 1 = nI (n + rest.length) := by rw [hyl, nI_pred]
        have out : wY_ends_102 post (wY_ends_78 post (nI s) old (n + 1)) (nI s) old (nI n) (yl) (C 58 0) (C 8) (C 59) (C 9) (C 10) (C 11) (C 13) (C 60) (C 16) (C 15) (C 61) (C 62) (C 36) (C 38) (C 37) (C 63) (C 64) (C 18) (C 65) (yf) (yt) (yx) (C 39) (C 42) (C 43) (C 40) (C 69) (C 70) (C 49) (C 52) (C 51) (C 53) (C 71) (C 72) (C 54) (C 73) (C 74) (C 56) := by
          refine rk_ytakeOut (C := rk_ly C yf yt yx yl) (n := n + rest.length) (k := n) (by simp only [List.length_append, List.length_cons, List.length_nil, hl'] at h30; omega) (by omega) hyl (nm_e ?_)
          have K' := q2 C old post K
          rw [hl', hyl'] at K'
          simp only [rk_mY, rk_sA_s, rk_sA_n, ne_eq, Nat.reduceEqDiff, not_false_eq_true, rk_tko, rk_ly]
          exact K'
        have hb : ¬ (tt c ≠ s ∧ lf c ≠ nI s) := fun z => g (rk_gd_iff.mpr z)
        by_cases c1 : lf c = nI s
        · exact br_f n0 ⟨ii, br_t (by rw [ei, y1]; exact c1) out⟩
        · have c2 : tt c = s := Classical.byContradiction (fun z => hb ⟨z, c1⟩)
          exact br_f n0 ⟨ii, br_f (by rw [ei, y1]; exact c1) ⟨ii, br_t (by rw [ei, y2, c2]) out⟩⟩
end
end
section
/-! an end: the core, and the loop that frees those who waited -/
section
variable {C G : rk_ST} {N M : Nat} {s r p q : Nat} {x v how old all : Int32} {D D' : Nat → Prop} {wt' nx' pv' fr' bk' bh' fi' la' se' : Nat → Int32}
theorem rk_Wt_D {st al wh ot re be wt ca yc : Nat → Int32} {old' : Int32} (hD : ∀ t, t < 10 → (D t ↔ D' t)) (ho : ∀ t, t < 10 → D' t → old = old') (h : rk_Wt D old st al wh ot re be wt ca yc) : rk_Wt D' old' st al wh ot re be wt ca yc := by
  obtain ⟨h1, h2⟩ := h
  refine ⟨fun t ht hw => ?_, h2⟩
  obtain ⟨a1, a2, a3⟩ := h1 t ht hw
  rw [hD t ht] at a3
  refine ⟨a1, a2, ?_⟩
  rcases a3 with z | z | z
  · exact Or.inl z
  · exact Or.inr (Or.inl z)
  · exact Or.inr (Or.inr ⟨z.1, z.2.trans (ho t ht z.1)⟩)
theorem rk_co_die (hN : N + 1 ≤ 67108864) (hs : s < 10) (ha : (C 75) s = 1) (hb : ∀ r t, r < 10 → t < 10 → bt (wt' r) t = (bt ((C 27) r) t && !decide (t = s)))
    (hRo : rk_Ro (upd (C 8) s 0) (C 10) (C 63) nx' pv' fr' bk') (hQu : rk_Qu (upd (C 8) s 0) (C 14) (C 12) (C 63) bh' fi' la' se') (h : rk_Co N rk_fa 0 C C) :
    rk_Tie (upd (C 8) s 0) (upd (C 75) s 0) ∧ rk_Bir (N + 1) (upd (C 75) s 0) (upd (C 12) s ((C 12) s + 1)) (C 59) ∧ rk_Mom (N + 1) (upd (C 75) s 0) (C 63) (C 58 0) ∧
    rk_Wt (fun t => bt (wt' s) t = true) (rk_ep (C 12) s) (upd (C 8) s 0) (upd (C 75) s 0) (C 14) (C 60) (C 15) (upd (C 12) s ((C 12) s + 1)) (upd wt' s 0) (upd (C 17) s 0) (C 64) ∧
    rk_Ac (upd (C 8) s 0) (C 14) (upd (C 12) s ((C 12) s + 1)) ∧ rk_Qu (upd (C 8) s 0) (C 14) (upd (C 12) s ((C 12) s + 1)) (C 63) bh' fi' la' (upd se' s 0) ∧
    (∀ t, t < 10 → bt (wt' s) t = true → rk_wg (upd (C 8) s 0) t) ∧ (∀ r, r < 10 → rk_ep (upd (C 12) s ((C 12) s + 1)) r ≠ rk_ep (C 12) s) := by
  obtain ⟨hT, hL, hB, hM, hR, hW, hA, hQ⟩ := h
  obtain ⟨b, hb1, hb2, hb3⟩ := hB s hs
  have yb : (C 59) s = nI (b + 1) := by
    rcases hb3 with z | z
    · rw [ha] at z; exact absurd z.1 (by decide)
    · exact z.2
  have eb' : upd (C 12) s ((C 12) s + 1) s = nI (b + 1) := by rw [pk_us, hb2, nI_1]
  have eps : rk_ep (upd (C 12) s ((C 12) s + 1)) s = nI (16 * (b + 1) + s) := rk_ep_val eb'
  have ep0 : rk_ep (C 12) s = nI (16 * b + s) := rk_ep_val hb2
  have epn : ∀ r, r < 10 → rk_ep (upd (C 12) s ((C 12) s + 1)) s ≠ rk_ep (C 12) r := by
    intro r hr z
    obtain ⟨c, hc1, hc2, _⟩ := hB r hr
    rw [eps, rk_ep_val hc2] at z
    have hz := rk_inj (by omega) (by omega) z
    have : r = s := by omega
    subst this
    rw [hb2] at hc2
    have := rk_inj (by omega) (by omega) hc2
    omega
  have epm : rk_ep (upd (C 12) s ((C 12) s + 1)) s ≠ -1 := by rw [eps]; exact rk_nI_m1 (by omega)
  have hepd : ∀ r, r < 10 → rk_ep (upd (C 12) s ((C 12) s + 1)) r ≠ rk_ep (C 12) s := by
    intro r hr z
    by_cases e : r = s
    · subst e
      exact epn r hr z
    · rw [rk_ep_up e] at z
      exact e (rk_ep_inj (by omega) hB hr hs z)
  -- nobody waits for the new endpoint
  have nob : ∀ t, t < 10 → rk_wg (C 8) t → (C 14) t ≠ rk_ep (upd (C 12) s ((C 12) s + 1)) s := by
    intro t ht hw z
    rcases (hW.1 t ht hw).2.2 with y | ⟨_, r, y1, _, _, y2⟩ | y
    · exact epm (z.symm.trans y.2.1)
    · exact epn r y1 (z.symm.trans y2)
    · exact absurd y.1 id
  have hWs : ∀ t, t < 10 → (bt (wt' s) t = true ↔ rk_W (C 8) (C 14) (C 12) s t) := by
    intro t ht
    rw [hb s t hs ht, ← hW.2.1 s t hs ht]
    by_cases e : t = s
    · subst e
      rw [decide_eq_true rfl, Bool.not_true, Bool.and_false]
      constructor
      · exact fun z => absurd z (by decide)
      · intro z
        have y := (hW.2.1 t t ht ht).mp z
        rcases (hW.1 t ht y.2.2.1).2.2 with u | ⟨_, r, u1, u2, _, u3⟩ | u
        · exact absurd (y.2.2.2.symm.trans u.2.1) (rk_ep_m1 (by omega) hB ht)
        · exact absurd (rk_ep_inj (by omega) hB u1 ht (u3.symm.trans y.2.2.2)) u2
        · exact absurd u.1 id
    · rw [decide_eq_false e, Bool.not_false, Bool.and_true]
  have hWr : ∀ r t, rk_W (upd (C 8) s 0) (C 14) (upd (C 12) s ((C 12) s + 1)) r t → r ≠ s ∧ t ≠ s ∧ rk_W (C 8) (C 14) (C 12) r t := by
    intro r t z
    have e : t ≠ s := fun e => rk_wg_0 (e ▸ z.2.2.1)
    have hw := (rk_wg_ne e).mp z.2.2.1
    have e2 : r ≠ s := fun e2 => nob t z.2.1 hw (by rw [← e2]; rw [z.2.2.2, e2])
    exact ⟨e2, e, z.1, z.2.1, hw, by rw [z.2.2.2, rk_ep_up e2]⟩
  refine ⟨rk_Tie_end hT, fun t ht => ?_, rk_Mom_up (by omega) (rk_Mom_al (fun t z => ?_) hM), ⟨fun t ht hw => ?_, fun r t hr ht => ?_, fun t ht hw => ?_⟩, rk_Ac_mono (fun r t z => (hWr r t z).2.2) hA, fun r hr => ?_, fun t ht z => ?_, hepd⟩
  · obtain ⟨c, hc1, hc2, hc3⟩ := hB t ht
    by_cases e : t = s
    · subst e
      exact ⟨b + 1, by omega, eb', Or.inl ⟨pk_us, yb⟩⟩
    · rw [pk_un e, pk_un e]
      exact ⟨c, by omega, hc2, hc3⟩
  · by_cases e : t = s
    · rw [e, pk_us] at z; exact absurd z (by decide)
    · rw [pk_un e] at z; exact z
  · have e : t ≠ s := fun e => rk_wg_0 (e ▸ hw)
    have hw' := (rk_wg_ne e).mp hw
    obtain ⟨a1, a2, a3⟩ := hW.1 t ht hw'
    rw [pk_un e]
    refine ⟨a1, a2, ?_⟩
    rcases a3 with z | ⟨_, r, z1, z2, z3, z4⟩ | z
    · refine Or.inl ⟨fun y => ?_, z.2⟩
      have u := ((hWs t ht).mp y).2.2.2
      rw [z.2.1] at u
      exact rk_ep_m1 (by omega) hB hs u.symm
    · by_cases er : r = s
      · subst er
        exact Or.inr (Or.inr ⟨(hWs t ht).mpr ⟨hs, ht, hw', z4⟩, z4⟩)
      · refine Or.inr (Or.inl ⟨fun y => er (rk_ep_inj (by omega) hB z1 hs (z4.symm.trans ((hWs t ht).mp y).2.2.2)), r, z1, z2, ?_, ?_⟩)
        · rw [pk_un er]; exact z3
        · rw [rk_ep_up er]; exact z4
    · exact absurd z.1 id
  · by_cases er : r = s
    · subst er
      rw [pk_us, b_0]
      exact ⟨fun z => absurd z (by decide), fun z => absurd rfl (hWr r t z).1⟩
    · rw [pk_un er, hb r t hr ht]
      by_cases e : t = s
      · rw [decide_eq_true e, Bool.not_true, Bool.and_false]
        exact ⟨fun z => absurd z (by decide), fun z => absurd e (hWr r t z).2.1⟩
      · rw [decide_eq_false e, Bool.not_false, Bool.and_true, hW.2.1 r t hr ht]
        refine ⟨fun z => ⟨z.1, z.2.1, (rk_wg_ne e).mpr z.2.2.1, by rw [rk_ep_up er]; exact z.2.2.2⟩, fun z => (hWr r t z).2.2⟩
  · have e : t ≠ s := fun e => by subst e; rw [pk_us] at hw; exact absurd hw (by decide)
    rw [pk_un e] at hw ⊢
    exact hW.2.2 t ht hw
  · by_cases er : r = s
    · subst er
      have no : ∀ t, ¬ rk_S (upd (C 8) r 0) (C 14) (upd (C 12) r ((C 12) r + 1)) r t := fun t z => (hWr r t (rk_S_W z)).1 rfl
      refine ⟨⟨fun t z => absurd z (no t), fun ⟨t, z⟩ => absurd z (no t)⟩, ?_⟩
      rw [pk_us, rk_cn_zero (fun t ht => ?_)]
      · rfl
      · cases z : rk_sb (upd (C 8) r 0) (C 14) (upd (C 12) r ((C 12) r + 1)) r t
        · rfl
        · exact absurd ((rk_sb_S hr ht).mp z) (no t)
    · obtain ⟨g1, g2⟩ := hQu r hr
      have hS : ∀ t, rk_S (upd (C 8) s 0) (C 14) (C 12) r t ↔ rk_S (upd (C 8) s 0) (C 14) (upd (C 12) s ((C 12) s + 1)) r t := by
        intro t
        unfold rk_S
        rw [rk_ep_up er]
      refine ⟨rk_SL_congr hS (fun _ _ => rfl) (fun _ _ => rfl) rfl rfl g1, ?_⟩
      rw [pk_un er, g2]
      exact congrArg nI (rk_cn_congr (fun t ht => rk_sb_eq hr ht (hS t)))
  · have y := (hWs t ht).mp z
    have e : t ≠ s := by
      intro e
      rw [hb s t hs ht, decide_eq_true e, Bool.not_true, Bool.and_false] at z
      exact absurd z (by decide)
    exact (rk_wg_ne e).mpr y.2.2.1
/-- one who waited for the dead one becomes READY -/
theorem rk_co_fd (hM' : M + 1 ≤ 67108864) (hq : q < 10) (hDq : D q) (hwq : rk_wg (G 8) q) (hp : p < 4) (hl : (G 10) q = nI p) (hold : ∀ r, r < 10 → rk_ep (G 12) r ≠ old) (hD : ∀ t, t ≠ q → (D' t ↔ D t)) (h : rk_Co M D old G G) :
    rk_Co (M + 1) D' old (rk_cfr (rk_sA G 14 (upd (G 14) q (-1))) q p how) (rk_cfr (rk_sA G 14 (upd (G 14) q (-1))) q p how) := by
  obtain ⟨hT, hL, hB, hM, hR, hW, hA, hQ⟩ := h
  have ha := rk_Tie_al hT hq (rk_wg_ne0 hwq)
  have hwo : (G 14) q = old := by
    rcases (hW.1 q hq hwq).2.2 with z | z | z
    · exact absurd hDq z.1
    · exact absurd hDq z.1
    · exact z.2
  have noW : ∀ r, ¬ rk_W (G 8) (G 14) (G 12) r q := fun r z => hold r z.1 (z.2.2.2.symm.trans hwo)
  have hbits : ∀ r t, r < 10 → t < 10 → bt (rk_wclr (G 27) (upd (G 14) q (-1) q) q r) t = (bt ((G 27) r) t && !decide (t = q)) := by
    intro r t hr ht
    unfold rk_wclr
    rw [pk_us, if_pos rk_m1lt]
    by_cases e : t = q
    · subst e
      have z : bt ((G 27) r) t = false := by
        cases z : bt ((G 27) r) t
        · rfl
        · exact absurd ((hW.2.1 r t hr ht).mp z) (noW r)
      rw [z]
      rfl
    · rw [decide_eq_false e, Bool.not_false, Bool.and_true]
  have subW : ∀ r t, rk_W (upd (G 8) q 1) (upd (G 14) q (-1)) (G 12) r t → rk_W (G 8) (G 14) (G 12) r t := by
    intro r t z
    have e : t ≠ q := fun e => rk_wg_1 (e ▸ z.2.2.1)
    have y := z.2.2.2
    rw [pk_un e] at y
    exact ⟨z.1, z.2.1, (rk_wg_ne e).mp z.2.2.1, y⟩
  refine ⟨rk_Tie_set hT (Or.inl rfl) ha, hL, rk_Bir_up (by omega) hB, rk_Mom_last (by omega) (fun t _ z => z) hM, rk_Ro_rdy (by omega) hT hM hq hp hl (rk_wg_ne1 hwq) hR,
    rk_Wt_rdy hbits (fun t ht => pk_un ht) (fun t ht => pk_un ht) (fun t ht => pk_un ht) hD hW, rk_Ac_mono subW hA, rk_Qu_same (fun r t => ?_) (fun r t z => ?_) hQ⟩
  · show rk_S (upd (G 8) q 1) (upd (G 14) q (-1)) (G 12) r t ↔ rk_S (G 8) (G 14) (G 12) r t
    by_cases e : t = q
    · subst e
      refine ⟨fun z => ?_, fun z => absurd (rk_S_W z) (noW r)⟩
      have y := z.2.2.1
      rw [pk_us] at y
      exact absurd y (by decide)
    · unfold rk_S
      rw [pk_un e, pk_un e]
  · exact rk_m_ne (fun e => noW r (e ▸ rk_S_W z))
def rk_cor (j : Nat) : Bool := j == 8 || j == 14 || j == 15 || j == 17 || j == 19 || j == 20 || j == 21 || j == 22 || j == 27 || j == 58 || j == 63
def rk_ov (G : rk_ST) (sv sr pa du : Nat → Int32) : rk_ST := rk_sA (rk_sA (rk_sA (rk_sA G 70 sv) 73 sr) 51 pa) 53 du
theorem rk_cfr_fr {a : Nat → Int32} {j : Nat} (h : rk_cor j = false) : rk_cfr (rk_sA G 14 a) q p how j = G j := by
  unfold rk_cor at h
  simp only [Bool.or_eq_false_iff, beq_eq_false_iff_ne, ne_eq] at h
  obtain ⟨⟨⟨⟨⟨⟨⟨⟨⟨⟨h1, h2⟩, h3⟩, h4⟩, h5⟩, h6⟩, h7⟩, h8⟩, h9⟩, h10⟩, h11⟩ := h
  unfold rk_cfr rk_lst rk_frX rk_app
  rw [rk_sA_n _ _ h11, rk_sA_n _ _ h10, rk_sA_n _ _ h8, rk_sA_n _ _ h7, rk_sA_n _ _ h6, rk_sA_n _ _ h5, rk_sA_n _ _ h3, rk_sA_n _ _ h4, rk_sA_n _ _ h1, rk_sA_n _ _ h9, rk_sA_n _ _ h2]
theorem rk_mX_cfr (C : rk_ST) (s p : Nat) (how : Int32) : rk_mX (rk_cfr C s p how) = rk_mX (rk_frX C s p how) := by
  simp only [rk_mX, rk_sA_s, rk_sA_n, ne_eq, Nat.reduceEqDiff, not_false_eq_true, rk_cfr, rk_lst]
theorem rk_mY_ov (G : rk_ST) (a sv sr pa du : Nat → Int32) (q p : Nat) (how : Int32) : rk_mY (rk_rdyY (rk_ov G sv sr pa du) q how) = rk_mY (rk_ov (rk_cfr (rk_sA G 14 a) q p how) sv sr pa du) := by
  simp only [rk_mY, rk_sA_s, rk_sA_n, ne_eq, Nat.reduceEqDiff, not_false_eq_true, rk_cfr, rk_lst, rk_frX, rk_app, rk_ov, rk_rdyY]
theorem rk_dloop : ∀ (d q : Nat) (G : rk_ST) (M : Nat), q + d = 10 → M + d ≤ 67108864 → (∀ r, r < 10 → rk_ep (G 12) r ≠ old) → old ≠ -1 → (∀ t, q ≤ t → t < 10 → bt all t = true → rk_wg (G 8) t) → rk_Co M (fun t => q ≤ t ∧ bt all t = true) old G G →
    ∃ G', rk_Co (M + d) rk_fa 0 G' G' ∧ (∀ j, rk_cor j = false → G' j = G j) ∧ (∀ post : SX → Prop, post (rk_mX G') → wX_die_254 post all (d + 1) (nI q) (G 0 0) (G 1 0) (G 2 0) (G 3 0) (G 4 0) (G 5 0) (G 6 0) (G 7 0) (G 8) (G 9) (G 10) (G 11) (G 12) (G 13) (G 14) (G 15) (G 16) (G 17) (G 18) (G 19) (G 20) (G 21) (G 22) (G 23) (G 24) (G 25) (G 26) (G 27) (G 28) (G 29) (G 30) (G 31) (G 32) (G 33) (G 34) (G 35) (G 36) (G 37) (G 38) (G 39) (G 40) (G 41) (G 42) (G 43) (G 44) (G 45) (G 46) (G 47) (G 48) (G 49) (G 50) (G 51) (G 52) (G 53) (G 54) (G 55) (G 56)) ∧
      (∀ (post : SY → Prop) (sv sr pa du : Nat → Int32), (∃ n, wY_ends_182 post old n 0 ((rk_ov G' sv sr pa du) 57 0) ((rk_ov G' sv sr pa du) 58 0) ((rk_ov G' sv sr pa du) 8) ((rk_ov G' sv sr pa du) 59) ((rk_ov G' sv sr pa du) 9) ((rk_ov G' sv sr pa du) 10) ((rk_ov G' sv sr pa du) 11) ((rk_ov G' sv sr pa du) 13) ((rk_ov G' sv sr pa du) 60) ((rk_ov G' sv sr pa du) 16) ((rk_ov G' sv sr pa du) 15) ((rk_ov G' sv sr pa du) 61) ((rk_ov G' sv sr pa du) 62) ((rk_ov G' sv sr pa du) 36) ((rk_ov G' sv sr pa du) 38) ((rk_ov G' sv sr pa du) 37) ((rk_ov G' sv sr pa du) 63) ((rk_ov G' sv sr pa du) 64) ((rk_ov G' sv sr pa du) 18) ((rk_ov G' sv sr pa du) 65) ((rk_ov G' sv sr pa du) 66) ((rk_ov G' sv sr pa du) 67) ((rk_ov G' sv sr pa du) 68) ((rk_ov G' sv sr pa du) 39) ((rk_ov G' sv sr pa du) 42) ((rk_ov G' sv sr pa du) 43) ((rk_ov G' sv sr pa du) 40) ((rk_ov G' sv sr pa du) 69) ((rk_ov G' sv sr pa du) 70) ((rk_ov G' sv sr pa du) 49) ((rk_ov G' sv sr pa du) 52) ((rk_ov G' sv sr pa du) 51) ((rk_ov G' sv sr pa du) 53) ((rk_ov G' sv sr pa du) 71) ((rk_ov G' sv sr pa du) 72) ((rk_ov G' sv sr pa du) 54) ((rk_ov G' sv sr pa du) 73) ((rk_ov G' sv sr pa du) 74) ((rk_ov G' sv sr pa du) 56)) → wY_ends_141 post old (d + 1) (nI q) ((rk_ov G sv sr pa du) 57 0) ((rk_ov G sv sr pa du) 58 0) ((rk_ov G sv sr pa du) 8) ((rk_ov G sv sr pa du) 59) ((rk_ov G sv sr pa du) 9) ((rk_ov G sv sr pa du) 10) ((rk_ov G sv sr pa du) 11) ((rk_ov G sv sr pa du) 13) ((rk_ov G sv sr pa du) 60) ((rk_ov G sv sr pa du) 16) ((rk_ov G sv sr pa du) 15) ((rk_ov G sv sr pa du) 61) ((rk_ov G sv sr pa du) 62) ((rk_ov G sv sr pa du) 36) ((rk_ov G sv sr pa du) 38) ((rk_ov G sv sr pa du) 37) ((rk_ov G sv sr pa du) 63) ((rk_ov G sv sr pa du) 64) ((rk_ov G sv sr pa du) 18) ((rk_ov G sv sr pa du) 65) ((rk_ov G sv sr pa du) 66) ((rk_ov G sv sr pa du) 67) ((rk_ov G sv sr pa du) 68) ((rk_ov G sv sr pa du) 39) ((rk_ov G sv sr pa du) 42) ((rk_ov G sv sr pa du) 43) ((rk_ov G sv sr pa du) 40) ((rk_ov G sv sr pa du) 69) ((rk_ov G sv sr pa du) 70) ((rk_ov G sv sr pa du) 49) ((rk_ov G sv sr pa du) 52) ((rk_ov G sv sr pa du) 51) ((rk_ov G sv sr pa du) 53) ((rk_ov G sv sr pa du) 71) ((rk_ov G sv sr pa du) 72) ((rk_ov G sv sr pa du) 54) ((rk_ov G sv sr pa du) 73) ((rk_ov G sv sr pa du) 74) ((rk_ov G sv sr pa du) 56)) := by
  intro d
  induction d with
  | zero =>
    intro q G M hq hM hold hom hwg h
    have e : q = 10 := by omega
    subst e
    refine ⟨G, ?_, fun _ _ => rfl, fun post K => br_t (nI_le (a := 10) (by omega) (by omega)) K, fun post sv sr pa du K => br_t (nI_le (a := 10) (by omega) (by omega)) K⟩
    obtain ⟨hT, hL, hB, hM', hR, hW, hA, hQ⟩ := h
    exact ⟨hT, hL, hB, hM', hR, rk_Wt_D (D := fun t => 10 ≤ t ∧ bt all t = true) (D' := rk_fa) (fun t ht => ⟨fun z => absurd z.1 (by omega), fun z => absurd z id⟩) (fun t _ z => absurd z id) hW, hA, hQ⟩
  | succ d ih =>
    intro q G M hq hM hold hom hwg h
    have hq10 : q < 10 := by omega
    have n10 : ¬ (10 : Int32) ≤ nI q := nI_ge (b := 10) hq10 (by omega)
    have eq : (nI q).toNatClampNeg = q := rk_cl (by omega)
    have iq : vp_in (nI q) 10 := rk_in hq10
    have h' := h
    obtain ⟨hT, hL, hB, hM', hR, hW, hA, hQ⟩ := h
    by_cases b : bt all q = true
    · have nb : ¬ ((all >>> (nI q &&& 31)) &&& 1) = 0 := by
        rw [rk_btst0 all (by omega), b]
        decide
      have wq := hwg q (Nat.le_refl q) hq10 b
      obtain ⟨p, hp, hl⟩ := (hL q hq10).1
      obtain ⟨ho, _, ht3⟩ := hW.1 q hq10 wq
      have hwo : (G 14) q = old := by
        rcases ht3 with z | z | z
        · exact absurd ⟨Nat.le_refl q, b⟩ z.1
        · exact absurd ⟨Nat.le_refl q, b⟩ z.1
        · exact z.2
      have h1 := rk_co_fd (how := -3) (D' := fun t => q + 1 ≤ t ∧ bt all t = true) (by omega) hq10 ⟨Nat.le_refl q, b⟩ wq hp hl hold (fun t ht => ⟨fun z => ⟨by omega, z.2⟩, fun z => ⟨by omega, z.2⟩⟩) h'
      obtain ⟨G', g1, g2, g3, g4⟩ := ih (q + 1) (rk_cfr (rk_sA G 14 (upd (G 14) q (-1))) q p (-3)) (M + 1) (by omega) (by omega) hold hom (fun t h1 h2 h3 => by
        show rk_wg (upd (G 8) q 1) t
        exact (rk_wg_ne (by omega)).mpr (hwg t (by omega) h2 h3)) h1
      refine ⟨G', by rw [show M + (d + 1) = M + 1 + d by omega]; exact g1, fun j hj => (g2 j hj).trans (rk_cfr_fr hj), fun post K => br_f n10 (br_f nb ⟨iq, nm_r (e' := upd (G 14) q (-1)) (by rw [eq]) ?_⟩), fun post sv sr pa du K => br_f n10 ⟨iq, ?_⟩⟩
      · refine rk_xfree (C := rk_sA G 14 (upd (G 14) q (-1))) hq10 hp hl (rk_cd_Tl (fun t z => z.2.1) (hR p hp).2.2.2) (Or.inl ?_) ?_
        · show upd (G 14) q (-1) q < 0
          rw [pk_us]
          exact rk_m1lt
        · rw [← rk_mX_cfr]
          exact nm_r (nI_1 q) (g3 post K)
      · have s1 : ¬ (G 8) q ≤ 1 := by rcases wq with w | w | w <;> rw [w] <;> decide
        refine br_f (by rw [eq]; exact s1) ⟨iq, br_t (by rw [eq]; show (G 60) q = old; rw [ho]; exact hwo) ?_⟩
        refine rk_yready (C := rk_ov G sv sr pa du) hq10 ?_
        rw [rk_mY_ov G (upd (G 14) q (-1)) sv sr pa du q p (-3)]
        exact nm_r (nI_1 q) (g4 post sv sr pa du K)
    · have nb : ((all >>> (nI q &&& 31)) &&& 1) = 0 := by
        rw [rk_btst0 all (by omega)]
        cases z : bt all q
        · rfl
        · exact absurd z b
      have h1 : rk_Co M (fun t => q + 1 ≤ t ∧ bt all t = true) old G G := ⟨hT, hL, hB, hM', hR, rk_Wt_D (fun t ht => ⟨fun z => ⟨by
          rcases Nat.eq_or_lt_of_le z.1 with y | y
          · exact absurd (y ▸ z.2) b
          · exact y, z.2⟩, fun z => ⟨by omega, z.2⟩⟩) (fun _ _ _ => rfl) hW, hA, hQ⟩
      obtain ⟨G', g1, g2, g3, g4⟩ := ih (q + 1) G M (by omega) (by omega) hold hom (fun t z1 z2 z3 => hwg t (by omega) z2 z3) h1
      refine ⟨G', rk_Co_up (by omega) g1, g2, fun post K => br_f n10 (br_t nb (nm_r (nI_1 q) (g3 post K))), fun post sv sr pa du K => br_f n10 ⟨iq, ?_⟩⟩
      by_cases wq : rk_wg (G 8) q
      · have s1 : ¬ (G 8) q ≤ 1 := by rcases wq with w | w | w <;> rw [w] <;> decide
        obtain ⟨ho, _, ht3⟩ := hW.1 q hq10 wq
        refine br_f (by rw [eq]; exact s1) ⟨iq, br_f ?_ (nm_r (nI_1 q) (g4 post sv sr pa du K))⟩
        rw [eq]
        show ¬ (G 60) q = old
        rw [ho]
        rcases ht3 with z | ⟨_, r, z1, _, _, z2⟩ | z
        · rw [z.2.1]
          exact fun y => hom y.symm
        · rw [z2]
          exact hold r z1
        · exact absurd z.1.2 b
      · have s1 : (G 8) q ≤ 1 := by
          rcases hT q hq10 with ⟨z, _⟩ | ⟨z | z, _⟩
          · rw [z]; decide
          · rw [z]; decide
          · exact absurd z wq
        exact br_t (by rw [eq]; exact s1) (nm_r (nI_1 q) (g4 post sv sr pa du K))
end
end
section
/-! an end: the walks -/
def rk_clr (f : Nat → Int32) (s i : Nat) : Nat → Int32 := fun q => if q < i then f q &&& (((1 : Int32) <<< (nI s &&& 31)) ^^^ (-1)) else f q
def rk_ycl (f : Nat → Int32) (s i : Nat) : Nat → Int32 := fun k => if k < i ∧ (k / 14 = s ∨ k % 14 = s) then 0 else f k
def rk_pw (z : Int32) : Int32 := if z ≤ 4 then 2 * z else 8
def rk_pz (nw bo pa : Int32) : Int32 := if nw - bo < 16 then pa else 1
def rk_dnX (E : rk_ST) (k s : Nat) : rk_ST := rk_sA (rk_sA (rk_sA E 50 (upd (E 50) k (-1))) 53 (upd (E 53) k ((E 1 0) + rk_pz (E 1 0) ((E 45) s) ((E 51) k)))) 51 (upd (E 51) k (rk_pw (rk_pz (E 1 0) ((E 45) s) ((E 51) k))))
def rk_dnY (E : rk_ST) (k : Nat) : rk_ST := rk_sA (rk_sA (rk_sA (rk_sA E 70 (upd (E 70) k 2)) 73 (upd (E 73) k (-1))) 53 (upd (E 53) k ((E 74) 0 + rk_pz ((E 74) 0) ((E 72) k) ((E 51) k)))) 51 (upd (E 51) k (rk_pw (rk_pz ((E 74) 0) ((E 72) k) ((E 51) k))))
def rk_d8 (E : rk_ST) (s : Nat) : rk_ST :=
  rk_sA (rk_sA (rk_sA (rk_sA (rk_sA (rk_sA (rk_sA E 8 (upd (E 8) s 0)) 17 (upd (E 17) s 0)) 26 (upd (E 26) s 0)) 12 (upd (E 12) s ((E 12) s + 1))) 2 (fun _ => (E 2 0) - 1)) 6 (fun _ => (E 6 0) + 1)) 27 (upd (E 27) s 0)
section
variable {C E : rk_ST} {N : Nat} {s r p k c a : Nat} {x e v how old : Int32}
theorem rk_clr_0 (f : Nat → Int32) (s : Nat) : rk_clr f s 0 = f := by
  funext i
  exact if_neg (by omega)
theorem rk_clr_s (f : Nat → Int32) (s i : Nat) : upd (rk_clr f s i) i (rk_clr f s i i &&& (((1 : Int32) <<< (nI s &&& 31)) ^^^ (-1))) = rk_clr f s (i + 1) := by
  funext j
  by_cases e : j = i
  · subst e
    rw [pk_us]
    unfold rk_clr
    rw [if_neg (by omega), if_pos (by omega)]
  · rw [pk_un e]
    unfold rk_clr
    by_cases z : j < i
    · rw [if_pos z, if_pos (by omega)]
    · rw [if_neg z, if_neg (by omega)]
theorem rk_ycl_0 (f : Nat → Int32) (s : Nat) : rk_ycl f s 0 = f := by
  funext i
  exact if_neg (by omega)
theorem rk_ycl_t (f : Nat → Int32) {s i : Nat} (h : i / 14 = s ∨ i % 14 = s) : upd (rk_ycl f s i) i 0 = rk_ycl f s (i + 1) := by
  funext j
  by_cases e : j = i
  · subst e
    rw [pk_us]
    unfold rk_ycl
    rw [if_pos ⟨by omega, h⟩]
  · rw [pk_un e]
    unfold rk_ycl
    by_cases z : j < i ∧ (j / 14 = s ∨ j % 14 = s)
    · rw [if_pos z, if_pos ⟨by omega, z.2⟩]
    · rw [if_neg z, if_neg (fun y => z ⟨by omega, y.2⟩)]
theorem rk_ycl_f (f : Nat → Int32) {s i : Nat} (h : ¬ (i / 14 = s ∨ i % 14 = s)) : rk_ycl f s i = rk_ycl f s (i + 1) := by
  funext j
  unfold rk_ycl
  by_cases z : j < i ∧ (j / 14 = s ∨ j % 14 = s)
  · rw [if_pos z, if_pos ⟨by omega, z.2⟩]
  · rw [if_neg z]
    rw [if_neg]
    intro y
    rcases Nat.lt_or_ge j i with u | u
    · exact z ⟨u, y.2⟩
    · have : j = i := by omega
      subst this
      exact h y.2
theorem rk_uu (f : Nat → Int32) (k : Nat) (a b : Int32) : upd (upd f k a) k b = upd f k b := by
  funext j
  by_cases e : j = k
  · subst e; rw [pk_us, pk_us]
  · rw [pk_un e, pk_un e, pk_un e]
theorem rk_xd74 {post : SX → Prop} (hs : s < 10) (K : ∃ n, wX_die_111 post (nI s) (E 0 0) (E 1 0) (E 2 0) (E 3 0) (E 4 0) (E 5 0) (E 6 0) (E 7 0) n (nI (4 * s)) (E 8) (E 9) (E 10) (E 11) (E 12) (E 13) (E 14) (E 15) (E 16) (E 17) (E 18) (E 19) (E 20) (E 21) (E 22) (E 23) (E 24) (E 25) (E 26) (E 27) (upd (rk_clr (E 28) s 10) s 0) (E 29) (E 30) (E 31) (E 32) (E 33) (E 34) (E 35) (E 36) (E 37) (E 38) (E 39) (E 40) (E 41) (E 42) (E 43) (E 44) (E 45) (E 46) (E 47) (E 48) (E 49) (E 50) (E 51) (E 52) (E 53) (E 54) (E 55) (E 56)) : ∀ d q, q + d = 10 → wX_die_74 post (nI s) (E 0 0) (E 1 0) (E 2 0) (E 3 0) (E 4 0) (E 5 0) (E 6 0) (E 7 0) (d + 1) (nI q) (E 8) (E 9) (E 10) (E 11) (E 12) (E 13) (E 14) (E 15) (E 16) (E 17) (E 18) (E 19) (E 20) (E 21) (E 22) (E 23) (E 24) (E 25) (E 26) (E 27) (rk_clr (E 28) s q) (E 29) (E 30) (E 31) (E 32) (E 33) (E 34) (E 35) (E 36) (E 37) (E 38) (E 39) (E 40) (E 41) (E 42) (E 43) (E 44) (E 45) (E 46) (E 47) (E 48) (E 49) (E 50) (E 51) (E 52) (E 53) (E 54) (E 55) (E 56) := by
  have is : vp_in (nI s) 10 := rk_in hs
  have es : (nI s).toNatClampNeg = s := rk_cl (by omega)
  intro d
  induction d with
  | zero =>
    intro q hq
    have e : q = 10 := by omega
    subst e
    exact br_t (nI_le (a := 10) (by omega) (by omega)) ⟨is, nm_r (e' := upd (rk_clr (E 28) s 10) s 0) (by rw [es]) (nm_r (e' := nI (4 * s)) (by rw [show (4 : Int32) = nI 4 from rfl, pk_mul]) K)⟩
  | succ d ih =>
    intro q hq
    have iq : vp_in (nI q) 10 := rk_in (by omega)
    have eq : (nI q).toNatClampNeg = q := rk_cl (by omega)
    exact br_f (nI_ge (b := 10) (by omega) (by omega)) ⟨iq, iq, nm_r (e' := rk_clr (E 28) s (q + 1)) (by rw [eq, rk_clr_s]) (nm_r (nI_1 q) (ih (q + 1) (by omega)))⟩
theorem rk_xd111 {post : SX → Prop} (hs : s < 10) (K : ∃ n, wX_die_142 post (nI s) (E 0 0) (E 1 0) (E 2 0) (E 3 0) (E 4 0) (E 5 0) (E 6 0) (E 7 0) n 0 (E 8) (E 9) (E 10) (E 11) (E 12) (E 13) (E 14) (E 15) (E 16) (E 17) (E 18) (E 19) (E 20) (E 21) (E 22) (E 23) (E 24) (E 25) (E 26) (E 27) (E 28) (E 29) (E 30) (E 31) (E 32) (E 33) (E 34) (E 35) (E 36) (E 37) (E 38) (rk_zr (E 39) (4 * s) (4 * s + 4)) (E 40) (E 41) (E 42) (E 43) (upd (E 44) s 0) (E 45) (E 46) (E 47) (E 48) (E 49) (E 50) (E 51) (E 52) (E 53) (E 54) (E 55) (E 56)) : ∀ d g, g + d = 4 * s + 4 → 4 * s ≤ g → wX_die_111 post (nI s) (E 0 0) (E 1 0) (E 2 0) (E 3 0) (E 4 0) (E 5 0) (E 6 0) (E 7 0) (d + 1) (nI g) (E 8) (E 9) (E 10) (E 11) (E 12) (E 13) (E 14) (E 15) (E 16) (E 17) (E 18) (E 19) (E 20) (E 21) (E 22) (E 23) (E 24) (E 25) (E 26) (E 27) (E 28) (E 29) (E 30) (E 31) (E 32) (E 33) (E 34) (E 35) (E 36) (E 37) (E 38) (rk_zr (E 39) (4 * s) g) (E 40) (E 41) (E 42) (E 43) (E 44) (E 45) (E 46) (E 47) (E 48) (E 49) (E 50) (E 51) (E 52) (E 53) (E 54) (E 55) (E 56) := by
  have is : vp_in (nI s) 10 := rk_in hs
  have es : (nI s).toNatClampNeg = s := rk_cl (by omega)
  have e4 : (4 : Int32) * nI s + 4 = nI (4 * s + 4) := rk_4 s 4
  intro d
  induction d with
  | zero =>
    intro g hg hk
    have e : g = 4 * s + 4 := by omega
    subst e
    exact br_t (by rw [e4]; exact nI_le (Nat.le_refl _) (by omega)) ⟨is, nm_r (e' := upd (E 44) s 0) (by rw [es]) K⟩
  | succ d ih =>
    intro g hg hk
    have eg : (nI g).toNatClampNeg = g := rk_cl (by omega)
    exact br_f (by rw [e4]; exact nI_ge (by omega) (by omega)) ⟨rk_in (by omega), nm_r (e' := rk_zr (E 39) (4 * s) (g + 1)) (by rw [eg, rk_vb0, rk_zr_s _ hk]) (nm_r (nI_1 g) (ih (g + 1) (by omega) (by omega)))⟩
theorem rk_xd142 {post : SX → Prop} (hs : s < 10) (K : wX_die_142 post (nI s) (E 0 0) (E 1 0) (E 2 0) (E 3 0) (E 4 0) (E 5 0) (E 6 0) (E 7 0) 1 (nI 3) (E 8) (E 9) (E 10) (E 11) (E 12) (E 13) (E 14) (E 15) (E 16) (E 17) (E 18) (E 19) (E 20) (E 21) (E 22) (E 23) (E 24) (E 25) (E 26) (E 27) (E 28) (E 29) (E 30) (E 31) (E 32) (E 33) (E 34) (E 35) (E 36) (E 37) (E 38) (E 39) (E 40) (E 41) (E 42) (E 43) (E 44) (E 45) (E 46) (E 47) (E 48) (E 49) (E 50) (E 51) (E 52) (E 53) (E 54) (rk_clr (E 55) s 3) (E 56)) : ∀ d k, k + d = 3 → wX_die_142 post (nI s) (E 0 0) (E 1 0) (E 2 0) (E 3 0) (E 4 0) (E 5 0) (E 6 0) (E 7 0) (d + 1) (nI k) (E 8) (E 9) (E 10) (E 11) (E 12) (E 13) (E 14) (E 15) (E 16) (E 17) (E 18) (E 19) (E 20) (E 21) (E 22) (E 23) (E 24) (E 25) (E 26) (E 27) (E 28) (E 29) (E 30) (E 31) (E 32) (E 33) (E 34) (E 35) (E 36) (E 37) (E 38) (E 39) (E 40) (E 41) (E 42) (E 43) (E 44) (E 45) (E 46) (E 47) (E 48) (E 49) (E 50) (E 51) (E 52) (E 53) (E 54) (rk_clr (E 55) s k) (E 56) := by
  intro d
  induction d with
  | zero =>
    intro k hk
    have e : k = 3 := by omega
    subst e
    exact K
  | succ d ih =>
    intro k hk
    have ik : vp_in (nI k) 3 := rk_in (by omega)
    have ek : (nI k).toNatClampNeg = k := rk_cl (by omega)
    exact br_f (nI_ge (b := 3) (by omega) (by omega)) ⟨ik, ik, nm_r (e' := rk_clr (E 55) s (k + 1)) (by rw [ek, rk_clr_s]) (nm_r (nI_1 k) (ih (k + 1) (by omega)))⟩
theorem rk_xd187 {post : SX → Prop} (hs : s < 10) (K : ∃ n, wX_die_254 post ((E 27) s) n 0 ((rk_d8 E s) 0 0) ((rk_d8 E s) 1 0) ((rk_d8 E s) 2 0) ((rk_d8 E s) 3 0) ((rk_d8 E s) 4 0) ((rk_d8 E s) 5 0) ((rk_d8 E s) 6 0) ((rk_d8 E s) 7 0) ((rk_d8 E s) 8) ((rk_d8 E s) 9) ((rk_d8 E s) 10) ((rk_d8 E s) 11) ((rk_d8 E s) 12) ((rk_d8 E s) 13) ((rk_d8 E s) 14) ((rk_d8 E s) 15) ((rk_d8 E s) 16) ((rk_d8 E s) 17) ((rk_d8 E s) 18) ((rk_d8 E s) 19) ((rk_d8 E s) 20) ((rk_d8 E s) 21) ((rk_d8 E s) 22) ((rk_d8 E s) 23) ((rk_d8 E s) 24) ((rk_d8 E s) 25) ((rk_d8 E s) 26) ((rk_d8 E s) 27) ((rk_d8 E s) 28) ((rk_d8 E s) 29) ((rk_d8 E s) 30) ((rk_d8 E s) 31) ((rk_d8 E s) 32) ((rk_d8 E s) 33) ((rk_d8 E s) 34) ((rk_d8 E s) 35) ((rk_d8 E s) 36) ((rk_d8 E s) 37) ((rk_d8 E s) 38) ((rk_d8 E s) 39) ((rk_d8 E s) 40) ((rk_d8 E s) 41) ((rk_d8 E s) 42) ((rk_d8 E s) 43) ((rk_d8 E s) 44) ((rk_d8 E s) 45) ((rk_d8 E s) 46) ((rk_d8 E s) 47) ((rk_d8 E s) 48) ((rk_d8 E s) 49) ((rk_d8 E s) 50) ((rk_d8 E s) 51) ((rk_d8 E s) 52) ((rk_d8 E s) 53) ((rk_d8 E s) 54) ((rk_d8 E s) 55) ((rk_d8 E s) 56)) : wX_die_187 post (nI s) (E 0 0) (E 1 0) (E 2 0) (E 3 0) (E 4 0) (E 5 0) (E 6 0) (E 7 0) (E 8) (E 9) (E 10) (E 11) (E 12) (E 13) (E 14) (E 15) (E 16) (E 17) (E 18) (E 19) (E 20) (E 21) (E 22) (E 23) (E 24) (E 25) (E 26) (E 27) (E 28) (E 29) (E 30) (E 31) (E 32) (E 33) (E 34) (E 35) (E 36) (E 37) (E 38) (E 39) (E 40) (E 41) (E 42) (E 43) (E 44) (E 45) (E 46) (E 47) (E 48) (E 49) (E 50) (E 51) (E 52) (E 53) (E 54) (E 55) (E 56) := by
  have is : vp_in (nI s) 10 := rk_in hs
  have es : (nI s).toNatClampNeg = s := rk_cl (by omega)
  refine And.intro is (nm_r (e' := upd (E 8) s 0) (by rw [es, rk_vb0]) ⟨is, nm_r (e' := upd (E 17) s 0) (by rw [es, rk_vt0]) ⟨is, nm_r (e' := upd (E 26) s 0) (by rw [es, rk_vb0]) ⟨is, is, nm_r (e' := upd (E 12) s ((E 12) s + 1)) (by rw [es]) (nm_r (e' := (E 2 0) - 1) rfl (nm_r (e' := (E 6 0) + 1) rfl ⟨is, nm_r (e' := (E 27) s) (by rw [es]) ⟨is, nm_r (e' := upd (E 27) s 0) (by rw [es]) ?_⟩⟩))⟩⟩⟩)
  exact K
/-! down -/
theorem rk_xdown30 {post : SX → Prop} (hk : k < 3) (hp : ∃ j, j ≤ 8 ∧ (E 51) k = nI j) (K : post (rk_mX (rk_sA (rk_sA E 53 (upd (E 53) k ((E 1 0) + (E 51) k))) 51 (upd (E 51) k (rk_pw ((E 51) k)))))) : wX_down_30 post (nI k) (E 0 0) (E 1 0) (E 2 0) (E 3 0) (E 4 0) (E 5 0) (E 6 0) (E 7 0) (E 8) (E 9) (E 10) (E 11) (E 12) (E 13) (E 14) (E 15) (E 16) (E 17) (E 18) (E 19) (E 20) (E 21) (E 22) (E 23) (E 24) (E 25) (E 26) (E 27) (E 28) (E 29) (E 30) (E 31) (E 32) (E 33) (E 34) (E 35) (E 36) (E 37) (E 38) (E 39) (E 40) (E 41) (E 42) (E 43) (E 44) (E 45) (E 46) (E 47) (E 48) (E 49) (E 50) (E 51) (E 52) (E 53) (E 54) (E 55) (E 56) := by
  have ik : vp_in (nI k) 3 := rk_in hk
  have ek : (nI k).toNatClampNeg = k := rk_cl (by omega)
  obtain ⟨j, hj, ej⟩ := hp
  unfold rk_pw at K
  refine And.intro ik ⟨ik, nm_r (e' := upd (E 53) k ((E 1 0) + (E 51) k)) (by rw [ek]) ⟨ik, ?_⟩⟩
  by_cases c : (E 51) k ≤ 4
  · rw [if_pos c] at K
    refine br_t (by rw [ek]; exact c) ⟨ik, ik, nm_r (e' := upd (E 51) k (2 * (E 51) k)) ?_ K⟩
    rw [ek, ej, show (2 : Int32) * nI j = nI (2 * j) by rw [show (2 : Int32) = nI 2 from rfl, pk_mul], rk_vb8 (by omega)]
  · rw [if_neg c] at K
    exact br_f (by rw [ek]; exact c) ⟨ik, nm_r (e' := upd (E 51) k 8) (by rw [ek]; exact congrArg (upd (E 51) k) (rk_vb8 (b := 8) (by decide))) K⟩
theorem rk_xdown {post : SX → Prop} (hk : k < 3) (hs : s < 10) (hp : ∃ j, j ≤ 8 ∧ (E 51) k = nI j) (K : post (rk_mX (rk_dnX E k s))) : wpX_down post (rk_mX E) (nI k) (nI s) := by
  have ik : vp_in (nI k) 3 := rk_in hk
  have is : vp_in (nI s) 10 := rk_in hs
  have ek : (nI k).toNatClampNeg = k := rk_cl (by omega)
  have es : (nI s).toNatClampNeg = s := rk_cl (by omega)
  unfold rk_dnX rk_pz at K
  refine And.intro ik (nm_r (e' := upd (E 50) k (-1)) (by rw [ek, rk_vbm]) ⟨is, ?_⟩)
  by_cases c : (E 1 0) - (E 45) s < 16
  · rw [if_pos c] at K
    exact br_t (by rw [es]; exact c) (rk_xdown30 (E := rk_sA E 50 (upd (E 50) k (-1))) hk hp K)
  · rw [if_neg c] at K
    refine br_f (by rw [es]; exact c) ⟨ik, nm_r (e' := upd (E 51) k 1) (by rw [ek, rk_vb1]) (rk_xdown30 (E := rk_sA (rk_sA E 50 (upd (E 50) k (-1))) 51 (upd (E 51) k 1)) hk ⟨1, by omega, pk_us⟩ ?_)⟩
    simp only [rk_mX, rk_sA_s, rk_sA_n, ne_eq, Nat.reduceEqDiff, not_false_eq_true, pk_us, rk_uu] at K ⊢
    exact K
theorem rk_ydown25 {post : SY → Prop} (hk : k < 3) (K : post (rk_mY (rk_sA (rk_sA (rk_sA (rk_sA E 70 (upd (E 70) k 2)) 73 (upd (E 73) k (-1))) 53 (upd (E 53) k ((E 74) 0 + (E 51) k))) 51 (upd (E 51) k (rk_pw ((E 51) k)))))) : wY_down_25 post (nI k) (E 57 0) (E 58 0) (E 8) (E 59) (E 9) (E 10) (E 11) (E 13) (E 60) (E 16) (E 15) (E 61) (E 62) (E 36) (E 38) (E 37) (E 63) (E 64) (E 18) (E 65) (E 66) (E 67) (E 68) (E 39) (E 42) (E 43) (E 40) (E 69) (E 70) (E 49) (E 52) (E 51) (E 53) (E 71) (E 72) (E 54) (E 73) (E 74) (E 56) := by
  have ik : vp_in (nI k) 3 := rk_in hk
  have ek : (nI k).toNatClampNeg = k := rk_cl (by omega)
  unfold rk_pw at K
  refine And.intro ik (nm_r (e' := upd (E 70) k 2) (by rw [ek]) ⟨ik, nm_r (e' := upd (E 73) k (-1)) (by rw [ek]) ⟨ik, ik, nm_r (e' := upd (E 53) k ((E 74) 0 + (E 51) k)) (by rw [ek]) ⟨ik, ?_⟩⟩⟩)
  by_cases c : (E 51) k ≤ 4
  · rw [if_pos c] at K
    exact br_t (by rw [ek]; exact c) ⟨ik, ik, nm_r (e' := upd (E 51) k (2 * (E 51) k)) (by rw [ek]) K⟩
  · rw [if_neg c] at K
    exact br_f (by rw [ek]; exact c) ⟨ik, nm_r (e' := upd (E 51) k 8) (by rw [ek]) K⟩
theorem rk_ydown {post : SY → Prop} (hk : k < 3) (K : post (rk_mY (rk_dnY E k))) : wpY_down post (rk_mY E) (nI k) := by
  have ik : vp_in (nI k) 3 := rk_in hk
  have ek : (nI k).toNatClampNeg = k := rk_cl (by omega)
  unfold rk_dnY rk_pz at K
  refine And.intro ik ?_
  by_cases c : (E 74) 0 - (E 72) k < 16
  · rw [if_pos c] at K
    exact br_t (by rw [ek]; exact c) (rk_ydown25 (E := E) hk K)
  · rw [if_neg c] at K
    refine br_f (by rw [ek]; exact c) ⟨ik, nm_r (e' := upd (E 51) k 1) (by rw [ek]) (rk_ydown25 (E := rk_sA E 51 (upd (E 51) k 1)) hk ?_)⟩
    simp only [rk_mY, rk_sA_s, rk_sA_n, ne_eq, Nat.reduceEqDiff, not_false_eq_true, pk_us, rk_uu] at K ⊢
    exact K
/-! Y's loops -/
theorem rk_ye35 {post : SY → Prop} (hs : s < 10) (K : ∃ n, wY_ends_78 post (nI s) old n ((E 57 0) - 1) (E 57 0) (E 58 0) (E 8) (E 59) (E 9) (E 10) (E 11) (E 13) (E 60) (E 16) (E 15) (E 61) (E 62) (E 36) (E 38) (E 37) (E 63) (E 64) (E 18) (rk_ycl (E 65) s 140) (E 66) (E 67) (E 68) (E 39) (E 42) (E 43) (E 40) (E 69) (E 70) (E 49) (E 52) (E 51) (E 53) (E 71) (E 72) (E 54) (E 73) (E 74) (E 56)) : ∀ d i, i + d = 140 → wY_ends_35 post (nI s) old (E 57 0) (E 58 0) (d + 1) (nI i) (E 8) (E 59) (E 9) (E 10) (E 11) (E 13) (E 60) (E 16) (E 15) (E 61) (E 62) (E 36) (E 38) (E 37) (E 63) (E 64) (E 18) (rk_ycl (E 65) s i) (E 66) (E 67) (E 68) (E 39) (E 42) (E 43) (E 40) (E 69) (E 70) (E 49) (E 52) (E 51) (E 53) (E 71) (E 72) (E 54) (E 73) (E 74) (E 56) := by
  intro d
  induction d with
  | zero =>
    intro i hi
    have e : i = 140 := by omega
    subst e
    exact br_t (nI_le (a := 140) (by omega) (by omega)) (nm_e K)
  | succ d ih =>
    intro i hi
    have ii : vp_in (nI i) 140 := rk_in (by omega)
    have ei : (nI i).toNatClampNeg = i := rk_cl (by omega)
    have ed : nI i / 14 = nI (i / 14) := pk_div (d := 14) (by omega) (by omega) (by omega)
    have em : nI i - nI i / 14 * 14 = nI (i % 14) := pk_rem (d := 14) (by omega) (by omega) (by omega)
    have z := ih (i + 1) (by omega)
    refine br_f (nI_ge (b := 140) (by omega) (by omega)) ⟨by decide, ?_⟩
    by_cases c1 : i / 14 = s
    · exact br_t (by rw [ed, c1]) ⟨ii, nm_r (e' := rk_ycl (E 65) s (i + 1)) (by rw [ei, rk_vt0, rk_ycl_t _ (Or.inl c1)]) (nm_r (nI_1 i) z)⟩
    · refine br_f (by rw [ed]; exact fun q => c1 (rk_inj (by omega) (by omega) q)) ⟨by decide, ?_⟩
      by_cases c2 : i % 14 = s
      · exact br_t (by rw [em, c2]) ⟨ii, nm_r (e' := rk_ycl (E 65) s (i + 1)) (by rw [ei, rk_vt0, rk_ycl_t _ (Or.inr c2)]) (nm_r (nI_1 i) z)⟩
      · rw [← rk_ycl_f _ (fun q => q.elim c1 c2)] at z
        exact br_f (by rw [em]; exact fun q => c2 (rk_inj (by omega) (by omega) q)) (nm_r (nI_1 i) z)
theorem rk_ye117 {post : SY → Prop} (hs : s < 10) (K : ∃ n, wY_ends_141 post old n 0 (E 57 0) (E 58 0) (E 8) (E 59) (E 9) (E 10) (E 11) (E 13) (E 60) (E 16) (E 15) (E 61) (E 62) (E 36) (E 38) (E 37) (E 63) (E 64) (E 18) (E 65) (E 66) (E 67) (E 68) (rk_zr (E 39) (4 * s) (4 * s + 4)) (E 42) (E 43) (E 40) (E 69) (E 70) (E 49) (E 52) (E 51) (E 53) (E 71) (E 72) (E 54) (E 73) (E 74) (E 56)) : ∀ d g, g + d = 4 * s + 4 → 4 * s ≤ g → wY_ends_117 post (nI s) old (E 57 0) (E 58 0) (d + 1) (nI g) (E 8) (E 59) (E 9) (E 10) (E 11) (E 13) (E 60) (E 16) (E 15) (E 61) (E 62) (E 36) (E 38) (E 37) (E 63) (E 64) (E 18) (E 65) (E 66) (E 67) (E 68) (rk_zr (E 39) (4 * s) g) (E 42) (E 43) (E 40) (E 69) (E 70) (E 49) (E 52) (E 51) (E 53) (E 71) (E 72) (E 54) (E 73) (E 74) (E 56) := by
  have e4 : (4 : Int32) * nI s + 4 = nI (4 * s + 4) := rk_4 s 4
  intro d
  induction d with
  | zero =>
    intro g hg hk
    have e : g = 4 * s + 4 := by omega
    subst e
    exact br_t (by rw [e4]; exact nI_le (Nat.le_refl _) (by omega)) K
  | succ d ih =>
    intro g hg hk
    have eg : (nI g).toNatClampNeg = g := rk_cl (by omega)
    exact br_f (by rw [e4]; exact nI_ge (by omega) (by omega)) ⟨rk_in (by omega), nm_r (e' := rk_zr (E 39) (4 * s) (g + 1)) (by rw [eg, rk_zr_s _ hk]) (nm_r (nI_1 g) (ih (g + 1) (by omega) (by omega)))⟩
theorem rk_ye182s {post : SY → Prop} {n : Nat} : ∀ d i, i + d ≤ 3 → (∀ j, i ≤ j → j < i + d → ¬ ((E 70) j = 1 ∧ (E 73) j = old)) → wY_ends_182 post old n (nI (i + d)) (E 57 0) (E 58 0) (E 8) (E 59) (E 9) (E 10) (E 11) (E 13) (E 60) (E 16) (E 15) (E 61) (E 62) (E 36) (E 38) (E 37) (E 63) (E 64) (E 18) (E 65) (E 66) (E 67) (E 68) (E 39) (E 42) (E 43) (E 40) (E 69) (E 70) (E 49) (E 52) (E 51) (E 53) (E 71) (E 72) (E 54) (E 73) (E 74) (E 56) → wY_ends_182 post old (n + d) (nI i) (E 57 0) (E 58 0) (E 8) (E 59) (E 9) (E 10) (E 11) (E 13) (E 60) (E 16) (E 15) (E 61) (E 62) (E 36) (E 38) (E 37) (E 63) (E 64) (E 18) (E 65) (E 66) (E 67) (E 68) (E 39) (E 42) (E 43) (E 40) (E 69) (E 70) (E 49) (E 52) (E 51) (E 53) (E 71) (E 72) (E 54) (E 73) (E 74) (E 56) := by
  intro d
  induction d with
  | zero => intro i hi hj K; exact K
  | succ d ih =>
    intro i hi hj K
    have ii : vp_in (nI i) 3 := rk_in (by omega)
    have ei : (nI i).toNatClampNeg = i := rk_cl (by omega)
    have z : wY_ends_182 post old (n + d) (nI (i + 1)) (E 57 0) (E 58 0) (E 8) (E 59) (E 9) (E 10) (E 11) (E 13) (E 60) (E 16) (E 15) (E 61) (E 62) (E 36) (E 38) (E 37) (E 63) (E 64) (E 18) (E 65) (E 66) (E 67) (E 68) (E 39) (E 42) (E 43) (E 40) (E 69) (E 70) (E 49) (E 52) (E 51) (E 53) (E 71) (E 72) (E 54) (E 73) (E 74) (E 56) := by
      refine ih (i + 1) (by omega) (fun j y1 y2 => hj j (by omega) (by omega)) ?_
      rw [show i + 1 + d = i + (d + 1) by omega]
      exact K
    have nm := hj i (Nat.le_refl i) (by omega)
    refine br_f (nI_ge (b := 3) (by omega) (by omega)) ⟨ii, ?_⟩
    by_cases c : (E 70) i = 1
    · exact br_t (by rw [ei]; exact c) ⟨ii, br_f (by rw [ei]; exact fun q => nm ⟨c, q⟩) (nm_r (nI_1 i) z)⟩
    · exact br_f (by rw [ei]; exact c) (nm_r (nI_1 i) z)
theorem rk_ye182 {post : SY → Prop} (hn : ∀ j, j < 3 → ¬ ((E 70) j = 1 ∧ (E 73) j = old)) (K : post (rk_mY E)) : ∃ n, wY_ends_182 post old n 0 (E 57 0) (E 58 0) (E 8) (E 59) (E 9) (E 10) (E 11) (E 13) (E 60) (E 16) (E 15) (E 61) (E 62) (E 36) (E 38) (E 37) (E 63) (E 64) (E 18) (E 65) (E 66) (E 67) (E 68) (E 39) (E 42) (E 43) (E 40) (E 69) (E 70) (E 49) (E 52) (E 51) (E 53) (E 71) (E 72) (E 54) (E 73) (E 74) (E 56) :=
  ⟨1 + 3, rk_ye182s 3 0 (by omega) (fun j _ hj => hn j (by omega)) (br_t (nI_le (a := 3) (by omega) (by omega)) K)⟩
theorem rk_ye182d {post : SY → Prop} (hk : k < 3) (h1 : (E 70) k = 1) (h2 : (E 73) k = old) (hn : ∀ j, j < 3 → j ≠ k → ¬ ((E 70) j = 1 ∧ (E 73) j = old)) (K : post (rk_mY (rk_dnY E k))) : ∃ n, wY_ends_182 post old n 0 (E 57 0) (E 58 0) (E 8) (E 59) (E 9) (E 10) (E 11) (E 13) (E 60) (E 16) (E 15) (E 61) (E 62) (E 36) (E 38) (E 37) (E 63) (E 64) (E 18) (E 65) (E 66) (E 67) (E 68) (E 39) (E 42) (E 43) (E 40) (E 69) (E 70) (E 49) (E 52) (E 51) (E 53) (E 71) (E 72) (E 54) (E 73) (E 74) (E 56) := by
  have ik : vp_in (nI k) 3 := rk_in hk
  have ek : (nI k).toNatClampNeg = k := rk_cl (by omega)
  refine ⟨(1 + (3 - (k + 1)) + 1) + k, rk_ye182s k 0 (by omega) (fun j _ hj => hn j (by omega) (by omega)) ?_⟩
  rw [Nat.zero_add]
  refine br_f (nI_ge (b := 3) hk (by omega)) ⟨ik, br_t (by rw [ek]; exact h1) ⟨ik, br_t (by rw [ek]; exact h2) ?_⟩⟩
  refine rk_ydown (E := E) hk (nm_r (nI_1 k) ?_)
  refine rk_ye182s (E := rk_dnY E k) (3 - (k + 1)) (k + 1) (by omega) (fun j y1 y2 => ?_) ?_
  · show ¬ (upd (E 70) k 2 j = 1 ∧ upd (E 73) k (-1) j = old)
    rw [pk_un (by omega), pk_un (by omega)]
    exact hn j (by omega) (by omega)
  · rw [show k + 1 + (3 - (k + 1)) = 3 by omega]
    exact br_t (nI_le (a := 3) (by omega) (by omega)) K
end
end
section
/-! an end: the law of the rest -/
section
variable {C E : rk_ST} {N : Nat} {s r p k c a : Nat} {x e v how old : Int32} {bs : Nat → Nat} {w : Nat} {Q F : List Nat} {tt : Nat → Nat} {sg : Nat → Int}
theorem rk_al_0 {al : Nat → Int32} {t : Nat} (h : t ≠ s) (z : al t = 1) : upd al s 0 t = 1 := by rw [pk_un h]; exact z
theorem rk_LX_end {al lf ln f1 f2 lc po : Nat → Int32} {sp : Int32} (hs : s < 10) (h : rk_LX (Q.filter (rk_gd tt lf s)) tt sg F al lf ln f1 f2 lc po sp) : rk_LX (Q.filter (rk_gd tt lf s)) tt sg F (upd al s 0) lf ln f1 f2 lc po sp := by
  obtain ⟨h1, h2⟩ := h
  refine ⟨fun c hc => ?_, h2⟩
  obtain ⟨a1, a2, a3, a, a4, a5, a6⟩ := h1 c hc
  obtain ⟨g1, g2⟩ := rk_gd_iff.mp (List.mem_filter.mp hc).2
  exact ⟨a1, a2, rk_al_0 g1 a3, a, a4, rk_al_0 (fun z => g2 (by rw [a6, z])) a5, a6⟩
theorem rk_clr_b (f : Nat → Int32) {i q t : Nat} (hs : s < 10) (hq : q < i) (ht : t < 32) : bt (rk_clr f s i q) t = (bt (f q) t && !decide (t = s)) := by
  unfold rk_clr
  rw [if_pos hq, rk_bclr _ (by omega) ht]
theorem rk_No_end {al no yn : Nat → Int32} (hs : s < 10) (h : rk_No al no yn) : rk_No (upd al s 0) (upd (rk_clr no s 10) s 0) (rk_ycl yn s 140) := by
  obtain ⟨h1, h2, h3⟩ := h
  refine ⟨fun r hr k hk => ?_, fun r hr k hk => ?_, fun r hr k hk z => ?_⟩
  · unfold rk_ycl
    have e1 : (14 * r + k) / 14 = r := by omega
    have e2 : (14 * r + k) % 14 = k := by omega
    rw [e1, e2]
    by_cases er : r = s
    · subst er
      rw [if_pos ⟨by omega, Or.inl rfl⟩, pk_us, b_0]
      rfl
    · rw [pk_un er, rk_clr_b _ hs hr (by omega)]
      by_cases ek : k = s
      · rw [if_pos ⟨by omega, Or.inr ek⟩, decide_eq_true ek, Bool.not_true, Bool.and_false]
        rfl
      · rw [if_neg (fun z => z.2.elim er ek), decide_eq_false ek, Bool.not_false, Bool.and_true]
        exact h1 r hr k hk
  · by_cases er : r = s
    · subst er
      rw [pk_us, b_0]
    · rw [pk_un er]
      rcases Nat.lt_or_ge k 32 with y | y
      · rw [rk_clr_b _ hs hr y, h2 r hr k hk]
        rfl
      · exact b_big y
  · by_cases er : r = s
    · subst er
      rw [pk_us, b_0] at z
      exact absurd z (by decide)
    · rw [pk_un er, rk_clr_b _ hs hr (by omega), Bool.and_eq_true] at z
      have ek : k ≠ s := by
        intro y
        rw [decide_eq_true y] at z
        exact absurd z.2 (by decide)
      exact rk_al_0 ek (h3 r hr k hk z.1)
theorem rk_Am_end {al xa ya : Nat → Int32} (h : rk_Am bs al xa ya) : rk_Am bs (upd al s 0) (upd xa s 0) ya := by
  intro t ht
  by_cases e : t = s
  · subst e
    rw [pk_us, pk_us]
    exact Or.inl ⟨rfl, rfl⟩
  · rw [pk_un e, pk_un e]
    exact h t ht
theorem rk_Wa_end {al wa yw : Nat → Int32} (hs : s < 10) (h : rk_Wa al wa yw) : rk_Wa (upd al s 0) (rk_clr wa s 3) yw := by
  intro k hk q hq
  rw [rk_clr_b _ hs hk (by omega), h k hk q hq]
  by_cases e : q = s
  · subst e
    rw [pk_us, decide_eq_true rfl, Bool.not_true, Bool.and_false]
    rfl
  · rw [pk_un e, decide_eq_false e, Bool.not_false, Bool.and_true]
theorem rk_Sv_end0 {al be th pr sv sr xl xb yl yb srv : Nat → Int32} {v : Int32} (hs : s < 10) (h0 : sr s = -1) (h : rk_Sv al be th pr sv sr xl xb yl yb srv) : rk_Sv (upd al s 0) (upd be s v) th pr sv sr xl xb yl yb srv := by
  obtain ⟨h1, h2⟩ := h
  refine ⟨fun k hk => ?_, fun p hp z => ?_⟩
  · rcases h1 k hk with y | y | ⟨y0, y0', p, y1, y2, y3, y4, y5, y6⟩
    · exact Or.inl y
    · exact Or.inr (Or.inl y)
    · have hp : p ≠ s := by
        intro e
        rw [e, h0] at y4
        exact rk_nI_m1 (by omega) y4.symm
      exact Or.inr (Or.inr ⟨y0, y0', p, y1, y2, rk_al_0 hp y3, y4, by rw [rk_ep_up hp]; exact y5, y6⟩)
  · have hp' : p ≠ s := by
      intro e
      rw [e, pk_us] at z
      exact absurd z (by decide)
    rw [pk_un hp'] at z
    exact h2 p hp z
theorem rk_Sv_end1 {al be th pr sv sr xl xb yl yb srv : Nat → Int32} {v : Int32} (hs : s < 10) (hk0 : k < 3) (h0 : sr s = nI k) (h0' : pr k = nI s) (h : rk_Sv al be th pr sv sr xl xb yl yb srv) : rk_Sv (upd al s 0) (upd be s v) th (upd pr k (-1)) (upd sv k 2) sr xl xb yl yb (upd srv k (-1)) := by
  obtain ⟨h1, h2⟩ := h
  refine ⟨fun j hj => ?_, fun p hp z => ?_⟩
  · by_cases ej : j = k
    · subst ej
      have ht : th j = 1 := by
        rcases h1 j hj with y | y | y
        · rw [y.2.2] at h0'; exact absurd h0'.symm (rk_nI_m1 (by omega))
        · exact y.1
        · exact y.1
      refine Or.inr (Or.inl ⟨ht, pk_us, pk_us, pk_us⟩)
    · unfold rk_Sk
      rw [pk_un ej, pk_un ej, pk_un ej]
      rcases h1 j hj with y | y | ⟨y0, y0', p, y1, y2, y3, y4, y5, y6⟩
      · exact Or.inl y
      · exact Or.inr (Or.inl y)
      · have hp : p ≠ s := by
          intro e
          rw [e, h0] at y4
          exact ej (rk_inj (by omega) (by omega) y4).symm
        exact Or.inr (Or.inr ⟨y0, y0', p, y1, y2, rk_al_0 hp y3, y4, by rw [rk_ep_up hp]; exact y5, y6⟩)
  · have hp' : p ≠ s := by
      intro e
      rw [e, pk_us] at z
      exact absurd z (by decide)
    rw [pk_un hp'] at z
    rcases h2 p hp z with y | ⟨j, y1, y2, y3⟩
    · exact Or.inl y
    · refine Or.inr ⟨j, y1, y2, ?_⟩
      rw [pk_un (j := j) (k := k) (fun e => ?_)]
      · exact y3
      · rw [e, h0'] at y3
        exact hp' (rk_inj (by omega) (by omega) y3).symm
theorem rk_Sr_pw {sb pa li : Nat → Int32} {nw bo : Int32} (h : rk_Sr sb pa li) : rk_Sr sb (upd pa k (rk_pw (rk_pz nw bo (pa k)))) li := by
  intro j hj
  obtain ⟨a1, ⟨i, a2, a3⟩, a4⟩ := h j hj
  refine ⟨a1, ?_, a4⟩
  by_cases e : j = k
  · subst e
    rw [pk_us]
    have hz : ∃ i, i ≤ 8 ∧ rk_pz nw bo (pa j) = nI i := by
      unfold rk_pz
      split
      · exact ⟨i, a2, a3⟩
      · exact ⟨1, by omega, rfl⟩
    obtain ⟨i', b1, b2⟩ := hz
    rw [b2]
    unfold rk_pw
    by_cases c : nI i' ≤ 4
    · rw [if_pos c]
      have c' : i' ≤ 4 := (nI_leI (b := 4) (by omega) (by omega)).mp c
      exact ⟨2 * i', by omega, by rw [show (2 : Int32) = nI 2 from rfl, pk_mul]⟩
    · rw [if_neg c]
      exact ⟨8, by omega, rfl⟩
  · rw [pk_un e]
    exact ⟨i, a2, a3⟩
theorem rk_Gr_zr {kd fa ho wr yh : Nat → Int32} {lo hi : Nat} (h : rk_Gr kd fa ho wr yh) : rk_Gr (rk_zr kd lo hi) fa ho wr yh := by
  intro g hg
  unfold rk_zr
  by_cases z : lo ≤ g ∧ g < hi
  · rw [if_pos z]
    exact Or.inl rfl
  · rw [if_neg z]
    exact h g hg
theorem rk_To_15 {to : Nat → Int32} {nw pr mg ng lg en co : Int32} (h : rk_To to nw pr mg ng lg en co) : rk_To (upd (upd to 1 (to 1 - 1)) 5 (upd to 1 (to 1 - 1) 5 + 1)) nw (pr - 1) mg ng lg (en + 1) co := by
  obtain ⟨a0, a1, a2, a3, a4, a5, a6⟩ := h
  have n (j : Nat) (h5 : j ≠ 5) (h1 : j ≠ 1) : upd (upd to 1 (to 1 - 1)) 5 (upd to 1 (to 1 - 1) 5 + 1) j = to j := by rw [pk_un h5, pk_un h1]
  refine ⟨(n 0 (by decide) (by decide)).trans a0, ?_, (n 2 (by decide) (by decide)).trans a2, (n 3 (by decide) (by decide)).trans a3, (n 4 (by decide) (by decide)).trans a4, ?_, (n 6 (by decide) (by decide)).trans a6⟩
  · rw [pk_un (j := 1) (k := 5) (by decide), pk_us, a1]
  · rw [pk_us, pk_un (j := 5) (k := 1) (by decide), a5]
theorem rk_Re_fr (hfr : ∀ j, rk_cor j = false → E j = C j) (h : rk_Re bs w C) : rk_Re bs w E := by
  unfold rk_Re rk_LeC at *
  rw [hfr 75 rfl, hfr 29 rfl, hfr 30 rfl, hfr 31 rfl, hfr 32 rfl, hfr 33 rfl, hfr 34 rfl, hfr 35 rfl, hfr 0 rfl, hfr 57 rfl, hfr 66 rfl, hfr 67 rfl, hfr 68 rfl,
    hfr 28 rfl, hfr 65 rfl, hfr 44 rfl, hfr 61 rfl, hfr 55 rfl, hfr 62 rfl, hfr 12 rfl, hfr 48 rfl, hfr 50 rfl, hfr 70 rfl, hfr 47 rfl, hfr 46 rfl, hfr 45 rfl, hfr 71 rfl, hfr 72 rfl, hfr 73 rfl,
    hfr 49 rfl, hfr 51 rfl, hfr 52 rfl, hfr 39 rfl, hfr 40 rfl, hfr 41 rfl, hfr 43 rfl, hfr 69 rfl, hfr 74 rfl, hfr 1 rfl, hfr 2 rfl, hfr 3 rfl, hfr 4 rfl, hfr 5 rfl, hfr 6 rfl, hfr 7 rfl]
  exact h
end
end
section
/-! an end: put together -/
def rk_d1 (C : rk_ST) (nx pv fr bk bh fi la se wt : Nat → Int32) : rk_ST := rk_sA (rk_sA (rk_sA (rk_sA (rk_sA (rk_sA (rk_sA (rk_sA (rk_sA C 19 nx) 20 pv) 21 fr) 22 bk) 23 bh) 24 fi) 25 la) 26 se) 27 wt
/-- Y's part, the end of s but for those who waited and for the services -/
def rk_dY (C : rk_ST) (s : Nat) (yf yt yx : Nat → Int32) (yl : Int32) : rk_ST :=
  rk_sA (rk_ly (rk_sA (rk_sA (rk_sA C 8 (upd (C 8) s 0)) 74 (upd (upd (C 74) 1 ((C 74) 1 - 1)) 5 (upd (C 74) 1 ((C 74) 1 - 1) 5 + 1))) 65 (rk_ycl (C 65) s 140)) yf yt yx yl) 39 (rk_zr (C 39) (4 * s) (4 * s + 4))
def rk_d6 (E : rk_ST) (s : Nat) : rk_ST := rk_sA (rk_sA (rk_sA (rk_sA E 28 (upd (rk_clr (E 28) s 10) s 0)) 39 (rk_zr (E 39) (4 * s) (4 * s + 4))) 44 (upd (E 44) s 0)) 55 (rk_clr (E 55) s 3)
/-- both parts -/
def rk_dG (C : rk_ST) (s : Nat) (E : rk_ST) (yf yt yx : Nat → Int32) (yl : Int32) (pr du pa sv sr : Nat → Int32) : rk_ST :=
  rk_sA (rk_sA (rk_sA (rk_sA (rk_ly (rk_sA (rk_d8 (rk_sA (rk_sA (rk_sA (rk_d6 E s) 50 pr) 53 du) 51 pa) s) 74 (upd (upd (C 74) 1 ((C 74) 1 - 1)) 5 (upd (C 74) 1 ((C 74) 1 - 1) 5 + 1))) yf yt yx yl) 65 (rk_ycl (C 65) s 140)) 70 sv) 73 sr) 75 (upd (C 75) s 0)
section
variable {C : rk_ST} {N : Nat} {s r p k c a : Nat} {x e v how : Int32} {bs : Nat → Nat} {w : Nat} {Q F : List Nat} {tt : Nat → Nat} {sg : Nat → Int}
/-- out of its row, or out of the waits and the queue of the one it waits for -/
theorem rk_detach (hN : N ≤ 67108864) (hs : s < 10) (ha : (C 75) s = 1) (h : rk_Co N rk_fa 0 C C) :
    ∃ nx pv fr bk bh fi la se wt : Nat → Int32, (∀ r t, r < 10 → t < 10 → bt (wt r) t = (bt ((C 27) r) t && !decide (t = s))) ∧ rk_Ro (upd (C 8) s 0) (C 10) (C 63) nx pv fr bk ∧ rk_Qu (upd (C 8) s 0) (C 14) (C 12) (C 63) bh fi la se ∧
      ∀ post : SX → Prop, wX_die_67 post (nI s) ((rk_d1 C nx pv fr bk bh fi la se wt) 0 0) ((rk_d1 C nx pv fr bk bh fi la se wt) 1 0) ((rk_d1 C nx pv fr bk bh fi la se wt) 2 0) ((rk_d1 C nx pv fr bk bh fi la se wt) 3 0) ((rk_d1 C nx pv fr bk bh fi la se wt) 4 0) ((rk_d1 C nx pv fr bk bh fi la se wt) 5 0) ((rk_d1 C nx pv fr bk bh fi la se wt) 6 0) ((rk_d1 C nx pv fr bk bh fi la se wt) 7 0) ((rk_d1 C nx pv fr bk bh fi la se wt) 8) ((rk_d1 C nx pv fr bk bh fi la se wt) 9) ((rk_d1 C nx pv fr bk bh fi la se wt) 10) ((rk_d1 C nx pv fr bk bh fi la se wt) 11) ((rk_d1 C nx pv fr bk bh fi la se wt) 12) ((rk_d1 C nx pv fr bk bh fi la se wt) 13) ((rk_d1 C nx pv fr bk bh fi la se wt) 14) ((rk_d1 C nx pv fr bk bh fi la se wt) 15) ((rk_d1 C nx pv fr bk bh fi la se wt) 16) ((rk_d1 C nx pv fr bk bh fi la se wt) 17) ((rk_d1 C nx pv fr bk bh fi la se wt) 18) ((rk_d1 C nx pv fr bk bh fi la se wt) 19) ((rk_d1 C nx pv fr bk bh fi la se wt) 20) ((rk_d1 C nx pv fr bk bh fi la se wt) 21) ((rk_d1 C nx pv fr bk bh fi la se wt) 22) ((rk_d1 C nx pv fr bk bh fi la se wt) 23) ((rk_d1 C nx pv fr bk bh fi la se wt) 24) ((rk_d1 C nx pv fr bk bh fi la se wt) 25) ((rk_d1 C nx pv fr bk bh fi la se wt) 26) ((rk_d1 C nx pv fr bk bh fi la se wt) 27) ((rk_d1 C nx pv fr bk bh fi la se wt) 28) ((rk_d1 C nx pv fr bk bh fi la se wt) 29) ((rk_d1 C nx pv fr bk bh fi la se wt) 30) ((rk_d1 C nx pv fr bk bh fi la se wt) 31) ((rk_d1 C nx pv fr bk bh fi la se wt) 32) ((rk_d1 C nx pv fr bk bh fi la se wt) 33) ((rk_d1 C nx pv fr bk bh fi la se wt) 34) ((rk_d1 C nx pv fr bk bh fi la se wt) 35) ((rk_d1 C nx pv fr bk bh fi la se wt) 36) ((rk_d1 C nx pv fr bk bh fi la se wt) 37) ((rk_d1 C nx pv fr bk bh fi la se wt) 38) ((rk_d1 C nx pv fr bk bh fi la se wt) 39) ((rk_d1 C nx pv fr bk bh fi la se wt) 40) ((rk_d1 C nx pv fr bk bh fi la se wt) 41) ((rk_d1 C nx pv fr bk bh fi la se wt) 42) ((rk_d1 C nx pv fr bk bh fi la se wt) 43) ((rk_d1 C nx pv fr bk bh fi la se wt) 44) ((rk_d1 C nx pv fr bk bh fi la se wt) 45) ((rk_d1 C nx pv fr bk bh fi la se wt) 46) ((rk_d1 C nx pv fr bk bh fi la se wt) 47) ((rk_d1 C nx pv fr bk bh fi la se wt) 48) ((rk_d1 C nx pv fr bk bh fi la se wt) 49) ((rk_d1 C nx pv fr bk bh fi la se wt) 50) ((rk_d1 C nx pv fr bk bh fi la se wt) 51) ((rk_d1 C nx pv fr bk bh fi la se wt) 52) ((rk_d1 C nx pv fr bk bh fi la se wt) 53) ((rk_d1 C nx pv fr bk bh fi la se wt) 54) ((rk_d1 C nx pv fr bk bh fi la se wt) 55) ((rk_d1 C nx pv fr bk bh fi la se wt) 56) → wpX_die post (rk_mX C) (nI s) := by
  obtain ⟨hT, hL, hB, hM, hR, hW, hA, hQ⟩ := h
  have is : vp_in (nI s) 10 := rk_in hs
  have es : (nI s).toNatClampNeg = s := rk_cl (by omega)
  obtain ⟨p, hp, hl⟩ := (hL s hs).1
  have hS0 : ¬ (C 8) s = 2 → ∀ r t, rk_S (upd (C 8) s 0) (C 14) (C 12) r t ↔ rk_S (C 8) (C 14) (C 12) r t := by
    intro n2 r t
    unfold rk_S
    by_cases e : t = s
    · subst e
      rw [pk_us]
      exact ⟨fun z => absurd z.2.2.1 (by decide), fun z => absurd z.2.2.1 n2⟩
    · rw [pk_un e]
  rcases rk_Tie_st hT hs ha with h1 | hw
  · have hRs : rk_R (C 8) (C 10) p s := ⟨hp, hs, h1, hl⟩
    refine ⟨rk_uL (C 19) (C 20) s, rk_uL (C 20) (C 19) s, rk_uH (C 21) (C 19) (C 20) p s, rk_uH (C 22) (C 20) (C 19) p s, (C 23), (C 24), (C 25), (C 26), (C 27), fun r t hr ht => ?_, rk_Ro_unl hT hM hs hp hl h1 (by decide) hR, rk_Qu_same (hS0 (by rw [h1]; decide)) (fun _ _ _ => rfl) hQ, fun post K => ?_⟩
    · by_cases e : t = s
      · subst e
        have z : bt ((C 27) r) t = false := by
          cases z : bt ((C 27) r) t
          · rfl
          · exact absurd h1 (rk_wg_ne1 ((hW.2.1 r t hr ht).mp z).2.2.1)
        rw [z]
        rfl
      · rw [decide_eq_false e, Bool.not_false, Bool.and_true]
    · refine And.intro is (br_t (by rw [es]; exact h1) ?_)
      refine rk_xunlink (C := C) hs hp hl (rk_cd_Nx (fun t z => z.2.1) ((hR p hp).1 s hRs)) (rk_cd_Pv (fun t z => z.2.1) ((hR p hp).2.1 s hRs)) ?_
      simp only [rk_sA_s, rk_sA_n, ne_eq, Nat.reduceEqDiff, not_false_eq_true, rk_d1] at K
      simp only [rk_mX, rk_sA_s, rk_sA_n, ne_eq, Nat.reduceEqDiff, not_false_eq_true, rk_unl]
      exact K
  · have n1 : ¬ (C 8) s = 1 := rk_wg_ne1 hw
    have hRo : rk_Ro (upd (C 8) s 0) (C 10) (C 63) (C 19) (C 20) (C 21) (C 22) := by
      have z := rk_Ro_same (s := s) (v := 0) (x := (C 10) s) (y := (C 63) s) n1 (by decide) hR
      rw [rk_upp, rk_upp] at z
      exact z
    have hwt := rk_wait_tg hW hs hw
    have hbits := rk_wclr_b hN hB hW.2.1 hs hwt
    by_cases c2 : (C 8) s = 2
    · have hr : ∃ r, r < 10 ∧ (C 14) s = rk_ep (C 12) r := by
        rcases (hW.1 s hs hw).2.2 with z | ⟨_, r, z1, _, _, z2⟩ | z
        · rw [c2] at z; exact absurd z.2.2 (by decide)
        · exact ⟨r, z1, z2⟩
        · exact absurd z.1 id
      obtain ⟨r, hr, ewh⟩ := hr
      have hS : rk_S (C 8) (C 14) (C 12) r s := ⟨hr, hs, c2, ewh⟩
      have p0 : ¬ (C 14) s < 0 := by rw [ewh]; exact rk_ep_pos hN hB hr
      have e15 : (C 14) s &&& 15 = nI r := by rw [ewh]; exact rk_ep_and hN hB hr
      have ir : vp_in (nI r) 10 := rk_in hr
      have er : (nI r).toNatClampNeg = r := rk_cl (by omega)
      have hsn : ∃ n, n ≤ 10 ∧ (C 26) r = nI (n + 1) := by
        have c10 := rk_cn_le (rk_sb (C 8) (C 14) (C 12) r) 10
        have z : 0 < rk_cn (rk_sb (C 8) (C 14) (C 12) r) 10 := rk_cn_pos.mpr ⟨s, hs, (rk_sb_S hr hs).mpr hS⟩
        refine ⟨rk_cn (rk_sb (C 8) (C 14) (C 12) r) 10 - 1, by omega, ?_⟩
        rw [(hQ r hr).2]
        exact congrArg nI (by omega)
      have ewc : rk_wclr (C 27) ((C 14) s) s = upd (C 27) r ((C 27) r &&& (((1 : Int32) <<< (nI s &&& 31)) ^^^ (-1))) := by
        unfold rk_wclr
        rw [if_neg p0, e15, er]
      obtain ⟨pc, hpc, DX⟩ := rk_xdequeue (C := rk_sA C 27 (rk_wclr (C 27) ((C 14) s) s)) (S := rk_S (C 8) (C 14) (C 12) r) (m := rk_m (C 63)) (fun t z => z.2.1) (rk_S_in hT hM r) hS hr (hQ r hr).1 hsn
      refine ⟨(C 19), (C 20), (C 21), (C 22), rk_dB (C 23) pc s, rk_dF (C 24) (C 23) pc r s, rk_dL (C 25) pc r s, upd (C 26) r ((C 26) r - 1), rk_wclr (C 27) ((C 14) s) s, hbits, hRo, ?_, fun post K => ?_⟩
      · refine rk_Qu_del (rk_S_in hT hM r) (rk_S_dj hN hB r) hr hS hpc (fun q t => ?_) (fun _ _ => rfl) hQ
        unfold rk_S
        by_cases e : t = s
        · subst e
          rw [pk_us]
          exact ⟨fun z => absurd z.2.2.1 (by decide), fun z => absurd rfl z.2⟩
        · rw [pk_un e]
          exact ⟨fun z => ⟨z, e⟩, fun z => z.1⟩
      · refine And.intro is (br_f (by rw [es]; exact n1) ⟨is, br_f (by rw [es]; exact p0) ⟨is, nm_r (e' := nI r) (by rw [es]; exact e15) ⟨ir, ir, nm_r (e' := rk_wclr (C 27) ((C 14) s) s) (by rw [er, ewc]) ⟨is, br_t (by rw [es]; exact c2) (DX _ ?_)⟩⟩⟩⟩)
        simp only [rk_sA_s, rk_sA_n, ne_eq, Nat.reduceEqDiff, not_false_eq_true, rk_d1] at K
        simp only [rk_mX, rk_sA_s, rk_sA_n, ne_eq, Nat.reduceEqDiff, not_false_eq_true, rk_deq]
        exact K
    · refine ⟨(C 19), (C 20), (C 21), (C 22), (C 23), (C 24), (C 25), (C 26), rk_wclr (C 27) ((C 14) s) s, hbits, hRo, rk_Qu_same (hS0 c2) (fun _ _ _ => rfl) hQ, fun post K => ?_⟩
      refine And.intro is (br_f (by rw [es]; exact n1) ⟨is, ?_⟩)
      simp only [rk_sA_s, rk_sA_n, ne_eq, Nat.reduceEqDiff, not_false_eq_true, rk_d1] at K
      rcases hwt with ewh | ⟨r, hr, ewh⟩
      · have l0 : (C 14) s < 0 := by rw [ewh]; exact rk_m1lt
        unfold rk_wclr at K
        rw [if_pos l0] at K
        exact br_t (by rw [es]; exact l0) K
      · have p0 : ¬ (C 14) s < 0 := by rw [ewh]; exact rk_ep_pos hN hB hr
        have e15 : (C 14) s &&& 15 = nI r := by rw [ewh]; exact rk_ep_and hN hB hr
        have ir : vp_in (nI r) 10 := rk_in hr
        have er : (nI r).toNatClampNeg = r := rk_cl (by omega)
        unfold rk_wclr at K
        rw [if_neg p0, e15, er] at K
        exact br_f (by rw [es]; exact p0) ⟨is, nm_r (e' := nI r) (by rw [es]; exact e15) ⟨ir, ir, nm_r (e' := upd (C 27) r ((C 27) r &&& (((1 : Int32) <<< (nI s &&& 31)) ^^^ (-1)))) (by rw [er]) ⟨is, br_f (by rw [es]; exact c2) K⟩⟩⟩
theorem rk_xdE {E : rk_ST} {post : SX → Prop} (hs : s < 10) (K : wX_die_142 post (nI s) ((rk_d6 E s) 0 0) ((rk_d6 E s) 1 0) ((rk_d6 E s) 2 0) ((rk_d6 E s) 3 0) ((rk_d6 E s) 4 0) ((rk_d6 E s) 5 0) ((rk_d6 E s) 6 0) ((rk_d6 E s) 7 0) 1 (nI 3) ((rk_d6 E s) 8) ((rk_d6 E s) 9) ((rk_d6 E s) 10) ((rk_d6 E s) 11) ((rk_d6 E s) 12) ((rk_d6 E s) 13) ((rk_d6 E s) 14) ((rk_d6 E s) 15) ((rk_d6 E s) 16) ((rk_d6 E s) 17) ((rk_d6 E s) 18) ((rk_d6 E s) 19) ((rk_d6 E s) 20) ((rk_d6 E s) 21) ((rk_d6 E s) 22) ((rk_d6 E s) 23) ((rk_d6 E s) 24) ((rk_d6 E s) 25) ((rk_d6 E s) 26) ((rk_d6 E s) 27) ((rk_d6 E s) 28) ((rk_d6 E s) 29) ((rk_d6 E s) 30) ((rk_d6 E s) 31) ((rk_d6 E s) 32) ((rk_d6 E s) 33) ((rk_d6 E s) 34) ((rk_d6 E s) 35) ((rk_d6 E s) 36) ((rk_d6 E s) 37) ((rk_d6 E s) 38) ((rk_d6 E s) 39) ((rk_d6 E s) 40) ((rk_d6 E s) 41) ((rk_d6 E s) 42) ((rk_d6 E s) 43) ((rk_d6 E s) 44) ((rk_d6 E s) 45) ((rk_d6 E s) 46) ((rk_d6 E s) 47) ((rk_d6 E s) 48) ((rk_d6 E s) 49) ((rk_d6 E s) 50) ((rk_d6 E s) 51) ((rk_d6 E s) 52) ((rk_d6 E s) 53) ((rk_d6 E s) 54) ((rk_d6 E s) 55) ((rk_d6 E s) 56)) : ∃ n, wX_die_74 post (nI s) (E 0 0) (E 1 0) (E 2 0) (E 3 0) (E 4 0) (E 5 0) (E 6 0) (E 7 0) n 0 (E 8) (E 9) (E 10) (E 11) (E 12) (E 13) (E 14) (E 15) (E 16) (E 17) (E 18) (E 19) (E 20) (E 21) (E 22) (E 23) (E 24) (E 25) (E 26) (E 27) (E 28) (E 29) (E 30) (E 31) (E 32) (E 33) (E 34) (E 35) (E 36) (E 37) (E 38) (E 39) (E 40) (E 41) (E 42) (E 43) (E 44) (E 45) (E 46) (E 47) (E 48) (E 49) (E 50) (E 51) (E 52) (E 53) (E 54) (E 55) (E 56) := by
  simp only [rk_sA_s, rk_sA_n, ne_eq, Nat.reduceEqDiff, not_false_eq_true, rk_d6] at K
  have z3 := rk_xd142 (E := rk_sA (rk_sA (rk_sA E 28 (upd (rk_clr (E 28) s 10) s 0)) 39 (rk_zr (E 39) (4 * s) (4 * s + 4))) 44 (upd (E 44) s 0)) (post := post) hs (by
    simp only [rk_sA_s, rk_sA_n, ne_eq, Nat.reduceEqDiff, not_false_eq_true]
    exact K) 3 0 rfl
  rw [rk_clr_0] at z3
  have z2 := rk_xd111 (E := rk_sA E 28 (upd (rk_clr (E 28) s 10) s 0)) (post := post) hs ⟨4, by
    simp only [rk_sA_s, rk_sA_n, ne_eq, Nat.reduceEqDiff, not_false_eq_true] at z3 ⊢
    exact z3⟩ 4 (4 * s) (by omega) (Nat.le_refl _)
  rw [rk_zr_0] at z2
  have z1 := rk_xd74 (E := E) (post := post) hs ⟨5, by
    simp only [rk_sA_s, rk_sA_n, ne_eq, Nat.reduceEqDiff, not_false_eq_true] at z2
    exact z2⟩ 10 0 rfl
  rw [rk_clr_0] at z1
  exact ⟨11, z1⟩
theorem rk_254G {E : rk_ST} {yf yt yx pr du pa sv sr : Nat → Int32} {yl all : Int32} {post : SX → Prop} {n : Nat} (z : wX_die_254 post all n 0 ((rk_dG C s E yf yt yx yl pr du pa sv sr) 0 0) ((rk_dG C s E yf yt yx yl pr du pa sv sr) 1 0) ((rk_dG C s E yf yt yx yl pr du pa sv sr) 2 0) ((rk_dG C s E yf yt yx yl pr du pa sv sr) 3 0) ((rk_dG C s E yf yt yx yl pr du pa sv sr) 4 0) ((rk_dG C s E yf yt yx yl pr du pa sv sr) 5 0) ((rk_dG C s E yf yt yx yl pr du pa sv sr) 6 0) ((rk_dG C s E yf yt yx yl pr du pa sv sr) 7 0) ((rk_dG C s E yf yt yx yl pr du pa sv sr) 8) ((rk_dG C s E yf yt yx yl pr du pa sv sr) 9) ((rk_dG C s E yf yt yx yl pr du pa sv sr) 10) ((rk_dG C s E yf yt yx yl pr du pa sv sr) 11) ((rk_dG C s E yf yt yx yl pr du pa sv sr) 12) ((rk_dG C s E yf yt yx yl pr du pa sv sr) 13) ((rk_dG C s E yf yt yx yl pr du pa sv sr) 14) ((rk_dG C s E yf yt yx yl pr du pa sv sr) 15) ((rk_dG C s E yf yt yx yl pr du pa sv sr) 16) ((rk_dG C s E yf yt yx yl pr du pa sv sr) 17) ((rk_dG C s E yf yt yx yl pr du pa sv sr) 18) ((rk_dG C s E yf yt yx yl pr du pa sv sr) 19) ((rk_dG C s E yf yt yx yl pr du pa sv sr) 20) ((rk_dG C s E yf yt yx yl pr du pa sv sr) 21) ((rk_dG C s E yf yt yx yl pr du pa sv sr) 22) ((rk_dG C s E yf yt yx yl pr du pa sv sr) 23) ((rk_dG C s E yf yt yx yl pr du pa sv sr) 24) ((rk_dG C s E yf yt yx yl pr du pa sv sr) 25) ((rk_dG C s E yf yt yx yl pr du pa sv sr) 26) ((rk_dG C s E yf yt yx yl pr du pa sv sr) 27) ((rk_dG C s E yf yt yx yl pr du pa sv sr) 28) ((rk_dG C s E yf yt yx yl pr du pa sv sr) 29) ((rk_dG C s E yf yt yx yl pr du pa sv sr) 30) ((rk_dG C s E yf yt yx yl pr du pa sv sr) 31) ((rk_dG C s E yf yt yx yl pr du pa sv sr) 32) ((rk_dG C s E yf yt yx yl pr du pa sv sr) 33) ((rk_dG C s E yf yt yx yl pr du pa sv sr) 34) ((rk_dG C s E yf yt yx yl pr du pa sv sr) 35) ((rk_dG C s E yf yt yx yl pr du pa sv sr) 36) ((rk_dG C s E yf yt yx yl pr du pa sv sr) 37) ((rk_dG C s E yf yt yx yl pr du pa sv sr) 38) ((rk_dG C s E yf yt yx yl pr du pa sv sr) 39) ((rk_dG C s E yf yt yx yl pr du pa sv sr) 40) ((rk_dG C s E yf yt yx yl pr du pa sv sr) 41) ((rk_dG C s E yf yt yx yl pr du pa sv sr) 42) ((rk_dG C s E yf yt yx yl pr du pa sv sr) 43) ((rk_dG C s E yf yt yx yl pr du pa sv sr) 44) ((rk_dG C s E yf yt yx yl pr du pa sv sr) 45) ((rk_dG C s E yf yt yx yl pr du pa sv sr) 46) ((rk_dG C s E yf yt yx yl pr du pa sv sr) 47) ((rk_dG C s E yf yt yx yl pr du pa sv sr) 48) ((rk_dG C s E yf yt yx yl pr du pa sv sr) 49) ((rk_dG C s E yf yt yx yl pr du pa sv sr) 50) ((rk_dG C s E yf yt yx yl pr du pa sv sr) 51) ((rk_dG C s E yf yt yx yl pr du pa sv sr) 52) ((rk_dG C s E yf yt yx yl pr du pa sv sr) 53) ((rk_dG C s E yf yt yx yl pr du pa sv sr) 54) ((rk_dG C s E yf yt yx yl pr du pa sv sr) 55) ((rk_dG C s E yf yt yx yl pr du pa sv sr) 56)) : wX_die_254 post all n 0 ((rk_d8 (rk_sA (rk_sA (rk_sA (rk_d6 E s) 50 pr) 53 du) 51 pa) s) 0 0) ((rk_d8 (rk_sA (rk_sA (rk_sA (rk_d6 E s) 50 pr) 53 du) 51 pa) s) 1 0) ((rk_d8 (rk_sA (rk_sA (rk_sA (rk_d6 E s) 50 pr) 53 du) 51 pa) s) 2 0) ((rk_d8 (rk_sA (rk_sA (rk_sA (rk_d6 E s) 50 pr) 53 du) 51 pa) s) 3 0) ((rk_d8 (rk_sA (rk_sA (rk_sA (rk_d6 E s) 50 pr) 53 du) 51 pa) s) 4 0) ((rk_d8 (rk_sA (rk_sA (rk_sA (rk_d6 E s) 50 pr) 53 du) 51 pa) s) 5 0) ((rk_d8 (rk_sA (rk_sA (rk_sA (rk_d6 E s) 50 pr) 53 du) 51 pa) s) 6 0) ((rk_d8 (rk_sA (rk_sA (rk_sA (rk_d6 E s) 50 pr) 53 du) 51 pa) s) 7 0) ((rk_d8 (rk_sA (rk_sA (rk_sA (rk_d6 E s) 50 pr) 53 du) 51 pa) s) 8) ((rk_d8 (rk_sA (rk_sA (rk_sA (rk_d6 E s) 50 pr) 53 du) 51 pa) s) 9) ((rk_d8 (rk_sA (rk_sA (rk_sA (rk_d6 E s) 50 pr) 53 du) 51 pa) s) 10) ((rk_d8 (rk_sA (rk_sA (rk_sA (rk_d6 E s) 50 pr) 53 du) 51 pa) s) 11) ((rk_d8 (rk_sA (rk_sA (rk_sA (rk_d6 E s) 50 pr) 53 du) 51 pa) s) 12) ((rk_d8 (rk_sA (rk_sA (rk_sA (rk_d6 E s) 50 pr) 53 du) 51 pa) s) 13) ((rk_d8 (rk_sA (rk_sA (rk_sA (rk_d6 E s) 50 pr) 53 du) 51 pa) s) 14) ((rk_d8 (rk_sA (rk_sA (rk_sA (rk_d6 E s) 50 pr) 53 du) 51 pa) s) 15) ((rk_d8 (rk_sA (rk_sA (rk_sA (rk_d6 E s) 50 pr) 53 du) 51 pa) s) 16) ((rk_d8 (rk_sA (rk_sA (rk_sA (rk_d6 E s) 50 pr) 53 du) 51 pa) s) 17) ((rk_d8 (rk_sA (rk_sA (rk_sA (rk_d6 E s) 50 pr) 53 du) 51 pa) s) 18) ((rk_d8 (rk_sA (rk_sA (rk_sA (rk_d6 E s) 50 pr) 53 du) 51 pa) s) 19) ((rk_d8 (rk_sA (rk_sA (rk_sA (rk_d6 E s) 50 pr) 53 du) 51 pa) s) 20) ((rk_d8 (rk_sA (rk_sA (rk_sA (rk_d6 E s) 50 pr) 53 du) 51 pa) s) 21) ((rk_d8 (rk_sA (rk_sA (rk_sA (rk_d6 E s) 50 pr) 53 du) 51 pa) s) 22) ((rk_d8 (rk_sA (rk_sA (rk_sA (rk_d6 E s) 50 pr) 53 du) 51 pa) s) 23) ((rk_d8 (rk_sA (rk_sA (rk_sA (rk_d6 E s) 50 pr) 53 du) 51 pa) s) 24) ((rk_d8 (rk_sA (rk_sA (rk_sA (rk_d6 E s) 50 pr) 53 du) 51 pa) s) 25) ((rk_d8 (rk_sA (rk_sA (rk_sA (rk_d6 E s) 50 pr) 53 du) 51 pa) s) 26) ((rk_d8 (rk_sA (rk_sA (rk_sA (rk_d6 E s) 50 pr) 53 du) 51 pa) s) 27) ((rk_d8 (rk_sA (rk_sA (rk_sA (rk_d6 E s) 50 pr) 53 du) 51 pa) s) 28) ((rk_d8 (rk_sA (rk_sA (rk_sA (rk_d6 E s) 50 pr) 53 du) 51 pa) s) 29) ((rk_d8 (rk_sA (rk_sA (rk_sA (rk_d6 E s) 50 pr) 53 du) 51 pa) s) 30) ((rk_d8 (rk_sA (rk_sA (rk_sA (rk_d6 E s) 50 pr) 53 du) 51 pa) s) 31) ((rk_d8 (rk_sA (rk_sA (rk_sA (rk_d6 E s) 50 pr) 53 du) 51 pa) s) 32) ((rk_d8 (rk_sA (rk_sA (rk_sA (rk_d6 E s) 50 pr) 53 du) 51 pa) s) 33) ((rk_d8 (rk_sA (rk_sA (rk_sA (rk_d6 E s) 50 pr) 53 du) 51 pa) s) 34) ((rk_d8 (rk_sA (rk_sA (rk_sA (rk_d6 E s) 50 pr) 53 du) 51 pa) s) 35) ((rk_d8 (rk_sA (rk_sA (rk_sA (rk_d6 E s) 50 pr) 53 du) 51 pa) s) 36) ((rk_d8 (rk_sA (rk_sA (rk_sA (rk_d6 E s) 50 pr) 53 du) 51 pa) s) 37) ((rk_d8 (rk_sA (rk_sA (rk_sA (rk_d6 E s) 50 pr) 53 du) 51 pa) s) 38) ((rk_d8 (rk_sA (rk_sA (rk_sA (rk_d6 E s) 50 pr) 53 du) 51 pa) s) 39) ((rk_d8 (rk_sA (rk_sA (rk_sA (rk_d6 E s) 50 pr) 53 du) 51 pa) s) 40) ((rk_d8 (rk_sA (rk_sA (rk_sA (rk_d6 E s) 50 pr) 53 du) 51 pa) s) 41) ((rk_d8 (rk_sA (rk_sA (rk_sA (rk_d6 E s) 50 pr) 53 du) 51 pa) s) 42) ((rk_d8 (rk_sA (rk_sA (rk_sA (rk_d6 E s) 50 pr) 53 du) 51 pa) s) 43) ((rk_d8 (rk_sA (rk_sA (rk_sA (rk_d6 E s) 50 pr) 53 du) 51 pa) s) 44) ((rk_d8 (rk_sA (rk_sA (rk_sA (rk_d6 E s) 50 pr) 53 du) 51 pa) s) 45) ((rk_d8 (rk_sA (rk_sA (rk_sA (rk_d6 E s) 50 pr) 53 du) 51 pa) s) 46) ((rk_d8 (rk_sA (rk_sA (rk_sA (rk_d6 E s) 50 pr) 53 du) 51 pa) s) 47) ((rk_d8 (rk_sA (rk_sA (rk_sA (rk_d6 E s) 50 pr) 53 du) 51 pa) s) 48) ((rk_d8 (rk_sA (rk_sA (rk_sA (rk_d6 E s) 50 pr) 53 du) 51 pa) s) 49) ((rk_d8 (rk_sA (rk_sA (rk_sA (rk_d6 E s) 50 pr) 53 du) 51 pa) s) 50) ((rk_d8 (rk_sA (rk_sA (rk_sA (rk_d6 E s) 50 pr) 53 du) 51 pa) s) 51) ((rk_d8 (rk_sA (rk_sA (rk_sA (rk_d6 E s) 50 pr) 53 du) 51 pa) s) 52) ((rk_d8 (rk_sA (rk_sA (rk_sA (rk_d6 E s) 50 pr) 53 du) 51 pa) s) 53) ((rk_d8 (rk_sA (rk_sA (rk_sA (rk_d6 E s) 50 pr) 53 du) 51 pa) s) 54) ((rk_d8 (rk_sA (rk_sA (rk_sA (rk_d6 E s) 50 pr) 53 du) 51 pa) s) 55) ((rk_d8 (rk_sA (rk_sA (rk_sA (rk_d6 E s) 50 pr) 53 du) 51 pa) s) 56) := by
  simp only [rk_sA_n, ne_eq, Nat.reduceEqDiff, not_false_eq_true, rk_dG, rk_ly] at z
  exact z
theorem rk_141G {nx pv fr bk bh fi la se wt ln f1 f2 lc po : Nat → Int32} {sp : Int32} {yf yt yx pr du pa sv sr : Nat → Int32} {yl old : Int32} {post : SY → Prop} {n : Nat}
    (z : wY_ends_141 post old n 0 ((rk_ov (rk_dG C s (rk_le (rk_d1 C nx pv fr bk bh fi la se wt) ln f1 f2 lc po sp) yf yt yx yl pr du pa sv sr) (C 70) (C 73) (C 51) (C 53)) 57 0) ((rk_ov (rk_dG C s (rk_le (rk_d1 C nx pv fr bk bh fi la se wt) ln f1 f2 lc po sp) yf yt yx yl pr du pa sv sr) (C 70) (C 73) (C 51) (C 53)) 58 0) ((rk_ov (rk_dG C s (rk_le (rk_d1 C nx pv fr bk bh fi la se wt) ln f1 f2 lc po sp) yf yt yx yl pr du pa sv sr) (C 70) (C 73) (C 51) (C 53)) 8) ((rk_ov (rk_dG C s (rk_le (rk_d1 C nx pv fr bk bh fi la se wt) ln f1 f2 lc po sp) yf yt yx yl pr du pa sv sr) (C 70) (C 73) (C 51) (C 53)) 59) ((rk_ov (rk_dG C s (rk_le (rk_d1 C nx pv fr bk bh fi la se wt) ln f1 f2 lc po sp) yf yt yx yl pr du pa sv sr) (C 70) (C 73) (C 51) (C 53)) 9) ((rk_ov (rk_dG C s (rk_le (rk_d1 C nx pv fr bk bh fi la se wt) ln f1 f2 lc po sp) yf yt yx yl pr du pa sv sr) (C 70) (C 73) (C 51) (C 53)) 10) ((rk_ov (rk_dG C s (rk_le (rk_d1 C nx pv fr bk bh fi la se wt) ln f1 f2 lc po sp) yf yt yx yl pr du pa sv sr) (C 70) (C 73) (C 51) (C 53)) 11) ((rk_ov (rk_dG C s (rk_le (rk_d1 C nx pv fr bk bh fi la se wt) ln f1 f2 lc po sp) yf yt yx yl pr du pa sv sr) (C 70) (C 73) (C 51) (C 53)) 13) ((rk_ov (rk_dG C s (rk_le (rk_d1 C nx pv fr bk bh fi la se wt) ln f1 f2 lc po sp) yf yt yx yl pr du pa sv sr) (C 70) (C 73) (C 51) (C 53)) 60) ((rk_ov (rk_dG C s (rk_le (rk_d1 C nx pv fr bk bh fi la se wt) ln f1 f2 lc po sp) yf yt yx yl pr du pa sv sr) (C 70) (C 73) (C 51) (C 53)) 16) ((rk_ov (rk_dG C s (rk_le (rk_d1 C nx pv fr bk bh fi la se wt) ln f1 f2 lc po sp) yf yt yx yl pr du pa sv sr) (C 70) (C 73) (C 51) (C 53)) 15) ((rk_ov (rk_dG C s (rk_le (rk_d1 C nx pv fr bk bh fi la se wt) ln f1 f2 lc po sp) yf yt yx yl pr du pa sv sr) (C 70) (C 73) (C 51) (C 53)) 61) ((rk_ov (rk_dG C s (rk_le (rk_d1 C nx pv fr bk bh fi la se wt) ln f1 f2 lc po sp) yf yt yx yl pr du pa sv sr) (C 70) (C 73) (C 51) (C 53)) 62) ((rk_ov (rk_dG C s (rk_le (rk_d1 C nx pv fr bk bh fi la se wt) ln f1 f2 lc po sp) yf yt yx yl pr du pa sv sr) (C 70) (C 73) (C 51) (C 53)) 36) ((rk_ov (rk_dG C s (rk_le (rk_d1 C nx pv fr bk bh fi la se wt) ln f1 f2 lc po sp) yf yt yx yl pr du pa sv sr) (C 70) (C 73) (C 51) (C 53)) 38) ((rk_ov (rk_dG C s (rk_le (rk_d1 C nx pv fr bk bh fi la se wt) ln f1 f2 lc po sp) yf yt yx yl pr du pa sv sr) (C 70) (C 73) (C 51) (C 53)) 37) ((rk_ov (rk_dG C s (rk_le (rk_d1 C nx pv fr bk bh fi la se wt) ln f1 f2 lc po sp) yf yt yx yl pr du pa sv sr) (C 70) (C 73) (C 51) (C 53)) 63) ((rk_ov (rk_dG C s (rk_le (rk_d1 C nx pv fr bk bh fi la se wt) ln f1 f2 lc po sp) yf yt yx yl pr du pa sv sr) (C 70) (C 73) (C 51) (C 53)) 64) ((rk_ov (rk_dG C s (rk_le (rk_d1 C nx pv fr bk bh fi la se wt) ln f1 f2 lc po sp) yf yt yx yl pr du pa sv sr) (C 70) (C 73) (C 51) (C 53)) 18) ((rk_ov (rk_dG C s (rk_le (rk_d1 C nx pv fr bk bh fi la se wt) ln f1 f2 lc po sp) yf yt yx yl pr du pa sv sr) (C 70) (C 73) (C 51) (C 53)) 65) ((rk_ov (rk_dG C s (rk_le (rk_d1 C nx pv fr bk bh fi la se wt) ln f1 f2 lc po sp) yf yt yx yl pr du pa sv sr) (C 70) (C 73) (C 51) (C 53)) 66) ((rk_ov (rk_dG C s (rk_le (rk_d1 C nx pv fr bk bh fi la se wt) ln f1 f2 lc po sp) yf yt yx yl pr du pa sv sr) (C 70) (C 73) (C 51) (C 53)) 67) ((rk_ov (rk_dG C s (rk_le (rk_d1 C nx pv fr bk bh fi la se wt) ln f1 f2 lc po sp) yf yt yx yl pr du pa sv sr) (C 70) (C 73) (C 51) (C 53)) 68) ((rk_ov (rk_dG C s (rk_le (rk_d1 C nx pv fr bk bh fi la se wt) ln f1 f2 lc po sp) yf yt yx yl pr du pa sv sr) (C 70) (C 73) (C 51) (C 53)) 39) ((rk_ov (rk_dG C s (rk_le (rk_d1 C nx pv fr bk bh fi la se wt) ln f1 f2 lc po sp) yf yt yx yl pr du pa sv sr) (C 70) (C 73) (C 51) (C 53)) 42) ((rk_ov (rk_dG C s (rk_le (rk_d1 C nx pv fr bk bh fi la se wt) ln f1 f2 lc po sp) yf yt yx yl pr du pa sv sr) (C 70) (C 73) (C 51) (C 53)) 43) ((rk_ov (rk_dG C s (rk_le (rk_d1 C nx pv fr bk bh fi la se wt) ln f1 f2 lc po sp) yf yt yx yl pr du pa sv sr) (C 70) (C 73) (C 51) (C 53)) 40) ((rk_ov (rk_dG C s (rk_le (rk_d1 C nx pv fr bk bh fi la se wt) ln f1 f2 lc po sp) yf yt yx yl pr du pa sv sr) (C 70) (C 73) (C 51) (C 53)) 69) ((rk_ov (rk_dG C s (rk_le (rk_d1 C nx pv fr bk bh fi la se wt) ln f1 f2 lc po sp) yf yt yx yl pr du pa sv sr) (C 70) (C 73) (C 51) (C 53)) 70) ((rk_ov (rk_dG C s (rk_le (rk_d1 C nx pv fr bk bh fi la se wt) ln f1 f2 lc po sp) yf yt yx yl pr du pa sv sr) (C 70) (C 73) (C 51) (C 53)) 49) ((rk_ov (rk_dG C s (rk_le (rk_d1 C nx pv fr bk bh fi la se wt) ln f1 f2 lc po sp) yf yt yx yl pr du pa sv sr) (C 70) (C 73) (C 51) (C 53)) 52) ((rk_ov (rk_dG C s (rk_le (rk_d1 C nx pv fr bk bh fi la se wt) ln f1 f2 lc po sp) yf yt yx yl pr du pa sv sr) (C 70) (C 73) (C 51) (C 53)) 51) ((rk_ov (rk_dG C s (rk_le (rk_d1 C nx pv fr bk bh fi la se wt) ln f1 f2 lc po sp) yf yt yx yl pr du pa sv sr) (C 70) (C 73) (C 51) (C 53)) 53) ((rk_ov (rk_dG C s (rk_le (rk_d1 C nx pv fr bk bh fi la se wt) ln f1 f2 lc po sp) yf yt yx yl pr du pa sv sr) (C 70) (C 73) (C 51) (C 53)) 71) ((rk_ov (rk_dG C s (rk_le (rk_d1 C nx pv fr bk bh fi la se wt) ln f1 f2 lc po sp) yf yt yx yl pr du pa sv sr) (C 70) (C 73) (C 51) (C 53)) 72) ((rk_ov (rk_dG C s (rk_le (rk_d1 C nx pv fr bk bh fi la se wt) ln f1 f2 lc po sp) yf yt yx yl pr du pa sv sr) (C 70) (C 73) (C 51) (C 53)) 54) ((rk_ov (rk_dG C s (rk_le (rk_d1 C nx pv fr bk bh fi la se wt) ln f1 f2 lc po sp) yf yt yx yl pr du pa sv sr) (C 70) (C 73) (C 51) (C 53)) 73) ((rk_ov (rk_dG C s (rk_le (rk_d1 C nx pv fr bk bh fi la se wt) ln f1 f2 lc po sp) yf yt yx yl pr du pa sv sr) (C 70) (C 73) (C 51) (C 53)) 74) ((rk_ov (rk_dG C s (rk_le (rk_d1 C nx pv fr bk bh fi la se wt) ln f1 f2 lc po sp) yf yt yx yl pr du pa sv sr) (C 70) (C 73) (C 51) (C 53)) 56)) : wY_ends_141 post old n 0 ((rk_dY C s yf yt yx yl) 57 0) ((rk_dY C s yf yt yx yl) 58 0) ((rk_dY C s yf yt yx yl) 8) ((rk_dY C s yf yt yx yl) 59) ((rk_dY C s yf yt yx yl) 9) ((rk_dY C s yf yt yx yl) 10) ((rk_dY C s yf yt yx yl) 11) ((rk_dY C s yf yt yx yl) 13) ((rk_dY C s yf yt yx yl) 60) ((rk_dY C s yf yt yx yl) 16) ((rk_dY C s yf yt yx yl) 15) ((rk_dY C s yf yt yx yl) 61) ((rk_dY C s yf yt yx yl) 62) ((rk_dY C s yf yt yx yl) 36) ((rk_dY C s yf yt yx yl) 38) ((rk_dY C s yf yt yx yl) 37) ((rk_dY C s yf yt yx yl) 63) ((rk_dY C s yf yt yx yl) 64) ((rk_dY C s yf yt yx yl) 18) ((rk_dY C s yf yt yx yl) 65) ((rk_dY C s yf yt yx yl) 66) ((rk_dY C s yf yt yx yl) 67) ((rk_dY C s yf yt yx yl) 68) ((rk_dY C s yf yt yx yl) 39) ((rk_dY C s yf yt yx yl) 42) ((rk_dY C s yf yt yx yl) 43) ((rk_dY C s yf yt yx yl) 40) ((rk_dY C s yf yt yx yl) 69) ((rk_dY C s yf yt yx yl) 70) ((rk_dY C s yf yt yx yl) 49) ((rk_dY C s yf yt yx yl) 52) ((rk_dY C s yf yt yx yl) 51) ((rk_dY C s yf yt yx yl) 53) ((rk_dY C s yf yt yx yl) 71) ((rk_dY C s yf yt yx yl) 72) ((rk_dY C s yf yt yx yl) 54) ((rk_dY C s yf yt yx yl) 73) ((rk_dY C s yf yt yx yl) 74) ((rk_dY C s yf yt yx yl) 56) := by
  simp only [rk_sA_s, rk_sA_n, ne_eq, Nat.reduceEqDiff, not_false_eq_true, rk_dG, rk_ly, rk_d8, rk_d6, rk_le, rk_d1, rk_ov, rk_dY] at z ⊢
  exact z
theorem rk_yeE {yf yt yx : Nat → Int32} {yl old : Int32} {post : SY → Prop} (hs : s < 10) (hl : nI Q.length + (-1) = (C 57 0) - 1)
    (YF : ∀ (C' : rk_ST) (old : Int32) (post : SY → Prop), (wY_ends_78 post (nI s) old 1 (-1) (yl) (C' 58 0) (C' 8) (C' 59) (C' 9) (C' 10) (C' 11) (C' 13) (C' 60) (C' 16) (C' 15) (C' 61) (C' 62) (C' 36) (C' 38) (C' 37) (C' 63) (C' 64) (C' 18) (C' 65) (yf) (yt) (yx) (C' 39) (C' 42) (C' 43) (C' 40) (C' 69) (C' 70) (C' 49) (C' 52) (C' 51) (C' 53) (C' 71) (C' 72) (C' 54) (C' 73) (C' 74) (C' 56) → wY_ends_78 post (nI s) old (Q.length + 1) (nI Q.length + (-1)) ((C 57 0)) (C' 58 0) (C' 8) (C' 59) (C' 9) (C' 10) (C' 11) (C' 13) (C' 60) (C' 16) (C' 15) (C' 61) (C' 62) (C' 36) (C' 38) (C' 37) (C' 63) (C' 64) (C' 18) (C' 65) ((C 66)) ((C 67)) ((C 68)) (C' 39) (C' 42) (C' 43) (C' 40) (C' 69) (C' 70) (C' 49) (C' 52) (C' 51) (C' 53) (C' 71) (C' 72) (C' 54) (C' 73) (C' 74) (C' 56)))
    (K : ∃ n, wY_ends_141 post old n 0 ((rk_dY C s yf yt yx yl) 57 0) ((rk_dY C s yf yt yx yl) 58 0) ((rk_dY C s yf yt yx yl) 8) ((rk_dY C s yf yt yx yl) 59) ((rk_dY C s yf yt yx yl) 9) ((rk_dY C s yf yt yx yl) 10) ((rk_dY C s yf yt yx yl) 11) ((rk_dY C s yf yt yx yl) 13) ((rk_dY C s yf yt yx yl) 60) ((rk_dY C s yf yt yx yl) 16) ((rk_dY C s yf yt yx yl) 15) ((rk_dY C s yf yt yx yl) 61) ((rk_dY C s yf yt yx yl) 62) ((rk_dY C s yf yt yx yl) 36) ((rk_dY C s yf yt yx yl) 38) ((rk_dY C s yf yt yx yl) 37) ((rk_dY C s yf yt yx yl) 63) ((rk_dY C s yf yt yx yl) 64) ((rk_dY C s yf yt yx yl) 18) ((rk_dY C s yf yt yx yl) 65) ((rk_dY C s yf yt yx yl) 66) ((rk_dY C s yf yt yx yl) 67) ((rk_dY C s yf yt yx yl) 68) ((rk_dY C s yf yt yx yl) 39) ((rk_dY C s yf yt yx yl) 42) ((rk_dY C s yf yt yx yl) 43) ((rk_dY C s yf yt yx yl) 40) ((rk_dY C s yf yt yx yl) 69) ((rk_dY C s yf yt yx yl) 70) ((rk_dY C s yf yt yx yl) 49) ((rk_dY C s yf yt yx yl) 52) ((rk_dY C s yf yt yx yl) 51) ((rk_dY C s yf yt yx yl) 53) ((rk_dY C s yf yt yx yl) 71) ((rk_dY C s yf yt yx yl) 72) ((rk_dY C s yf yt yx yl) 54) ((rk_dY C s yf yt yx yl) 73) ((rk_dY C s yf yt yx yl) 74) ((rk_dY C s yf yt yx yl) 56)) : wY_ends_35 post (nI s) old (C 57 0) (C 58 0) 141 0 (upd (C 8) s 0) (C 59) (C 9) (C 10) (C 11) (C 13) (C 60) (C 16) (C 15) (C 61) (C 62) (C 36) (C 38) (C 37) (C 63) (C 64) (C 18) (C 65) (C 66) (C 67) (C 68) (C 39) (C 42) (C 43) (C 40) (C 69) (C 70) (C 49) (C 52) (C 51) (C 53) (C 71) (C 72) (C 54) (C 73) (upd (upd (C 74) 1 ((C 74) 1 - 1)) 5 (upd (C 74) 1 ((C 74) 1 - 1) 5 + 1)) (C 56) := by
  obtain ⟨n, K⟩ := K
  have y4 := rk_ye117 (E := rk_ly (rk_sA (rk_sA (rk_sA C 8 (upd (C 8) s 0)) 74 (upd (upd (C 74) 1 ((C 74) 1 - 1)) 5 (upd (C 74) 1 ((C 74) 1 - 1) 5 + 1))) 65 (rk_ycl (C 65) s 140)) yf yt yx yl) (post := post) (old := old) hs ⟨n, by
    simp only [rk_sA_s, rk_sA_n, ne_eq, Nat.reduceEqDiff, not_false_eq_true, rk_ly, rk_dY] at K ⊢
    exact K⟩ 4 (4 * s) (by omega) (Nat.le_refl _)
  rw [rk_zr_0] at y4
  have y3 := YF (rk_sA (rk_sA (rk_sA C 8 (upd (C 8) s 0)) 74 (upd (upd (C 74) 1 ((C 74) 1 - 1)) 5 (upd (C 74) 1 ((C 74) 1 - 1) 5 + 1))) 65 (rk_ycl (C 65) s 140)) old post (br_t rk_m1lt (nm_r (e' := nI (4 * s)) (by rw [show (4 : Int32) = nI 4 from rfl, pk_mul]) ⟨5, by
    simp only [rk_sA_s, rk_sA_n, ne_eq, Nat.reduceEqDiff, not_false_eq_true, rk_ly] at y4 ⊢
    exact y4⟩))
  rw [hl] at y3
  have y2 := rk_ye35 (E := rk_sA (rk_sA C 8 (upd (C 8) s 0)) 74 (upd (upd (C 74) 1 ((C 74) 1 - 1)) 5 (upd (C 74) 1 ((C 74) 1 - 1) 5 + 1))) (post := post) (old := old) hs ⟨Q.length + 1, by
    simp only [rk_sA_s, rk_sA_n, ne_eq, Nat.reduceEqDiff, not_false_eq_true] at y3 ⊢
    exact y3⟩ 140 0 rfl
  rw [rk_ycl_0] at y2
  simp only [rk_sA_s, rk_sA_n, ne_eq, Nat.reduceEqDiff, not_false_eq_true] at y2
  exact y2
theorem rk_dG_re {nx pv fr bk bh fi la se wt ln f1 f2 lc po : Nat → Int32} {sp : Int32} {yf yt yx pr du pa sv sr : Nat → Int32} {yl : Int32}
    (a1 : rk_Le (upd (C 75) s 0) (C 29) ln f1 f2 lc po (C 35) sp yl yf yt yx) (a2 : rk_No (upd (C 75) s 0) (upd (rk_clr (C 28) s 10) s 0) (rk_ycl (C 65) s 140)) (a3 : rk_Am bs (upd (C 75) s 0) (upd (C 44) s 0) (C 61)) (a4 : rk_Wa (upd (C 75) s 0) (rk_clr (C 55) s 3) (C 62))
    (a5 : rk_Sv (upd (C 75) s 0) (upd (C 12) s ((C 12) s + 1)) (C 48) pr sv (C 47) (C 46) (C 45) (C 71) (C 72) sr) (a6 : rk_Sr (C 49) pa (C 52)) (a7 : rk_Gr (rk_zr (C 39) (4 * s) (4 * s + 4)) (C 40) (C 41) (C 43) (C 69))
    (a8 : rk_To (upd (upd (C 74) 1 ((C 74) 1 - 1)) 5 (upd (C 74) 1 ((C 74) 1 - 1) 5 + 1)) (C 1 0) ((C 2 0) - 1) (C 3 0) (C 4 0) (C 5 0) ((C 6 0) + 1) (C 7 0)) (a9 : (C 1 0) = nI w) :
    rk_Re bs w (rk_dG C s (rk_le (rk_d1 C nx pv fr bk bh fi la se wt) ln f1 f2 lc po sp) yf yt yx yl pr du pa sv sr) := by
  unfold rk_Re rk_LeC
  simp only [rk_sA_s, rk_sA_n, ne_eq, Nat.reduceEqDiff, not_false_eq_true, rk_dG, rk_ly, rk_d8, rk_d6, rk_le, rk_d1]
  exact ⟨a1, a2, a3, a4, a5, a6, a7, a8, a9⟩
theorem rk_dG_co {nx pv fr bk bh fi la se wt ln f1 f2 lc po : Nat → Int32} {sp : Int32} {yf yt yx pr du pa sv sr : Nat → Int32} {yl old : Int32} {D : Nat → Prop} {M : Nat}
    (c1 : rk_Tie (upd (C 8) s 0) (upd (C 75) s 0)) (c0 : rk_Lev (C 10) (C 9) (C 11)) (c2 : rk_Bir M (upd (C 75) s 0) (upd (C 12) s ((C 12) s + 1)) (C 59)) (c3 : rk_Mom M (upd (C 75) s 0) (C 63) (C 58 0)) (cR : rk_Ro (upd (C 8) s 0) (C 10) (C 63) nx pv fr bk)
    (c4 : rk_Wt D old (upd (C 8) s 0) (upd (C 75) s 0) (C 14) (C 60) (C 15) (upd (C 12) s ((C 12) s + 1)) (upd wt s 0) (upd (C 17) s 0) (C 64)) (c5 : rk_Ac (upd (C 8) s 0) (C 14) (upd (C 12) s ((C 12) s + 1))) (c6 : rk_Qu (upd (C 8) s 0) (C 14) (upd (C 12) s ((C 12) s + 1)) (C 63) bh fi la (upd se s 0)) :
    rk_Co M D old (rk_dG C s (rk_le (rk_d1 C nx pv fr bk bh fi la se wt) ln f1 f2 lc po sp) yf yt yx yl pr du pa sv sr) (rk_dG C s (rk_le (rk_d1 C nx pv fr bk bh fi la se wt) ln f1 f2 lc po sp) yf yt yx yl pr du pa sv sr) := by
  unfold rk_Co
  simp only [rk_sA_s, rk_sA_n, ne_eq, Nat.reduceEqDiff, not_false_eq_true, rk_dG, rk_ly, rk_d8, rk_d6, rk_le, rk_d1]
  exact ⟨c1, c0, c2, c3, cR, c4, c5, c6⟩
theorem rk_dieG (hN : N + 11 ≤ 67108864) (hs : s < 10) (ha : (C 75) s = 1) (h : rk_In N bs w C) {pr du pa sv sr : Nat → Int32}
    (hSv : rk_Sv (upd (C 75) s 0) (upd (C 12) s ((C 12) s + 1)) (C 48) pr sv (C 47) (C 46) (C 45) (C 71) (C 72) sr) (hSr : rk_Sr (C 49) pa (C 52))
    (XH : ∀ E : rk_ST, (E 47) = (C 47) → (E 50) = (C 50) → (E 45) = (C 45) → (E 51) = (C 51) → (E 53) = (C 53) → (E 1 0) = (C 1 0) → ∀ post : SX → Prop, (∃ n, wX_die_254 post ((E 27) s) n 0 ((rk_d8 (rk_sA (rk_sA (rk_sA E 50 pr) 53 du) 51 pa) s) 0 0) ((rk_d8 (rk_sA (rk_sA (rk_sA E 50 pr) 53 du) 51 pa) s) 1 0) ((rk_d8 (rk_sA (rk_sA (rk_sA E 50 pr) 53 du) 51 pa) s) 2 0) ((rk_d8 (rk_sA (rk_sA (rk_sA E 50 pr) 53 du) 51 pa) s) 3 0) ((rk_d8 (rk_sA (rk_sA (rk_sA E 50 pr) 53 du) 51 pa) s) 4 0) ((rk_d8 (rk_sA (rk_sA (rk_sA E 50 pr) 53 du) 51 pa) s) 5 0) ((rk_d8 (rk_sA (rk_sA (rk_sA E 50 pr) 53 du) 51 pa) s) 6 0) ((rk_d8 (rk_sA (rk_sA (rk_sA E 50 pr) 53 du) 51 pa) s) 7 0) ((rk_d8 (rk_sA (rk_sA (rk_sA E 50 pr) 53 du) 51 pa) s) 8) ((rk_d8 (rk_sA (rk_sA (rk_sA E 50 pr) 53 du) 51 pa) s) 9) ((rk_d8 (rk_sA (rk_sA (rk_sA E 50 pr) 53 du) 51 pa) s) 10) ((rk_d8 (rk_sA (rk_sA (rk_sA E 50 pr) 53 du) 51 pa) s) 11) ((rk_d8 (rk_sA (rk_sA (rk_sA E 50 pr) 53 du) 51 pa) s) 12) ((rk_d8 (rk_sA (rk_sA (rk_sA E 50 pr) 53 du) 51 pa) s) 13) ((rk_d8 (rk_sA (rk_sA (rk_sA E 50 pr) 53 du) 51 pa) s) 14) ((rk_d8 (rk_sA (rk_sA (rk_sA E 50 pr) 53 du) 51 pa) s) 15) ((rk_d8 (rk_sA (rk_sA (rk_sA E 50 pr) 53 du) 51 pa) s) 16) ((rk_d8 (rk_sA (rk_sA (rk_sA E 50 pr) 53 du) 51 pa) s) 17) ((rk_d8 (rk_sA (rk_sA (rk_sA E 50 pr) 53 du) 51 pa) s) 18) ((rk_d8 (rk_sA (rk_sA (rk_sA E 50 pr) 53 du) 51 pa) s) 19) ((rk_d8 (rk_sA (rk_sA (rk_sA E 50 pr) 53 du) 51 pa) s) 20) ((rk_d8 (rk_sA (rk_sA (rk_sA E 50 pr) 53 du) 51 pa) s) 21) ((rk_d8 (rk_sA (rk_sA (rk_sA E 50 pr) 53 du) 51 pa) s) 22) ((rk_d8 (rk_sA (rk_sA (rk_sA E 50 pr) 53 du) 51 pa) s) 23) ((rk_d8 (rk_sA (rk_sA (rk_sA E 50 pr) 53 du) 51 pa) s) 24) ((rk_d8 (rk_sA (rk_sA (rk_sA E 50 pr) 53 du) 51 pa) s) 25) ((rk_d8 (rk_sA (rk_sA (rk_sA E 50 pr) 53 du) 51 pa) s) 26) ((rk_d8 (rk_sA (rk_sA (rk_sA E 50 pr) 53 du) 51 pa) s) 27) ((rk_d8 (rk_sA (rk_sA (rk_sA E 50 pr) 53 du) 51 pa) s) 28) ((rk_d8 (rk_sA (rk_sA (rk_sA E 50 pr) 53 du) 51 pa) s) 29) ((rk_d8 (rk_sA (rk_sA (rk_sA E 50 pr) 53 du) 51 pa) s) 30) ((rk_d8 (rk_sA (rk_sA (rk_sA E 50 pr) 53 du) 51 pa) s) 31) ((rk_d8 (rk_sA (rk_sA (rk_sA E 50 pr) 53 du) 51 pa) s) 32) ((rk_d8 (rk_sA (rk_sA (rk_sA E 50 pr) 53 du) 51 pa) s) 33) ((rk_d8 (rk_sA (rk_sA (rk_sA E 50 pr) 53 du) 51 pa) s) 34) ((rk_d8 (rk_sA (rk_sA (rk_sA E 50 pr) 53 du) 51 pa) s) 35) ((rk_d8 (rk_sA (rk_sA (rk_sA E 50 pr) 53 du) 51 pa) s) 36) ((rk_d8 (rk_sA (rk_sA (rk_sA E 50 pr) 53 du) 51 pa) s) 37) ((rk_d8 (rk_sA (rk_sA (rk_sA E 50 pr) 53 du) 51 pa) s) 38) ((rk_d8 (rk_sA (rk_sA (rk_sA E 50 pr) 53 du) 51 pa) s) 39) ((rk_d8 (rk_sA (rk_sA (rk_sA E 50 pr) 53 du) 51 pa) s) 40) ((rk_d8 (rk_sA (rk_sA (rk_sA E 50 pr) 53 du) 51 pa) s) 41) ((rk_d8 (rk_sA (rk_sA (rk_sA E 50 pr) 53 du) 51 pa) s) 42) ((rk_d8 (rk_sA (rk_sA (rk_sA E 50 pr) 53 du) 51 pa) s) 43) ((rk_d8 (rk_sA (rk_sA (rk_sA E 50 pr) 53 du) 51 pa) s) 44) ((rk_d8 (rk_sA (rk_sA (rk_sA E 50 pr) 53 du) 51 pa) s) 45) ((rk_d8 (rk_sA (rk_sA (rk_sA E 50 pr) 53 du) 51 pa) s) 46) ((rk_d8 (rk_sA (rk_sA (rk_sA E 50 pr) 53 du) 51 pa) s) 47) ((rk_d8 (rk_sA (rk_sA (rk_sA E 50 pr) 53 du) 51 pa) s) 48) ((rk_d8 (rk_sA (rk_sA (rk_sA E 50 pr) 53 du) 51 pa) s) 49) ((rk_d8 (rk_sA (rk_sA (rk_sA E 50 pr) 53 du) 51 pa) s) 50) ((rk_d8 (rk_sA (rk_sA (rk_sA E 50 pr) 53 du) 51 pa) s) 51) ((rk_d8 (rk_sA (rk_sA (rk_sA E 50 pr) 53 du) 51 pa) s) 52) ((rk_d8 (rk_sA (rk_sA (rk_sA E 50 pr) 53 du) 51 pa) s) 53) ((rk_d8 (rk_sA (rk_sA (rk_sA E 50 pr) 53 du) 51 pa) s) 54) ((rk_d8 (rk_sA (rk_sA (rk_sA E 50 pr) 53 du) 51 pa) s) 55) ((rk_d8 (rk_sA (rk_sA (rk_sA E 50 pr) 53 du) 51 pa) s) 56)) → wX_die_142 post (nI s) (E 0 0) (E 1 0) (E 2 0) (E 3 0) (E 4 0) (E 5 0) (E 6 0) (E 7 0) 1 (nI 3) (E 8) (E 9) (E 10) (E 11) (E 12) (E 13) (E 14) (E 15) (E 16) (E 17) (E 18) (E 19) (E 20) (E 21) (E 22) (E 23) (E 24) (E 25) (E 26) (E 27) (E 28) (E 29) (E 30) (E 31) (E 32) (E 33) (E 34) (E 35) (E 36) (E 37) (E 38) (E 39) (E 40) (E 41) (E 42) (E 43) (E 44) (E 45) (E 46) (E 47) (E 48) (E 49) (E 50) (E 51) (E 52) (E 53) (E 54) (E 55) (E 56))
    (YH : ∀ G : rk_ST, (G 70) = sv → (G 73) = sr → (G 51) = pa → (G 53) = du → (G 74) 0 = (C 74) 0 → (G 72) = (C 72) → ∀ post : SY → Prop, post (rk_mY G) → ∃ n, wY_ends_182 post (rk_ep (C 12) s) n 0 ((rk_ov G (C 70) (C 73) (C 51) (C 53)) 57 0) ((rk_ov G (C 70) (C 73) (C 51) (C 53)) 58 0) ((rk_ov G (C 70) (C 73) (C 51) (C 53)) 8) ((rk_ov G (C 70) (C 73) (C 51) (C 53)) 59) ((rk_ov G (C 70) (C 73) (C 51) (C 53)) 9) ((rk_ov G (C 70) (C 73) (C 51) (C 53)) 10) ((rk_ov G (C 70) (C 73) (C 51) (C 53)) 11) ((rk_ov G (C 70) (C 73) (C 51) (C 53)) 13) ((rk_ov G (C 70) (C 73) (C 51) (C 53)) 60) ((rk_ov G (C 70) (C 73) (C 51) (C 53)) 16) ((rk_ov G (C 70) (C 73) (C 51) (C 53)) 15) ((rk_ov G (C 70) (C 73) (C 51) (C 53)) 61) ((rk_ov G (C 70) (C 73) (C 51) (C 53)) 62) ((rk_ov G (C 70) (C 73) (C 51) (C 53)) 36) ((rk_ov G (C 70) (C 73) (C 51) (C 53)) 38) ((rk_ov G (C 70) (C 73) (C 51) (C 53)) 37) ((rk_ov G (C 70) (C 73) (C 51) (C 53)) 63) ((rk_ov G (C 70) (C 73) (C 51) (C 53)) 64) ((rk_ov G (C 70) (C 73) (C 51) (C 53)) 18) ((rk_ov G (C 70) (C 73) (C 51) (C 53)) 65) ((rk_ov G (C 70) (C 73) (C 51) (C 53)) 66) ((rk_ov G (C 70) (C 73) (C 51) (C 53)) 67) ((rk_ov G (C 70) (C 73) (C 51) (C 53)) 68) ((rk_ov G (C 70) (C 73) (C 51) (C 53)) 39) ((rk_ov G (C 70) (C 73) (C 51) (C 53)) 42) ((rk_ov G (C 70) (C 73) (C 51) (C 53)) 43) ((rk_ov G (C 70) (C 73) (C 51) (C 53)) 40) ((rk_ov G (C 70) (C 73) (C 51) (C 53)) 69) ((rk_ov G (C 70) (C 73) (C 51) (C 53)) 70) ((rk_ov G (C 70) (C 73) (C 51) (C 53)) 49) ((rk_ov G (C 70) (C 73) (C 51) (C 53)) 52) ((rk_ov G (C 70) (C 73) (C 51) (C 53)) 51) ((rk_ov G (C 70) (C 73) (C 51) (C 53)) 53) ((rk_ov G (C 70) (C 73) (C 51) (C 53)) 71) ((rk_ov G (C 70) (C 73) (C 51) (C 53)) 72) ((rk_ov G (C 70) (C 73) (C 51) (C 53)) 54) ((rk_ov G (C 70) (C 73) (C 51) (C 53)) 73) ((rk_ov G (C 70) (C 73) (C 51) (C 53)) 74) ((rk_ov G (C 70) (C 73) (C 51) (C 53)) 56)) :
    ∃ C', rk_In (N + 11) bs w C' ∧ (C' 48) = (C 48) ∧ (∀ post : SX → Prop, post (rk_mX C') → wpX_die post (rk_mX C) (nI s)) ∧ (∀ post : SY → Prop, post (rk_mY C') → wpY_ends post (rk_mY C) (nI s)) := by
  have h' := h
  obtain ⟨h0, ⟨Q, tt, sg, F, hX, hY⟩, h2, h3, h4, h5, h6, h7, h8, h9⟩ := h
  have hB := h0.2.2.1
  have hL := h0.2.1
  have is : vp_in (nI s) 10 := rk_in hs
  have es : (nI s).toNatClampNeg = s := rk_cl (by omega)
  have hQ30 : Q.length ≤ 30 := by have := hX.2.2.2.2.2.2.2; omega
  obtain ⟨nx, pv, fr, bk, bh, fi, la, se, wt, hb, hRo, hQu, DX⟩ := rk_detach (by omega) hs ha h0
  obtain ⟨F2, ln, f1, f2, lc, po, sp, hLL, FX⟩ := rk_xforget (C := rk_d1 C nx pv fr bk bh fi la se wt) hs hX
  obtain ⟨c1, c2, c3, c4, c5, c6, c7, c8⟩ := rk_co_die (by omega) hs ha hb hRo hQu h0
  have om : rk_ep (C 12) s ≠ -1 := rk_ep_m1 (by omega) hB hs
  obtain ⟨yf, yt, yx, yl, hY2, YF⟩ := rk_yf78 (Q := Q) (tt := tt) hs (C 29) (C 35) (fun c hc => (hX.1 c hc).2.1) Q.length Q [] (C 66) (C 67) (C 68) (C 57 0) rfl (fun _ z => z) (by rw [List.append_nil]; exact hQ30) (by rw [List.append_nil]; exact hY)
  rw [List.append_nil] at hY2
  have hReG := rk_dG_re (C := C) (s := s) (bs := bs) (w := w) (nx := nx) (pv := pv) (fr := fr) (bk := bk) (bh := bh) (fi := fi) (la := la) (se := se) (wt := wt) (pr := pr) (du := du) (pa := pa) (sv := sv) (sr := sr) ⟨Q.filter (rk_gd tt (C 29) s), tt, sg, F2, rk_LX_end hs hLL, hY2⟩ (rk_No_end hs h2) (rk_Am_end h3) (rk_Wa_end hs h4) hSv hSr (rk_Gr_zr h7) (rk_To_15 h8) h9
  have hCoG := rk_dG_co (C := C) (s := s) (ln := ln) (f1 := f1) (f2 := f2) (lc := lc) (po := po) (sp := sp) (yf := yf) (yt := yt) (yx := yx) (yl := yl) (pr := pr) (du := du) (pa := pa) (sv := sv) (sr := sr) c1 hL c2 c3 hRo (rk_Wt_D (D' := fun t => 0 ≤ t ∧ bt (wt s) t = true) (fun t _ => ⟨fun z => ⟨Nat.zero_le t, z⟩, fun z => z.2⟩) (fun _ _ _ => rfl) c4) c5 c6
  have e12 : (rk_dG C s (rk_le (rk_d1 C nx pv fr bk bh fi la se wt) ln f1 f2 lc po sp) yf yt yx yl pr du pa sv sr) 12 = upd (C 12) s ((C 12) s + 1) := by simp only [rk_sA_s, rk_sA_n, ne_eq, Nat.reduceEqDiff, not_false_eq_true, rk_dG, rk_ly, rk_d8, rk_d6, rk_le, rk_d1]
  have e8 : (rk_dG C s (rk_le (rk_d1 C nx pv fr bk bh fi la se wt) ln f1 f2 lc po sp) yf yt yx yl pr du pa sv sr) 8 = upd (C 8) s 0 := by simp only [rk_sA_s, rk_sA_n, ne_eq, Nat.reduceEqDiff, not_false_eq_true, rk_dG, rk_ly, rk_d8, rk_d6, rk_le, rk_d1]
  obtain ⟨G, g1, g2, g3, g4⟩ := rk_dloop (all := wt s) (old := rk_ep (C 12) s) 10 0 (rk_dG C s (rk_le (rk_d1 C nx pv fr bk bh fi la se wt) ln f1 f2 lc po sp) yf yt yx yl pr du pa sv sr) (N + 1) rfl (by omega) (by rw [e12]; exact c8) om (by intro t _ ht hz; rw [e8]; exact c7 t ht hz) hCoG
  have fr1 : ∀ j, rk_cor j = false → G j = (rk_dG C s (rk_le (rk_d1 C nx pv fr bk bh fi la se wt) ln f1 f2 lc po sp) yf yt yx yl pr du pa sv sr) j := g2
  have e70 : G 70 = sv := (g2 70 rfl).trans (by simp only [rk_sA_s, rk_sA_n, ne_eq, Nat.reduceEqDiff, not_false_eq_true, rk_dG])
  have e73 : G 73 = sr := (g2 73 rfl).trans (by simp only [rk_sA_s, rk_sA_n, ne_eq, Nat.reduceEqDiff, not_false_eq_true, rk_dG])
  have e51 : G 51 = pa := (g2 51 rfl).trans (by simp only [rk_sA_s, rk_sA_n, ne_eq, Nat.reduceEqDiff, not_false_eq_true, rk_dG, rk_ly, rk_d8])
  have e53 : G 53 = du := (g2 53 rfl).trans (by simp only [rk_sA_s, rk_sA_n, ne_eq, Nat.reduceEqDiff, not_false_eq_true, rk_dG, rk_ly, rk_d8])
  have e48 : G 48 = C 48 := (g2 48 rfl).trans (by simp only [rk_sA_s, rk_sA_n, ne_eq, Nat.reduceEqDiff, not_false_eq_true, rk_dG, rk_ly, rk_d8, rk_d6, rk_le, rk_d1])
  have e72 : G 72 = C 72 := (g2 72 rfl).trans (by simp only [rk_sA_s, rk_sA_n, ne_eq, Nat.reduceEqDiff, not_false_eq_true, rk_dG, rk_ly, rk_d8, rk_d6, rk_le, rk_d1])
  have e74 : G 74 0 = (C 74) 0 := by
    rw [g2 74 rfl]
    simp only [rk_sA_s, rk_sA_n, ne_eq, Nat.reduceEqDiff, not_false_eq_true, rk_dG, rk_ly]
    rw [pk_un (j := 0) (k := 5) (by decide), pk_un (j := 0) (k := 1) (by decide)]
  refine ⟨G, ⟨by rw [show N + 11 = N + 1 + 10 by omega]; exact g1, rk_Re_fr g2 hReG⟩, e48, fun post K => DX post ?_, fun post K => ?_⟩
  · unfold wX_die_67
    refine FX _ (rk_xdE hs ?_)
    exact XH (rk_d6 (rk_le (rk_d1 C nx pv fr bk bh fi la se wt) ln f1 f2 lc po sp) s) rfl rfl rfl rfl rfl rfl post ⟨11, rk_254G (g3 post K)⟩
  · unfold wpY_ends
    refine rk_yep hB hs ha (And.intro is (nm_r (e' := upd (C 8) s 0) (by rw [es]) (nm_r (e' := upd (C 74) 1 ((C 74) 1 - 1)) rfl (nm_r (e' := upd (upd (C 74) 1 ((C 74) 1 - 1)) 5 (upd (C 74) 1 ((C 74) 1 - 1) 5 + 1)) rfl ⟨141, ?_⟩))))
    have el : nI Q.length + (-1) = (C 57 0) - 1 := by rw [hY.1, Int32.sub_eq_add_neg]
    exact rk_yeE (C := C) (Q := Q) hs el YF ⟨11, rk_141G (g4 post (C 70) (C 73) (C 51) (C 53) (YH G e70 e73 e51 e53 e74 e72 post K))⟩
theorem rk_die (hN : N + 11 ≤ 67108864) (hs : s < 10) (ha : (C 75) s = 1) (h : rk_In N bs w C) :
    ∃ C', rk_In (N + 11) bs w C' ∧ (C' 48) = (C 48) ∧ (∀ post : SX → Prop, post (rk_mX C') → wpX_die post (rk_mX C) (nI s)) ∧ (∀ post : SY → Prop, post (rk_mY C') → wpY_ends post (rk_mY C) (nI s)) := by
  have is : vp_in (nI s) 10 := rk_in hs
  have es : (nI s).toNatClampNeg = s := rk_cl (by omega)
  have hB := h.1.2.2.1
  obtain ⟨h5, h5'⟩ := h.2.2.2.2.2.1
  have hSr := h.2.2.2.2.2.2.1
  have h8 := h.2.2.2.2.2.2.2.2.1
  have uni : ∀ j, j < 3 → (C 70) j = 1 → (C 73) j = rk_ep (C 12) s → (C 47) s = nI j ∧ (C 50) j = nI s := by
    intro j hj z1 z2
    rcases h5 j hj with y | y | ⟨_, _, p, y1, y2, y3, y4, y5, _⟩
    · rw [y.2.1] at z1; exact absurd z1 (by decide)
    · rw [y.2.1] at z1; exact absurd z1 (by decide)
    · have : p = s := rk_ep_inj (by omega) hB y1 hs (y5.symm.trans z2)
      subst this
      exact ⟨y4, y2⟩
  rcases h5' s hs ha with z | ⟨k, hk, z1, z2⟩
  · refine rk_dieG hN hs ha h (pr := (C 50)) (du := (C 53)) (pa := (C 51)) (sv := (C 70)) (sr := (C 73)) (rk_Sv_end0 hs z ⟨h5, h5'⟩) hSr ?_ ?_
    · intro E e1 e2 e3 e4 e5 e6 post K
      have l0 : (E 47) s < 0 := by rw [e1, z]; exact rk_m1lt
      refine br_t (nI_le (a := 3) (by omega) (by omega)) ⟨is, br_t (by rw [es]; exact l0) (rk_xd187 (E := E) hs ?_)⟩
      obtain ⟨n, K⟩ := K
      refine ⟨n, ?_⟩
      simp only [rk_sA_s, rk_sA_n, ne_eq, Nat.reduceEqDiff, not_false_eq_true, rk_d8] at K ⊢
      rw [← e2, ← e4, ← e5] at K
      exact K
    · intro G e1 e2 e3 e4 e5 e6 post K
      refine rk_ye182 (E := rk_ov G (C 70) (C 73) (C 51) (C 53)) (fun j hj y => ?_) ?_
      · have u := (uni j hj y.1 y.2).1
        rw [z] at u
        exact rk_nI_m1 (by omega) u.symm
      · simp only [rk_mY, rk_sA_s, rk_sA_n, ne_eq, Nat.reduceEqDiff, not_false_eq_true, rk_ov]
        rw [← e1, ← e2, ← e3, ← e4]
        exact K
  · have hsk : (C 70) k = 1 ∧ (C 73) k = rk_ep (C 12) s ∧ (C 72) k = (C 45) s := by
      rcases h5 k hk with y | y | ⟨_, y0, p, y1, y2, y3, y4, y5, _, y7⟩
      · rw [y.2.2] at z2; exact absurd z2.symm (rk_nI_m1 (by omega))
      · rw [y.2.2.1] at z2; exact absurd z2.symm (rk_nI_m1 (by omega))
      · rw [z2] at y2
        have : s = p := rk_inj (by omega) (by omega) y2
        subst this
        exact ⟨y0, y5, y7⟩
    refine rk_dieG hN hs ha h (pr := upd (C 50) k (-1)) (du := upd (C 53) k ((C 1 0) + rk_pz (C 1 0) ((C 45) s) ((C 51) k))) (pa := upd (C 51) k (rk_pw (rk_pz (C 1 0) ((C 45) s) ((C 51) k)))) (sv := upd (C 70) k 2) (sr := upd (C 73) k (-1)) (rk_Sv_end1 hs hk z1 z2 ⟨h5, h5'⟩) (rk_Sr_pw hSr) ?_ ?_
    · intro E e1 e2 e3 e4 e5 e6 post K
      have l0 : ¬ (E 47) s < 0 := by rw [e1, z1]; exact nI_pos (by omega)
      refine br_t (nI_le (a := 3) (by omega) (by omega)) ⟨is, br_f (by rw [es]; exact l0) ⟨is, ?_⟩⟩
      have eq : (E 47) s = nI k := by rw [e1]; exact z1
      rw [es, eq]
      refine rk_xdown (E := E) hk hs (by rw [e4]; exact (hSr k hk).2.1) ?_
      refine rk_xd187 (E := rk_dnX E k s) hs ?_
      obtain ⟨n, K⟩ := K
      refine ⟨n, ?_⟩
      simp only [rk_sA_s, rk_sA_n, ne_eq, Nat.reduceEqDiff, not_false_eq_true, rk_d8, rk_dnX] at K ⊢
      rw [e2, e3, e4, e5, e6]
      rw [e3, e6] at K
      exact K
    · intro G e1 e2 e3 e4 e5 e6 post K
      refine rk_ye182d (E := rk_ov G (C 70) (C 73) (C 51) (C 53)) (k := k) hk hsk.1 hsk.2.1 (fun j hj hne y => ?_) ?_
      · have u := (uni j hj y.1 y.2).1
        rw [z1] at u
        exact hne (rk_inj (by omega) (by omega) u).symm
      · have e5' : G 74 0 = (C 1 0) := e5.trans h8.1
        have e6' : G 72 k = (C 45) s := by rw [e6]; exact hsk.2.2
        simp only [rk_mY, rk_sA_s, rk_sA_n, ne_eq, Nat.reduceEqDiff, not_false_eq_true, rk_ov, rk_dnY] at K ⊢
        rw [e5', e6', ← e1, ← e2, ← e3, ← e4]
        exact K
end
end
section
/-! end, leave; rows: move, spend and sink, raise and rise -/
def rk_mvX (C : rk_ST) (s p q : Nat) : rk_ST := rk_app (rk_sA (rk_unl C s p) 10 (upd (C 10) s (nI q))) s q
def rk_cmv (C : rk_ST) (s p q : Nat) : rk_ST := rk_lst (rk_mvX C s p q) s
section
variable {C : rk_ST} {N : Nat} {s r p q k c a : Nat} {x e v how : Int32} {bs : Nat → Nat} {w : Nat}
theorem rk_end (hN : N + 11 ≤ 67108864) (h : rk_In N bs w C) (v1 : Int32) :
    ∃ r C', rk_In (N + 11) bs w C' ∧ (∀ post : Int32 → SX → Prop, post r (rk_mX C') → wpX_end post (rk_mX C) v1) ∧ (∀ post : Int32 → SY → Prop, post r (rk_mY C') → wpY_end post (rk_mY C) v1) := by
  have hup : rk_In (N + 11) bs w C := rk_In_up (by omega) h
  rcases rk_rng v1 0 9 with z | ⟨z1, z2⟩
  · refine ⟨0, C, hup, fun post K => ?_, fun post K => ?_⟩
    · unfold wpX_end
      exact rk_xout1 z (br_f (by decide) K)
    · unfold wpY_end
      exact rk_ythereO z (br_t rfl K)
  · obtain ⟨s, hs, rfl⟩ := nI_of2 (n := 9) (by decide) z1 z2
    have hs10 : s < 10 := by omega
    have es : (nI s).toNatClampNeg = s := rk_cl (by omega)
    by_cases h0 : (C 8) s = 0
    · refine ⟨0, C, hup, fun post K => ?_, fun post K => ?_⟩
      · unfold wpX_end
        exact rk_xout0 z1 z2 (br_t rfl ⟨rk_in hs10, br_t (by rw [es]; exact h0) K⟩)
      · unfold wpY_end
        exact rk_ythere0 hs10 h0 (br_t rfl K)
    · have ha := rk_Tie_al h.1.1 hs10 h0
      obtain ⟨C', g, _, X, Y⟩ := rk_die hN hs10 ha h
      refine ⟨1, C', g, fun post K => ?_, fun post K => ?_⟩
      · unfold wpX_end
        exact rk_xout0 z1 z2 (br_t rfl ⟨rk_in hs10, br_f (by rw [es]; exact h0) (X _ K)⟩)
      · unfold wpY_end
        exact rk_ythere1 h.1.1 hs10 ha (br_f (by decide) (Y _ K))
theorem rk_leave (hN : N + 11 ≤ 67108864) (h : rk_In N bs w C) :
    ∃ r C', rk_In (N + 11) bs w C' ∧ (∀ post : Int32 → SX → Prop, post r (rk_mX C') → wpX_leave post (rk_mX C)) ∧ (∀ post : Int32 → SY → Prop, post r (rk_mY C') → wpY_leave post (rk_mY C)) := by
  obtain ⟨v, hv, RX, RY⟩ := rk_runner h.1
  rcases hv with ⟨rfl, _⟩ | ⟨r, hr, rfl, r1, _⟩
  · refine ⟨-1, C, rk_In_up (by omega) h, fun post K => ?_, fun post K => ?_⟩
    · unfold wpX_leave
      exact RX _ (br_f rk_m1nle K)
    · unfold wpY_leave
      exact RY _ (br_f rk_m1nle K)
  · have p0 : (0 : Int32) ≤ nI r := nI_pos' (by omega)
    have har := rk_Tie_al h.1.1 hr (by rw [r1]; decide)
    obtain ⟨C', g, _, X, Y⟩ := rk_die hN hr har h
    refine ⟨rk_ep (C 12) r, C', g, fun post K => ?_, fun post K => ?_⟩
    · unfold wpX_leave
      exact RX _ (br_t p0 (rk_xep hr (X _ K)))
    · unfold wpY_leave
      exact RY _ (br_t p0 (rk_yep h.1.2.2.1 hr har (Y _ K)))
theorem rk_cd_uH {f g b : Nat → Int32} (hp : rk_cd 10 (f s)) (hb : rk_cd 10 (b q)) : rk_cd 10 (rk_uH b f g p s q) := by
  unfold rk_uH
  split
  · by_cases e : q = p
    · rw [e, pk_us]; exact hp
    · rw [pk_un e]; exact hb
  · exact hb
theorem rk_xmv25 {E : rk_ST} {post : SX → Prop} (hs : s < 10) (hq : q < 4) (hb : rk_cd 10 ((E 22) q)) (K : post (rk_mX (rk_app (rk_sA E 10 (upd (E 10) s (nI q))) s q))) : wX_move_25 post (nI s) (nI q) 1 (E 0 0) (E 1 0) (E 2 0) (E 3 0) (E 4 0) (E 5 0) (E 6 0) (E 7 0) (E 8) (E 9) (E 10) (E 11) (E 12) (E 13) (E 14) (E 15) (E 16) (E 17) (E 18) (E 19) (E 20) (E 21) (E 22) (E 23) (E 24) (E 25) (E 26) (E 27) (E 28) (E 29) (E 30) (E 31) (E 32) (E 33) (E 34) (E 35) (E 36) (E 37) (E 38) (E 39) (E 40) (E 41) (E 42) (E 43) (E 44) (E 45) (E 46) (E 47) (E 48) (E 49) (E 50) (E 51) (E 52) (E 53) (E 54) (E 55) (E 56) := by
  have is : vp_in (nI s) 10 := rk_in hs
  have es : (nI s).toNatClampNeg = s := rk_cl (by omega)
  refine And.intro is (nm_r (e' := upd (E 10) s (nI q)) (by rw [es, rk_vb8 (by omega)]) (br_f (by decide) ?_))
  exact rk_xappend (C := rk_sA E 10 (upd (E 10) s (nI q))) hs hq (by show upd (E 10) s (nI q) s = nI q; exact pk_us) hb K
theorem rk_xmove1 {post : SX → Prop} (hs : s < 10) (h1 : (C 8) s = 1) (hp : p < 4) (hq : q < 4) (hl : (C 10) s = nI p) (hn : rk_cd 10 ((C 19) s)) (hv : rk_cd 10 ((C 20) s)) (hb : rk_cd 10 ((C 22) q)) (K : post (rk_mX (rk_mvX C s p q))) : wpX_move post (rk_mX C) (nI s) (nI q) := by
  have is : vp_in (nI s) 10 := rk_in hs
  have es : (nI s).toNatClampNeg = s := rk_cl (by omega)
  refine And.intro is (br_t (by rw [es]; exact h1) (br_f (by decide) ?_))
  refine rk_xunlink (C := C) hs hp hl hn hv ?_
  exact rk_xmv25 (E := rk_unl C s p) hs hq (rk_cd_uH hv hb) (by simp only [rk_mX, rk_mY, rk_sA_s, rk_sA_n, ne_eq, Nat.reduceEqDiff, not_false_eq_true, rk_mvX, rk_app, rk_unl] at K ⊢; exact K)
theorem rk_xmove0 {post : SX → Prop} (hs : s < 10) (h1 : ¬ (C 8) s = 1) (hq : q < 4) (K : post (rk_mX (rk_sA C 10 (upd (C 10) s (nI q))))) : wpX_move post (rk_mX C) (nI s) (nI q) := by
  have is : vp_in (nI s) 10 := rk_in hs
  have es : (nI s).toNatClampNeg = s := rk_cl (by omega)
  exact And.intro is (br_f (by rw [es]; exact h1) (br_t rfl (And.intro is (nm_r (e' := upd (C 10) s (nI q)) (by rw [es, rk_vb8 (by omega)]) (br_t rfl K)))))
theorem rk_Lev_lv {lv bs tk : Nat → Int32} (hq : q < 4) (h : rk_Lev lv bs tk) : rk_Lev (upd lv s (nI q)) bs tk := by
  intro t ht
  by_cases e : t = s
  · subst e
    rw [pk_us]
    exact ⟨⟨q, hq, rfl⟩, (h t ht).2⟩
  · rw [pk_un e]
    exact h t ht
theorem rk_in_mv1 (hN : N + 1 ≤ 67108864) (hs : s < 10) (h1 : (C 8) s = 1) (hp : p < 4) (hq : q < 4) (hl : (C 10) s = nI p) (h : rk_In N bs w C) : rk_In (N + 1) bs w (rk_cmv C s p q) := by
  obtain ⟨⟨hT, hL, hB, hM, hR, hW, hA, hQ⟩, hre⟩ := h
  refine ⟨⟨hT, rk_Lev_lv hq hL, rk_Bir_up (by omega) hB, rk_Mom_last (by omega) (fun t _ z => z) hM, rk_Ro_mov (by omega) hT hM hs hp hq hl h1 hR, hW, hA, rk_Qu_same (fun _ _ => Iff.rfl) (fun r t z => ?_) hQ⟩, hre⟩
  refine rk_m_ne (fun e => ?_)
  have y : (C 8) t = 2 := z.2.2.1
  rw [e, h1] at y
  exact absurd y (by decide)
theorem rk_in_mv0 (h1 : ¬ (C 8) s = 1) (hq : q < 4) (h : rk_In N bs w C) : rk_In N bs w (rk_sA C 10 (upd (C 10) s (nI q))) := by
  obtain ⟨⟨hT, hL, hB, hM, hR, hW, hA, hQ⟩, hre⟩ := h
  refine ⟨⟨hT, rk_Lev_lv hq hL, hB, hM, ?_, hW, hA, hQ⟩, hre⟩
  have z := rk_Ro_same (s := s) (v := (C 8) s) (x := nI q) (y := (C 63) s) h1 h1 hR
  rw [rk_upp, rk_upp] at z
  exact z
theorem rk_in_tk {t : Nat} (ht : t ≤ 4) (h : rk_In N bs w C) : rk_In N bs w (rk_sA C 11 (upd (C 11) s (nI t))) := by
  obtain ⟨⟨hT, hL, h1⟩, hre⟩ := h
  refine ⟨⟨hT, fun u hu => ?_, h1⟩, hre⟩
  show (∃ p, p < 4 ∧ (C 10) u = nI p) ∧ (∃ p, p < 4 ∧ (C 9) u = nI p) ∧ (∃ t', t' ≤ 4 ∧ upd (C 11) s (nI t) u = nI t')
  by_cases e : u = s
  · subst e
    rw [pk_us]
    exact ⟨(hL u hu).1, (hL u hu).2.1, t, ht, rfl⟩
  · rw [pk_un e]
    exact hL u hu
theorem rk_spend (hN : N + 1 ≤ 67108864) (h : rk_In N bs w C) :
    ∃ C', rk_In (N + 1) bs w C' ∧ (∀ post : SX → Prop, post (rk_mX C') → wpX_spend post (rk_mX C)) ∧ (∀ post : SY → Prop, post (rk_mY C') → wpY_sink post (rk_mY C)) := by
  obtain ⟨v, hv, RX, RY⟩ := rk_runner h.1
  rcases hv with ⟨rfl, _⟩ | ⟨r, hr, rfl, r1, _⟩
  · refine ⟨C, rk_In_up (by omega) h, fun post K => ?_, fun post K => ?_⟩
    · unfold wpX_spend
      exact RX _ (br_f rk_m1nle K)
    · unfold wpY_sink
      exact RY _ (br_f rk_m1nle K)
  · have p0 : (0 : Int32) ≤ nI r := nI_pos' (by omega)
    have ir : vp_in (nI r) 10 := rk_in hr
    have er : (nI r).toNatClampNeg = r := rk_cl (by omega)
    obtain ⟨hT, hL, hB, hM, hR, hW, hA, hQ⟩ := h.1
    obtain ⟨⟨p, hp, hl⟩, _, t, ht, et⟩ := hL r hr
    have hRs : rk_R (C 8) (C 10) p r := ⟨hp, hr, r1, hl⟩
    by_cases c : t ≤ 1
    · have tv : vp_nar .byte ((C 11) r - 1).toInt8.toInt32 = (C 11) r - 1 := by
        rw [et]
        rcases (by omega : t = 0 ∨ t = 1) with z | z
        · subst z; exact rk_vbm8
        · subst z; exact rk_vb8 (b := 0) (by decide)
      have tl : (C 11) r - 1 ≤ 0 := by
        rw [et]
        rcases (by omega : t = 0 ∨ t = 1) with z | z <;> subst z <;> decide
      have h4 := rk_in_tk (s := r) (t := 4) (by omega) h
      have hcn := rk_cd_Nx (fun t z => z.2.1) ((hR p hp).1 r hRs)
      have hcp := rk_cd_Pv (fun t z => z.2.1) ((hR p hp).2.1 r hRs)
      by_cases c3 : p = 3
      · subst c3
        refine ⟨rk_cmv (rk_sA C 11 (upd (C 11) r (nI 4))) r 3 3, rk_in_mv1 (C := rk_sA C 11 (upd (C 11) r (nI 4))) hN hr r1 (by omega) (by omega) hl h4, fun post K => ?_, fun post K => ?_⟩
        · unfold wpX_spend
          refine RX _ (br_t p0 ⟨ir, ir, nm_r (e' := upd (C 11) r ((C 11) r - 1)) (by rw [er, tv]) ⟨ir, br_t (by rw [er, pk_us]; exact tl) ⟨ir, nm_r (e' := upd (C 11) r 4) (by rw [er, rk_vb4, rk_uu]) ⟨ir, br_t (by rw [er, hl]; decide) ?_⟩⟩⟩⟩)
          unfold wX_spend_62
          exact rk_xmove1 (C := rk_sA C 11 (upd (C 11) r (nI 4))) (q := 3) hr r1 (by omega) (by omega) hl hcn hcp (rk_cd_Tl (fun t z => z.2.1) (hR 3 (by omega)).2.2.2) (by simp only [rk_mX, rk_mY, rk_sA_s, rk_sA_n, ne_eq, Nat.reduceEqDiff, not_false_eq_true, rk_cmv, rk_lst] at K ⊢; exact K)
        · unfold wpY_sink
          have eu : upd (C 10) r (nI 3) = (C 10) := by rw [← hl, rk_upp]
          refine RY _ (br_t p0 ⟨ir, ir, nm_r (e' := upd (C 11) r ((C 11) r - 1)) (by rw [er]) ⟨ir, br_t (by rw [er, pk_us]; exact tl) ⟨ir, nm_r (e' := upd (C 11) r 4) (by rw [er, rk_uu]) ⟨ir, br_t (by rw [er, hl]; decide) ?_⟩⟩⟩⟩)
          unfold wY_sink_57
          refine rk_ylast (C := rk_sA C 11 (upd (C 11) r (nI 4))) hr ?_
          simp only [rk_mY, rk_sA_s, rk_sA_n, ne_eq, Nat.reduceEqDiff, not_false_eq_true, rk_cmv, rk_lst, rk_mvX, rk_app, rk_unl] at K ⊢
          rw [eu] at K
          exact K
      · have n3 : ¬ (3 : Int32) ≤ nI p := nI_ge (b := 3) (by omega) (by omega)
        refine ⟨rk_cmv (rk_sA C 11 (upd (C 11) r (nI 4))) r p (p + 1), rk_in_mv1 (C := rk_sA C 11 (upd (C 11) r (nI 4))) hN hr r1 hp (by omega) hl h4, fun post K => ?_, fun post K => ?_⟩
        · unfold wpX_spend
          refine RX _ (br_t p0 ⟨ir, ir, nm_r (e' := upd (C 11) r ((C 11) r - 1)) (by rw [er, tv]) ⟨ir, br_t (by rw [er, pk_us]; exact tl) ⟨ir, nm_r (e' := upd (C 11) r 4) (by rw [er, rk_vb4, rk_uu]) ⟨ir, br_f (by rw [er, hl]; exact n3) ⟨ir, ?_⟩⟩⟩⟩⟩)
          unfold wX_spend_62
          rw [er, hl, nI_1]
          exact rk_xmove1 (C := rk_sA C 11 (upd (C 11) r (nI 4))) (q := p + 1) hr r1 hp (by omega) hl hcn hcp (rk_cd_Tl (fun t z => z.2.1) (hR (p + 1) (by omega)).2.2.2) (by simp only [rk_mX, rk_mY, rk_sA_s, rk_sA_n, ne_eq, Nat.reduceEqDiff, not_false_eq_true, rk_cmv, rk_lst] at K ⊢; exact K)
        · unfold wpY_sink
          refine RY _ (br_t p0 ⟨ir, ir, nm_r (e' := upd (C 11) r ((C 11) r - 1)) (by rw [er]) ⟨ir, br_t (by rw [er, pk_us]; exact tl) ⟨ir, nm_r (e' := upd (C 11) r 4) (by rw [er, rk_uu]) ⟨ir, br_f (by rw [er, hl]; exact n3) ⟨ir, ir, nm_r (e' := upd (C 10) r (nI (p + 1))) (by rw [er, hl, nI_1]) ?_⟩⟩⟩⟩⟩)
          unfold wY_sink_57
          exact rk_ylast (C := rk_sA (rk_sA C 11 (upd (C 11) r (nI 4))) 10 (upd (C 10) r (nI (p + 1)))) hr (by simp only [rk_mX, rk_mY, rk_sA_s, rk_sA_n, ne_eq, Nat.reduceEqDiff, not_false_eq_true, rk_cmv, rk_lst, rk_mvX, rk_app, rk_unl] at K ⊢; exact K)
    · have tv : (C 11) r - 1 = nI (t - 1) := by
        rw [et, show t = t - 1 + 1 by omega, nI_pred]
        rfl
      have tl : ¬ nI (t - 1) ≤ 0 := nI_nle (by omega) (by omega)
      refine ⟨rk_sA C 11 (upd (C 11) r (nI (t - 1))), rk_In_up (by omega) (rk_in_tk (by omega) h), fun post K => ?_, fun post K => ?_⟩
      · unfold wpX_spend
        exact RX _ (br_t p0 ⟨ir, ir, nm_r (e' := upd (C 11) r (nI (t - 1))) (by rw [er, tv, rk_vb8 (by omega)]) ⟨ir, br_f (by rw [er, pk_us]; exact tl) K⟩⟩)
      · unfold wpY_sink
        exact RY _ (br_t p0 ⟨ir, ir, nm_r (e' := upd (C 11) r (nI (t - 1))) (by rw [er, tv]) ⟨ir, br_f (by rw [er, pk_us]; exact tl) K⟩⟩)
theorem rk_raiseL : ∀ (d s N : Nat) (C : rk_ST), s + d = 10 → N + d ≤ 67108864 → rk_In N bs w C → ∃ C', rk_In (N + d) bs w C' ∧ (∀ post : SX → Prop, post (rk_mX C') → wX_raise_2 post (d + 1) (nI s) (C 0 0) (C 1 0) (C 2 0) (C 3 0) (C 4 0) (C 5 0) (C 6 0) (C 7 0) (C 8) (C 9) (C 10) (C 11) (C 12) (C 13) (C 14) (C 15) (C 16) (C 17) (C 18) (C 19) (C 20) (C 21) (C 22) (C 23) (C 24) (C 25) (C 26) (C 27) (C 28) (C 29) (C 30) (C 31) (C 32) (C 33) (C 34) (C 35) (C 36) (C 37) (C 38) (C 39) (C 40) (C 41) (C 42) (C 43) (C 44) (C 45) (C 46) (C 47) (C 48) (C 49) (C 50) (C 51) (C 52) (C 53) (C 54) (C 55) (C 56)) ∧ (∀ post : SY → Prop, post (rk_mY C') → wY_rise_2 post (d + 1) (nI s) (C 57 0) (C 58 0) (C 8) (C 59) (C 9) (C 10) (C 11) (C 13) (C 60) (C 16) (C 15) (C 61) (C 62) (C 36) (C 38) (C 37) (C 63) (C 64) (C 18) (C 65) (C 66) (C 67) (C 68) (C 39) (C 42) (C 43) (C 40) (C 69) (C 70) (C 49) (C 52) (C 51) (C 53) (C 71) (C 72) (C 54) (C 73) (C 74) (C 56)) := by
  intro d
  induction d with
  | zero =>
    intro s N C hs hN h
    have e : s = 10 := by omega
    subst e
    exact ⟨C, h, fun post K => br_t (nI_le (a := 10) (by omega) (by omega)) K, fun post K => br_t (nI_le (a := 10) (by omega) (by omega)) K⟩
  | succ d ih =>
    intro s N C hs hN h
    have hs10 : s < 10 := by omega
    have is : vp_in (nI s) 10 := rk_in hs10
    have es : (nI s).toNatClampNeg = s := rk_cl (by omega)
    have n10 : ¬ (10 : Int32) ≤ nI s := nI_ge (b := 10) hs10 (by omega)
    obtain ⟨hT, hL, hB, hM, hR, hW, hA, hQ⟩ := h.1
    by_cases c0 : (C 8) s = 0
    · obtain ⟨C', g, X, Y⟩ := ih (s + 1) N C (by omega) (by omega) h
      exact ⟨C', rk_In_up (by omega) g, fun post K => br_f n10 ⟨is, br_t (by rw [es]; exact c0) (nm_r (nI_1 s) (X post K))⟩, fun post K => br_f n10 ⟨is, br_t (by rw [es]; exact c0) (nm_r (nI_1 s) (Y post K))⟩⟩
    · obtain ⟨⟨p, hp, hl⟩, ⟨b, hb, eb⟩, _⟩ := hL s hs10
      by_cases c1 : p ≤ b
      · obtain ⟨C', g, X, Y⟩ := ih (s + 1) N C (by omega) (by omega) h
        exact ⟨C', rk_In_up (by omega) g, fun post K => br_f n10 ⟨is, br_f (by rw [es]; exact c0) ⟨is, is, br_t (by rw [es, hl, eb]; exact nI_le c1 (by omega)) (nm_r (nI_1 s) (X post K))⟩⟩, fun post K => br_f n10 ⟨is, br_f (by rw [es]; exact c0) ⟨is, is, br_f (by rw [es, hl, eb]; exact nI_nlt c1 (by omega)) (nm_r (nI_1 s) (Y post K))⟩⟩⟩
      · have lm : (C 10) s - 1 = nI (p - 1) := by
          rw [hl, show p = p - 1 + 1 by omega, nI_pred]
          rfl
        have nle : ¬ nI p ≤ nI b := nI_ge (by omega) (by omega)
        have lt : nI b < nI p := nI_lt (by omega) (by omega)
        by_cases r1 : (C 8) s = 1
        · have hRs : rk_R (C 8) (C 10) p s := ⟨hp, hs10, r1, hl⟩
          have hcn := rk_cd_Nx (fun t z => z.2.1) ((hR p hp).1 s hRs)
          have hcp := rk_cd_Pv (fun t z => z.2.1) ((hR p hp).2.1 s hRs)
          obtain ⟨C', g, X, Y⟩ := ih (s + 1) (N + 1) (rk_cmv C s p (p - 1)) (by omega) (by omega) (rk_in_mv1 (by omega) hs10 r1 hp (by omega) hl h)
          refine ⟨C', by rw [show N + (d + 1) = N + 1 + d by omega]; exact g, fun post K => br_f n10 ⟨is, br_f (by rw [es]; exact c0) ⟨is, is, br_f (by rw [es, hl, eb]; exact nle) ⟨is, ?_⟩⟩⟩, fun post K => br_f n10 ⟨is, br_f (by rw [es]; exact c0) ⟨is, is, br_t (by rw [es, hl, eb]; exact lt) ⟨is, is, nm_r (e' := upd (C 10) s (nI (p - 1))) (by rw [es, lm]) ⟨is, br_t (by rw [es]; exact r1) ?_⟩⟩⟩⟩⟩
          · rw [es, lm]
            refine rk_xmove1 (C := C) (q := p - 1) hs10 r1 hp (by omega) hl hcn hcp (rk_cd_Tl (fun t z => z.2.1) (hR (p - 1) (by omega)).2.2.2) ?_
            have e : rk_mX (rk_cmv C s p (p - 1)) = rk_mX (rk_mvX C s p (p - 1)) := by simp only [rk_mX, rk_sA_s, rk_sA_n, ne_eq, Nat.reduceEqDiff, not_false_eq_true, rk_cmv, rk_lst]
            rw [← e]
            exact nm_r (nI_1 s) (X post K)
          · refine rk_ylast (C := rk_sA C 10 (upd (C 10) s (nI (p - 1)))) hs10 ?_
            have e : rk_mY (rk_cmv C s p (p - 1)) = rk_mY (rk_lst (rk_sA C 10 (upd (C 10) s (nI (p - 1)))) s) := by simp only [rk_mY, rk_sA_s, rk_sA_n, ne_eq, Nat.reduceEqDiff, not_false_eq_true, rk_cmv, rk_lst, rk_mvX, rk_app, rk_unl]
            rw [← e]
            exact nm_r (nI_1 s) (Y post K)
        · obtain ⟨C', g, X, Y⟩ := ih (s + 1) N (rk_sA C 10 (upd (C 10) s (nI (p - 1)))) (by omega) (by omega) (rk_in_mv0 r1 (by omega) h)
          refine ⟨C', rk_In_up (by omega) g, fun post K => br_f n10 ⟨is, br_f (by rw [es]; exact c0) ⟨is, is, br_f (by rw [es, hl, eb]; exact nle) ⟨is, ?_⟩⟩⟩, fun post K => br_f n10 ⟨is, br_f (by rw [es]; exact c0) ⟨is, is, br_t (by rw [es, hl, eb]; exact lt) ⟨is, is, nm_r (e' := upd (C 10) s (nI (p - 1))) (by rw [es, lm]) ⟨is, br_f (by rw [es]; exact r1) (nm_r (nI_1 s) (Y post K))⟩⟩⟩⟩⟩
          rw [es, lm]
          exact rk_xmove0 (C := C) hs10 r1 (by omega) (nm_r (nI_1 s) (X post K))
end
end
section
/-! services: look and revive -/
def rk_sv (E : rk_ST) (s k : Nat) : rk_ST :=
  rk_sA (rk_sA (rk_sA (rk_sA (rk_sA (rk_sA (rk_sA E 50 (upd (E 50) k (nI s))) 47 (upd (E 47) s (nI k))) 54 (upd (E 54) k ((E 54) k + 1))) 70 (upd (E 70) k 1)) 73 (upd (E 73) k (rk_ep (E 12) s))) 71 (upd (E 71) k (E 1 0))) 72 (upd (E 72) k (E 1 0))
section
variable {C E : rk_ST} {N : Nat} {s r p q k c a : Nat} {x e v how : Int32} {bs : Nat → Nat} {w : Nat}
theorem rk_in_sv (hs : s < 10) (hk : k < 3) (hal : (E 75) s = 1) (h1 : (E 46) s = (E 1 0)) (h2 : (E 45) s = (E 1 0)) (h3 : (E 50) k = -1) (h4 : (E 48) k = 1) (h5 : (E 47) s = -1) (h : rk_In N bs w E) : rk_In N bs w (rk_sv E s k) := by
  obtain ⟨g0, g1, g2, g3, g4, ⟨a1, a2⟩, g6⟩ := h
  refine ⟨g0, g1, g2, g3, g4, ⟨fun j hj => ?_, fun p hp z => ?_⟩, g6⟩
  · show rk_Sk (E 75) (E 12) (E 48) (upd (E 50) k (nI s)) (upd (E 70) k 1) (upd (E 47) s (nI k)) (E 46) (E 45) (upd (E 71) k (E 1 0)) (upd (E 72) k (E 1 0)) (upd (E 73) k (rk_ep (E 12) s)) j
    unfold rk_Sk
    by_cases e : j = k
    · subst e
      rw [pk_us, pk_us, pk_us, pk_us, pk_us]
      exact Or.inr (Or.inr ⟨h4, rfl, s, hs, rfl, hal, pk_us, rfl, h1.symm, h2.symm⟩)
    · rw [pk_un e, pk_un e, pk_un e, pk_un e, pk_un e]
      rcases a1 j hj with y | y | ⟨y0, y0', p, y1, y2, y3, y4, y5⟩
      · exact Or.inl y
      · exact Or.inr (Or.inl y)
      · refine Or.inr (Or.inr ⟨y0, y0', p, y1, y2, y3, ?_, y5⟩)
        rw [pk_un (j := p) (k := s) (fun u => ?_)]
        · exact y4
        · rw [u, h5] at y4
          exact rk_nI_m1 (by omega) y4.symm
  · show upd (E 47) s (nI k) p = -1 ∨ ∃ j, j < 3 ∧ upd (E 47) s (nI k) p = nI j ∧ upd (E 50) k (nI s) j = nI p
    by_cases e : p = s
    · subst e
      rw [pk_us]
      exact Or.inr ⟨k, hk, rfl, pk_us⟩
    · rw [pk_un e]
      rcases a2 p hp z with y | ⟨j, y1, y2, y3⟩
      · exact Or.inl y
      · refine Or.inr ⟨j, y1, y2, ?_⟩
        rw [pk_un (j := j) (k := k) (fun u => ?_)]
        · exact y3
        · rw [u, h3] at y3
          exact rk_nI_m1 (by omega) y3.symm
theorem rk_lookL (hk : k < 3) : ∀ (d q N : Nat) (C : rk_ST), q + d = 10 → N + d ≤ 67108864 → rk_In N bs w C → ∃ C', rk_In (N + d) bs w C' ∧ (∀ post : Int32 → SX → Prop, post 1 (rk_mX C') → wX_look_109 post (nI k) (d + 1) (nI q) (C 0 0) (C 1 0) (C 2 0) (C 3 0) (C 4 0) (C 5 0) (C 6 0) (C 7 0) (C 8) (C 9) (C 10) (C 11) (C 12) (C 13) (C 14) (C 15) (C 16) (C 17) (C 18) (C 19) (C 20) (C 21) (C 22) (C 23) (C 24) (C 25) (C 26) (C 27) (C 28) (C 29) (C 30) (C 31) (C 32) (C 33) (C 34) (C 35) (C 36) (C 37) (C 38) (C 39) (C 40) (C 41) (C 42) (C 43) (C 44) (C 45) (C 46) (C 47) (C 48) (C 49) (C 50) (C 51) (C 52) (C 53) (C 54) (C 55) (C 56)) ∧ (∀ post : Int32 → SY → Prop, post 1 (rk_mY C') → wY_revive_144 post (nI k) (d + 1) (nI q) (C 57 0) (C 58 0) (C 8) (C 59) (C 9) (C 10) (C 11) (C 13) (C 60) (C 16) (C 15) (C 61) (C 62) (C 36) (C 38) (C 37) (C 63) (C 64) (C 18) (C 65) (C 66) (C 67) (C 68) (C 39) (C 42) (C 43) (C 40) (C 69) (C 70) (C 49) (C 52) (C 51) (C 53) (C 71) (C 72) (C 54) (C 73) (C 74) (C 56)) := by
  have ik : vp_in (nI k) 3 := rk_in hk
  have ek : (nI k).toNatClampNeg = k := rk_cl (by omega)
  have e11 : (11 : Int32) + nI k = nI (11 + k) := nI_add 11 k
  have e3 : ∀ be : Nat → Int32, (-3 : Int32) - nI k = rk_src be (11 + k) := by
    intro be
    unfold rk_src
    rw [if_neg (by omega)]
    rcases (by omega : k = 0 ∨ k = 1 ∨ k = 2) with z | z | z <;> subst z <;> decide
  intro d
  induction d with
  | zero =>
    intro q N C hq hN h
    have e : q = 10 := by omega
    subst e
    exact ⟨C, h, fun post K => br_t (nI_le (a := 10) (by omega) (by omega)) K, fun post K => br_t (nI_le (a := 10) (by omega) (by omega)) K⟩
  | succ d ih =>
    intro q N C hq hN h
    have hq10 : q < 10 := by omega
    have iq : vp_in (nI q) 10 := rk_in hq10
    have eq : (nI q).toNatClampNeg = q := rk_cl (by omega)
    have n10 : ¬ (10 : Int32) ≤ nI q := nI_ge (b := 10) hq10 (by omega)
    have hT := h.1.1
    have hwa := h.2.2.2.2.1 k hk q hq10
    by_cases b : bt ((C 55) k) q = true
    · rw [b] at hwa
      have hwa' := hwa.symm
      rw [Bool.and_eq_true, decide_eq_true_iff] at hwa'
      have nb : ¬ (((C 55) k >>> (nI q &&& 31)) &&& 1) = 0 := by
        rw [rk_btst0 _ (by omega), b]
        decide
      have yb : (((C 62) q >>> (nI k &&& 31)) &&& 1) = 1 := (rk_btst1 _ (by omega)).mpr hwa'.2
      have s0 : ¬ (C 8) q ≤ 0 := by
        rcases rk_Tie_st hT hq10 hwa'.1 with z | z | z | z <;> rw [z] <;> decide
      obtain ⟨C1, g1, _, _, RX, RY⟩ := rk_ring (s := q) (k := 11 + k) (e := (-3 : Int32) - nI k) (by omega) hq10 (by omega) (fun z => absurd z (by omega)) (fun post K => rk_ysrcK h.1.2.2.1 (by omega) (fun z => absurd z (by omega)) (by rw [← e3]; exact K)) h
      obtain ⟨C', g, X, Y⟩ := ih (q + 1) (N + 1) C1 (by omega) (by omega) g1
      refine ⟨C', by rw [show N + (d + 1) = N + 1 + d by omega]; exact g, fun post K => br_f n10 ⟨ik, br_f (by rw [ek]; exact nb) ?_⟩, fun post K => br_f n10 ⟨iq, br_f (by rw [eq]; exact s0) ⟨iq, br_t (by rw [eq]; exact yb) ?_⟩⟩⟩
      · rw [e11]
        exact RX _ (nm_r (nI_1 q) (X post K))
      · rw [e11]
        exact RY _ (nm_r (nI_1 q) (Y post K))
    · have bf : bt ((C 55) k) q = false := by
        cases z : bt ((C 55) k) q
        · rfl
        · exact absurd z b
      have nb : (((C 55) k >>> (nI q &&& 31)) &&& 1) = 0 := (rk_btst0 _ (by omega)).mpr bf
      rw [bf] at hwa
      obtain ⟨C', g, X, Y⟩ := ih (q + 1) N C (by omega) (by omega) h
      refine ⟨C', rk_In_up (by omega) g, fun post K => br_f n10 ⟨ik, br_t (by rw [ek]; exact nb) (nm_r (nI_1 q) (X post K))⟩, fun post K => br_f n10 ⟨iq, ?_⟩⟩
      rcases hT q hq10 with ⟨z, _⟩ | ⟨z, z2⟩
      · exact br_t (by rw [eq, z]; decide) (nm_r (nI_1 q) (Y post K))
      · have s0 : ¬ (C 8) q ≤ 0 := by
          rcases z with z | z | z | z <;> rw [z] <;> decide
        have yb : ¬ (((C 62) q >>> (nI k &&& 31)) &&& 1) = 1 := by
          rw [rk_btst1 _ (by omega)]
          intro y
          rw [z2, y] at hwa
          exact absurd hwa (by decide)
        exact br_f (by rw [eq]; exact s0) ⟨iq, br_f (by rw [eq]; exact yb) (nm_r (nI_1 q) (Y post K))⟩
theorem rk_yfreeE : ∃ v, ∀ post : Int32 → Prop, post v → wpY_free post (rk_mY C) := by
  obtain ⟨s, hs, _⟩ := rk_xfreeL (C := C) (x1 := 0) (x2 := 0) 10 0 rfl (fun j hj => absurd hj (Nat.not_lt_zero j))
  exact ⟨_, fun post K => ⟨_, rk_yfreeL (C := C) hs 10 0 rfl (Nat.zero_le s) post K⟩⟩
theorem rk_look36 (hN : N + 11 ≤ 67108864) (hk : k < 3) (ht : (C 48) k = 1) (h : rk_In N bs w C) :
    ∃ r C', rk_In (N + 11) bs w C' ∧ (∀ post : Int32 → SX → Prop, post r (rk_mX C') → wX_look_36 post (nI k) (C 0 0) (C 1 0) (C 2 0) (C 3 0) (C 4 0) (C 5 0) (C 6 0) (C 7 0) (C 8) (C 9) (C 10) (C 11) (C 12) (C 13) (C 14) (C 15) (C 16) (C 17) (C 18) (C 19) (C 20) (C 21) (C 22) (C 23) (C 24) (C 25) (C 26) (C 27) (C 28) (C 29) (C 30) (C 31) (C 32) (C 33) (C 34) (C 35) (C 36) (C 37) (C 38) (C 39) (C 40) (C 41) (C 42) (C 43) (C 44) (C 45) (C 46) (C 47) (C 48) (C 49) (C 50) (C 51) (C 52) (C 53) (C 54) (C 55) (C 56)) ∧ (∀ post : Int32 → SY → Prop, post r (rk_mY C') → wY_revive_45 post (nI k) (C 57 0) (C 58 0) (C 8) (C 59) (C 9) (C 10) (C 11) (C 13) (C 60) (C 16) (C 15) (C 61) (C 62) (C 36) (C 38) (C 37) (C 63) (C 64) (C 18) (C 65) (C 66) (C 67) (C 68) (C 39) (C 42) (C 43) (C 40) (C 69) (C 70) (C 49) (C 52) (C 51) (C 53) (C 71) (C 72) (C 54) (C 73) (C 74) (C 56)) := by
  have hup : rk_In (N + 11) bs w C := rk_In_up (by omega) h
  have ik : vp_in (nI k) 3 := rk_in hk
  have ek : (nI k).toNatClampNeg = k := rk_cl (by omega)
  have h8 := h.2.2.2.2.2.2.2.2.1
  obtain ⟨fv, FY⟩ := rk_yfreeE (C := C)
  rcases h.2.2.2.2.2.1.1 k hk with y | y | ⟨_, y2, p, y3, y4, y5⟩
  · rw [ht] at y
    exact absurd y.1 (by decide)
  · obtain ⟨_, y2, y3, y4⟩ := y
    by_cases cd : (C 53) k ≤ (C 1 0)
    · have cd' : ¬ (C 74) 0 < (C 53) k := by rw [h8.1]; exact Int32.not_lt.mpr cd
      obtain ⟨p, hp, ep⟩ := (h.2.2.2.2.2.2.1 k hk).1
      rcases rk_make (p := p) (by omega) h hp 1023 with ⟨MX, MY⟩ | ⟨s, hs, h0s, has, g, MX, MY⟩
      · refine ⟨0, C, hup, fun post K => And.intro ik (br_f (by rw [ek, y3]; exact rk_m1nle) ⟨ik, br_t (by rw [ek]; exact cd) ⟨ik, ?_⟩⟩), fun post K => ?_⟩
        · rw [ek, ep]
          exact MX _ (br_f rk_m1nle K)
        · unfold wY_revive_45
          exact MY _ (And.intro ik (br_t (by rw [ek]; exact y2) ⟨ik, br_f (by rw [ek]; exact cd') (br_f rk_m1nle K)⟩))
      · have is : vp_in (nI s) 10 := rk_in hs
        have es : (nI s).toNatClampNeg = s := rk_cl (by omega)
        have p0 : (0 : Int32) ≤ nI s := nI_pos' (by omega)
        have hsv : rk_In (N + 1) bs w (rk_sv (rk_mkc C s p 1023) s k) := rk_in_sv (E := rk_mkc C s p 1023) hs hk (by show upd (C 75) s 1 s = 1; exact pk_us) (by show upd (C 46) s (C 1 0) s = (C 1 0); exact pk_us) (by show upd (C 45) s (C 1 0) s = (C 1 0); exact pk_us) y3 ht (by show upd (C 47) s (-1) s = -1; exact pk_us) g
        obtain ⟨C', g', LX, LY⟩ := rk_lookL hk 10 0 (N + 1) (rk_sv (rk_mkc C s p 1023) s k) rfl (by omega) hsv
        have nwt : (C 74) 0 = (C 1 0) := h8.1
        refine ⟨1, C', by rw [show N + 11 = N + 1 + 10 by omega]; exact g', fun post K => And.intro ik (br_f (by rw [ek, y3]; exact rk_m1nle) ⟨ik, br_t (by rw [ek]; exact cd) ⟨ik, ?_⟩⟩), fun post K => ?_⟩
        · rw [ek, ep]
          refine MX _ (br_t p0 ?_)
          have z := LX post K
          refine And.intro ik (nm_r (e' := upd (C 50) k (nI s)) (by rw [rk_vb8 (by omega)]; rfl) ⟨is, nm_r (e' := upd (upd (C 47) s (-1)) s (nI k)) (by rw [es, rk_vb8 (by omega)]; rfl) ⟨ik, ik, nm_r (e' := upd (C 54) k ((C 54) k + 1)) rfl ⟨11, ?_⟩⟩⟩)
          simp only [rk_sA_s, rk_sA_n, ne_eq, Nat.reduceEqDiff, not_false_eq_true, rk_sv, rk_mkc, rk_lst, rk_mkX, rk_app, rk_mk0] at z ⊢
          exact z
        · unfold wY_revive_45
          refine MY _ (And.intro ik (br_t (by rw [ek]; exact y2) ⟨ik, br_f (by rw [ek]; exact cd') (br_t p0 ⟨ik, nm_r (e' := upd (C 70) k 1) (by rw [ek]) ⟨ik, ?_⟩⟩)⟩))
          rw [ek, ep]
          refine rk_ybegin (C := rk_sA C 70 (upd (C 70) k 1)) hs h.1.2.2.1 has ?_
          have z := LY post K
          have tt1 : upd (C 74) 1 ((C 74) 1 + 1) 0 = (C 1 0) := by rw [pk_un (j := 0) (k := 1) (by decide)]; exact nwt
          refine And.intro ik (nm_r (e' := upd (C 73) k (rk_ep (C 12) s)) rfl ⟨ik, nm_r (e' := upd (C 71) k (C 1 0)) (by rw [← tt1]; rfl) ⟨ik, nm_r (e' := upd (C 72) k (C 1 0)) (by rw [← tt1]; rfl) ⟨ik, ik, nm_r (e' := upd (C 54) k ((C 54) k + 1)) rfl ⟨11, ?_⟩⟩⟩⟩)
          simp only [rk_sA_s, rk_sA_n, ne_eq, Nat.reduceEqDiff, not_false_eq_true, rk_sv, rk_mkc, rk_lst, rk_mkX, rk_app, rk_mk0, rk_mkY] at z ⊢
          exact z
    · have cd' : (C 74) 0 < (C 53) k := by rw [h8.1]; exact Int32.not_le.mp cd
      refine ⟨0, C, hup, fun post K => And.intro ik (br_f (by rw [ek, y3]; exact rk_m1nle) ⟨ik, br_f (by rw [ek]; exact cd) K⟩), fun post K => ?_⟩
      unfold wY_revive_45
      exact FY _ (And.intro ik (br_t (by rw [ek]; exact y2) ⟨ik, br_t (by rw [ek]; exact cd') K⟩))
  · refine ⟨0, C, hup, fun post K => And.intro ik (br_t (by rw [ek, y4]; exact nI_pos' (by omega)) K), fun post K => ?_⟩
    unfold wY_revive_45
    exact FY _ (And.intro ik (br_f (by rw [ek, y2]; decide) K))
theorem rk_look (hN : N + 22 ≤ 67108864) (hk : k < 3) (ht : (C 48) k = 1) (h : rk_In N bs w C) :
    ∃ r C', rk_In (N + 22) bs w C' ∧ (∀ post : Int32 → SX → Prop, post r (rk_mX C') → wpX_look post (rk_mX C) (nI k)) ∧ (∀ post : Int32 → SY → Prop, post r (rk_mY C') → wpY_revive post (rk_mY C) (nI k)) := by
  have ik : vp_in (nI k) 3 := rk_in hk
  have ek : (nI k).toNatClampNeg = k := rk_cl (by omega)
  have h8 := h.2.2.2.2.2.2.2.2.1
  have hB := h.1.2.2.1
  rcases h.2.2.2.2.2.1.1 k hk with y | y | ⟨_, y2, p, y3, y4, y5, y6, y7, y8, y9⟩
  · rw [ht] at y
    exact absurd y.1 (by decide)
  · obtain ⟨_, y2, y3, y4⟩ := y
    obtain ⟨r, C', g, X, Y⟩ := rk_look36 (by omega) hk ht h
    exact ⟨r, C', rk_In_up (by omega) g, fun post K => And.intro ik (nm_r (e' := -1) (by rw [ek]; exact y3) (br_t rk_m1lt (X post K))), fun post K => And.intro ik (br_f (by rw [ek, y2]; decide) (Y post K))⟩
  · have ip : vp_in (nI p) 10 := rk_in y3
    have epp : (nI p).toNatClampNeg = p := rk_cl (by omega)
    have n0 : ¬ nI p < 0 := nI_pos (by omega)
    have ea : (C 74) 0 - (C 71) k = (C 1 0) - (C 46) p := by rw [h8.1, y8]
    by_cases cl : (C 1 0) - (C 46) p < (C 52) k
    · obtain ⟨r, C', g, X, Y⟩ := rk_look36 (by omega) hk ht h
      exact ⟨r, C', rk_In_up (by omega) g, fun post K => And.intro ik (nm_r (e' := nI p) (by rw [ek]; exact y4) (br_f n0 ⟨ip, ik, br_t (by rw [ek, epp]; exact cl) (X post K)⟩)), fun post K => And.intro ik (br_t (by rw [ek]; exact y2) ⟨ik, ik, br_t (by rw [ek, ea]; exact cl) (Y post K)⟩)⟩
    · obtain ⟨C1, g1, gt, DX, DY⟩ := rk_die (by omega) y3 y5 h
      obtain ⟨r, C', g, X, Y⟩ := rk_look36 (by omega) hk (by rw [gt]; exact ht) g1
      refine ⟨r, C', rk_In_up (by omega) g, fun post K => And.intro ik (nm_r (e' := nI p) (by rw [ek]; exact y4) (br_f n0 ⟨ip, ik, br_f (by rw [ek, epp]; exact cl) (DX _ (X post K))⟩)), fun post K => And.intro ik (br_t (by rw [ek]; exact y2) ⟨ik, ik, br_f (by rw [ek, ea]; exact cl) ⟨ik, ?_⟩⟩)⟩
      rw [ek, y7, rk_ep_and (by omega) hB y3]
      exact DY _ (Y post K)
theorem rk_revive0 (hk : k < 3) (ht : (C 48) k = 0) (h : rk_In N bs w C) : ∀ post : Int32 → SY → Prop, post 0 (rk_mY C) → wpY_revive post (rk_mY C) (nI k) := by
  intro post K
  have ik : vp_in (nI k) 3 := rk_in hk
  have ek : (nI k).toNatClampNeg = k := rk_cl (by omega)
  obtain ⟨fv, FY⟩ := rk_yfreeE (C := C)
  have s0 : (C 70) k = 0 := by
    rcases h.2.2.2.2.2.1.1 k hk with y | y | y
    · exact y.2.1
    · rw [ht] at y; exact absurd y.1 (by decide)
    · rw [ht] at y; exact absurd y.1 (by decide)
  refine And.intro ik (br_f (by rw [ek, s0]; decide) ?_)
  unfold wY_revive_45
  exact FY _ (And.intro ik (br_f (by rw [ek, s0]; decide) K))
end
end
section
/-! time -/
section
variable {C E : rk_ST} {N : Nat} {s r p q k c a : Nat} {x e v how : Int32} {bs bs' : Nat → Nat} {w : Nat}
theorem rk_In_bs (hb : ∀ t, t < 10 → bs t = bs' t) (h : rk_In N bs w C) : rk_In N bs' w C := by
  obtain ⟨h0, h1, h2, h3, h4⟩ := h
  refine ⟨h0, h1, h2, fun t ht => ?_, h4⟩
  rw [← hb t ht]
  exact h3 t ht
theorem rk_Am_upd {al xa ya xa' ya' : Nat → Int32} (hb : ∀ t, t < 10 → t ≠ s → bs' t = bs t) (hx : ∀ t, t ≠ s → xa' t = xa t) (hy : ∀ t, t ≠ s → ya' t = ya t)
    (hs : (al s = 0 ∧ xa' s = 0) ∨ (al s = 1 ∧ ((xa' s = 0 ∧ ya' s = 0) ∨ ∃ a, 1 ≤ a ∧ a ≤ 100 ∧ ya' s = nI a ∧ xa' s = nI (bs' s + a)))) (h : rk_Am bs al xa ya) : rk_Am bs' al xa' ya' := by
  intro t ht
  by_cases e : t = s
  · subst e
    exact hs
  · rw [hb t ht e, hx t e, hy t e]
    exact h t ht
theorem rk_alL {w1 : Nat} (hw : w1 ≤ 1073741824) : ∀ (d s N : Nat) (C : rk_ST), s + d = 10 → N + d ≤ 67108864 → rk_In N (fun t => if t < s then w1 + 1 else w1) (w1 + 1) C →
    ∃ C', rk_In (N + d) (fun _ => w1 + 1) (w1 + 1) C' ∧
      (∀ (post : Int32 → SX → Prop) (n1 x2 x3 : Int32) (m : Nat), (∃ n, wX_tick_103 post (wX_tick_16 post n1 m) n1 x3 n x2 0 (C' 0 0) (C' 1 0) (C' 2 0) (C' 3 0) (C' 4 0) (C' 5 0) (C' 6 0) (C' 7 0) (C' 8) (C' 9) (C' 10) (C' 11) (C' 12) (C' 13) (C' 14) (C' 15) (C' 16) (C' 17) (C' 18) (C' 19) (C' 20) (C' 21) (C' 22) (C' 23) (C' 24) (C' 25) (C' 26) (C' 27) (C' 28) (C' 29) (C' 30) (C' 31) (C' 32) (C' 33) (C' 34) (C' 35) (C' 36) (C' 37) (C' 38) (C' 39) (C' 40) (C' 41) (C' 42) (C' 43) (C' 44) (C' 45) (C' 46) (C' 47) (C' 48) (C' 49) (C' 50) (C' 51) (C' 52) (C' 53) (C' 54) (C' 55) (C' 56)) → wX_tick_52 post (wX_tick_16 post n1 m) n1 x2 x3 (d + 1) (nI s) (C 0 0) (C 1 0) (C 2 0) (C 3 0) (C 4 0) (C 5 0) (C 6 0) (C 7 0) (C 8) (C 9) (C 10) (C 11) (C 12) (C 13) (C 14) (C 15) (C 16) (C 17) (C 18) (C 19) (C 20) (C 21) (C 22) (C 23) (C 24) (C 25) (C 26) (C 27) (C 28) (C 29) (C 30) (C 31) (C 32) (C 33) (C 34) (C 35) (C 36) (C 37) (C 38) (C 39) (C 40) (C 41) (C 42) (C 43) (C 44) (C 45) (C 46) (C 47) (C 48) (C 49) (C 50) (C 51) (C 52) (C 53) (C 54) (C 55) (C 56)) ∧
      (∀ (post : Int32 → SY → Prop) (x1 : Int32), (∃ n, wY_tickOnce_95 post n x1 0 (C' 57 0) (C' 58 0) (C' 8) (C' 59) (C' 9) (C' 10) (C' 11) (C' 13) (C' 60) (C' 16) (C' 15) (C' 61) (C' 62) (C' 36) (C' 38) (C' 37) (C' 63) (C' 64) (C' 18) (C' 65) (C' 66) (C' 67) (C' 68) (C' 39) (C' 42) (C' 43) (C' 40) (C' 69) (C' 70) (C' 49) (C' 52) (C' 51) (C' 53) (C' 71) (C' 72) (C' 54) (C' 73) (C' 74) (C' 56)) → wY_tickOnce_34 post x1 (d + 1) (nI s) (C 57 0) (C 58 0) (C 8) (C 59) (C 9) (C 10) (C 11) (C 13) (C 60) (C 16) (C 15) (C 61) (C 62) (C 36) (C 38) (C 37) (C 63) (C 64) (C 18) (C 65) (C 66) (C 67) (C 68) (C 39) (C 42) (C 43) (C 40) (C 69) (C 70) (C 49) (C 52) (C 51) (C 53) (C 71) (C 72) (C 54) (C 73) (C 74) (C 56)) := by
  intro d
  induction d with
  | zero =>
    intro s N C hs hN h
    have e : s = 10 := by omega
    subst e
    exact ⟨C, rk_In_bs (fun t ht => by show (if t < 10 then w1 + 1 else w1) = w1 + 1; rw [if_pos ht]) h, fun post n1 x2 x3 m K => br_t (nI_le (a := 10) (by omega) (by omega)) K, fun post x1 K => br_t (nI_le (a := 10) (by omega) (by omega)) K⟩
  | succ d ih =>
    intro s N C hs hN h
    have hs10 : s < 10 := by omega
    have is : vp_in (nI s) 10 := rk_in hs10
    have es : (nI s).toNatClampNeg = s := rk_cl (by omega)
    have n10 : ¬ (10 : Int32) ≤ nI s := nI_ge (b := 10) hs10 (by omega)
    have hT := h.1.1
    have hb : ∀ t, t < 10 → t ≠ s → (if t < s + 1 then w1 + 1 else w1) = (if t < s then w1 + 1 else w1) := by
      intro t _ ht
      by_cases c : t < s
      · rw [if_pos c, if_pos (by omega)]
      · rw [if_neg c, if_neg (by omega)]
    have bs1 : (if s < s + 1 then w1 + 1 else w1) = w1 + 1 := if_pos (by omega)
    obtain ⟨h0, h1, h2, h3, h4, h5, h6, h7, h8, h9⟩ := h
    have nw0 : ¬ (0 : Int32) = (C 1 0) := by
      rw [h9]
      exact fun z => nI_ne0 (n := w1 + 1) (by omega) (by omega) z.symm
    rcases h3 s hs10 with ⟨z1, z2⟩ | ⟨z1, ⟨z2, z3⟩ | ⟨a, z2, z3, z4, z5⟩⟩
    · obtain ⟨C', g, X, Y⟩ := ih (s + 1) N C (by omega) (by omega) ⟨h0, h1, h2, rk_Am_upd (s := s) hb (fun _ _ => rfl) (fun _ _ => rfl) (Or.inl ⟨z1, z2⟩) h3, h4, h5, h6, h7, h8, h9⟩
      have s0 : (C 8) s = 0 := by
        rcases hT s hs10 with y | y
        · exact y.1
        · rw [z1] at y; exact absurd y.2 (by decide)
      exact ⟨C', rk_In_up (by omega) g, fun post n1 x2 x3 m K => br_f n10 ⟨is, br_f (by rw [es, z2]; exact nw0) (nm_r (nI_1 s) (X post n1 x2 x3 m K))⟩, fun post x1 K => br_f n10 ⟨is, br_t (by rw [es]; exact s0) (nm_r (nI_1 s) (Y post x1 K))⟩⟩
    · obtain ⟨C', g, X, Y⟩ := ih (s + 1) N C (by omega) (by omega) ⟨h0, h1, h2, rk_Am_upd (s := s) hb (fun _ _ => rfl) (fun _ _ => rfl) (Or.inr ⟨z1, Or.inl ⟨z2, z3⟩⟩) h3, h4, h5, h6, h7, h8, h9⟩
      have s0 : ¬ (C 8) s = 0 := by
        rcases rk_Tie_st hT hs10 z1 with y | y | y | y <;> rw [y] <;> decide
      exact ⟨C', rk_In_up (by omega) g, fun post n1 x2 x3 m K => br_f n10 ⟨is, br_f (by rw [es, z2]; exact nw0) (nm_r (nI_1 s) (X post n1 x2 x3 m K))⟩, fun post x1 K => br_f n10 ⟨is, br_f (by rw [es]; exact s0) ⟨is, br_t (by rw [es]; exact z3) (nm_r (nI_1 s) (Y post x1 K))⟩⟩⟩
    · have s0 : ¬ (C 8) s = 0 := by
        rcases rk_Tie_st hT hs10 z1 with y | y | y | y <;> rw [y] <;> decide
      have z5 : (C 44) s = nI (w1 + a) := by
        have z6 : (C 44) s = nI ((if s < s then w1 + 1 else w1) + a) := z5
        rw [if_neg (by omega)] at z6
        exact z6
      have a0 : ¬ (C 61) s = 0 := by rw [z4]; exact nI_ne0 (by omega) (by omega)
      have am : (C 61) s - 1 = nI (a - 1) := by
        rw [z4, show a = a - 1 + 1 by omega, nI_pred]
        rfl
      by_cases c1 : a = 1
      · subst c1
        have xe : (C 44) s = (C 1 0) := by rw [z5, h9]
        have h' : rk_In N (fun t => if t < s + 1 then w1 + 1 else w1) (w1 + 1) (rk_sA (rk_sA C 44 (upd (C 44) s 0)) 61 (upd (C 61) s 0)) :=
          ⟨h0, h1, h2, rk_Am_upd (s := s) hb (fun t ht => pk_un ht) (fun t ht => pk_un ht) (Or.inr ⟨z1, Or.inl ⟨pk_us, pk_us⟩⟩) h3, h4, h5, h6, h7, h8, h9⟩
        obtain ⟨C1, g1, _, _, RX, RY⟩ := rk_ring (C := rk_sA (rk_sA C 44 (upd (C 44) s 0)) 61 (upd (C 61) s 0)) (s := s) (k := 10) (e := -2) (by omega) hs10 (by omega) (fun z => absurd z (by omega)) (fun post K => br_t (by decide) (br_t rfl K)) h'
        obtain ⟨C', g, X, Y⟩ := ih (s + 1) (N + 1) C1 (by omega) (by omega) g1
        have e1 : rk_mX (rk_sA (rk_sA C 44 (upd (C 44) s 0)) 61 (upd (C 61) s 0)) = rk_mX (rk_sA C 44 (upd (C 44) s 0)) := by simp only [rk_mX, rk_sA_s, rk_sA_n, ne_eq, Nat.reduceEqDiff, not_false_eq_true]
        have e2 : rk_mY (rk_sA (rk_sA C 44 (upd (C 44) s 0)) 61 (upd (C 61) s 0)) = rk_mY (rk_sA C 61 (upd (C 61) s 0)) := by simp only [rk_mY, rk_sA_s, rk_sA_n, ne_eq, Nat.reduceEqDiff, not_false_eq_true]
        rw [e1] at RX
        rw [e2] at RY
        refine ⟨C', by rw [show N + (d + 1) = N + 1 + d by omega]; exact g, fun post n1 x2 x3 m K => br_f n10 ⟨is, br_t (by rw [es]; exact xe) ⟨is, nm_r (e' := upd (C 44) s 0) (by rw [es]) ?_⟩⟩, fun post x1 K => br_f n10 ⟨is, br_f (by rw [es]; exact s0) ⟨is, br_f (by rw [es]; exact a0) ⟨is, is, nm_r (e' := upd (C 61) s 0) (by rw [es, am]; rfl) ⟨is, br_t (by rw [es, pk_us]) ?_⟩⟩⟩⟩⟩
        · exact RX _ (nm_r (nI_1 s) (X post n1 x2 x3 m K))
        · exact RY _ (nm_r (nI_1 s) (Y post x1 K))
      · have xe : ¬ (C 44) s = (C 1 0) := by
          rw [z5, h9]
          intro y
          have := rk_inj (by omega) (by omega) y
          omega
        obtain ⟨C', g, X, Y⟩ := ih (s + 1) N (rk_sA C 61 (upd (C 61) s (nI (a - 1)))) (by omega) (by omega) ⟨h0, h1, h2, rk_Am_upd (s := s) hb (fun _ _ => rfl) (fun t ht => pk_un ht) (Or.inr ⟨z1, Or.inr ⟨a - 1, by omega, by omega, pk_us, by rw [bs1]; exact z5.trans (congrArg nI (by omega))⟩⟩) h3, h4, h5, h6, h7, h8, h9⟩
        refine ⟨C', rk_In_up (by omega) g, fun post n1 x2 x3 m K => br_f n10 ⟨is, br_f (by rw [es]; exact xe) (nm_r (nI_1 s) (X post n1 x2 x3 m K))⟩, fun post x1 K => br_f n10 ⟨is, br_f (by rw [es]; exact s0) ⟨is, br_f (by rw [es]; exact a0) ⟨is, is, nm_r (e' := upd (C 61) s (nI (a - 1))) (by rw [es, am]) ⟨is, br_f (by rw [es, pk_us]; exact nI_ne0 (by omega) (by omega)) (nm_r (nI_1 s) (Y post x1 K))⟩⟩⟩⟩⟩
theorem rk_svL : ∀ (d k : Nat) (y : Int32) (N : Nat) (C : rk_ST), k + d = 3 → N + 22 * d ≤ 67108864 → rk_In N bs w C →
    ∃ y' C', rk_In (N + 22 * d) bs w C' ∧
      (∀ (post : Int32 → SX → Prop) (n1 b x3 : Int32) (m : Nat), wX_tick_16 post n1 m (b + y') (x3 + 1) (C' 0 0) (C' 1 0) (C' 2 0) (C' 3 0) (C' 4 0) (C' 5 0) (C' 6 0) (C' 7 0) (C' 8) (C' 9) (C' 10) (C' 11) (C' 12) (C' 13) (C' 14) (C' 15) (C' 16) (C' 17) (C' 18) (C' 19) (C' 20) (C' 21) (C' 22) (C' 23) (C' 24) (C' 25) (C' 26) (C' 27) (C' 28) (C' 29) (C' 30) (C' 31) (C' 32) (C' 33) (C' 34) (C' 35) (C' 36) (C' 37) (C' 38) (C' 39) (C' 40) (C' 41) (C' 42) (C' 43) (C' 44) (C' 45) (C' 46) (C' 47) (C' 48) (C' 49) (C' 50) (C' 51) (C' 52) (C' 53) (C' 54) (C' 55) (C' 56) → wX_tick_103 post (wX_tick_16 post n1 m) n1 x3 (d + 1) (b + y) (nI k) (C 0 0) (C 1 0) (C 2 0) (C 3 0) (C 4 0) (C 5 0) (C 6 0) (C 7 0) (C 8) (C 9) (C 10) (C 11) (C 12) (C 13) (C 14) (C 15) (C 16) (C 17) (C 18) (C 19) (C 20) (C 21) (C 22) (C 23) (C 24) (C 25) (C 26) (C 27) (C 28) (C 29) (C 30) (C 31) (C 32) (C 33) (C 34) (C 35) (C 36) (C 37) (C 38) (C 39) (C 40) (C 41) (C 42) (C 43) (C 44) (C 45) (C 46) (C 47) (C 48) (C 49) (C 50) (C 51) (C 52) (C 53) (C 54) (C 55) (C 56)) ∧
      (∀ post : Int32 → SY → Prop, post y' (rk_mY C') → wY_tickOnce_95 post (d + 1) y (nI k) (C 57 0) (C 58 0) (C 8) (C 59) (C 9) (C 10) (C 11) (C 13) (C 60) (C 16) (C 15) (C 61) (C 62) (C 36) (C 38) (C 37) (C 63) (C 64) (C 18) (C 65) (C 66) (C 67) (C 68) (C 39) (C 42) (C 43) (C 40) (C 69) (C 70) (C 49) (C 52) (C 51) (C 53) (C 71) (C 72) (C 54) (C 73) (C 74) (C 56)) := by
  intro d
  induction d with
  | zero =>
    intro k y N C hk hN h
    have e : k = 3 := by omega
    subst e
    exact ⟨y, C, h, fun post n1 b x3 m K => br_t (nI_le (a := 3) (by omega) (by omega)) (nm_e K), fun post K => br_t (nI_le (a := 3) (by omega) (by omega)) K⟩
  | succ d ih =>
    intro k y N C hk hN h
    have hk3 : k < 3 := by omega
    have ik : vp_in (nI k) 3 := rk_in hk3
    have ek : (nI k).toNatClampNeg = k := rk_cl (by omega)
    have n3 : ¬ (3 : Int32) ≤ nI k := nI_ge (b := 3) hk3 (by omega)
    by_cases c : (C 48) k = 0
    · obtain ⟨y', C', g, X, Y⟩ := ih (k + 1) y N C (by omega) (by omega) h
      exact ⟨y', C', rk_In_up (by omega) g, fun post n1 b x3 m K => br_f n3 ⟨ik, br_t (by rw [ek]; exact c) (nm_r (nI_1 k) (X post n1 b x3 m K))⟩, fun post K => br_f n3 (rk_revive0 hk3 c h _ (nm_r (Int32.add_zero y) (nm_r (nI_1 k) (Y post K))))⟩
    · have ht : (C 48) k = 1 := by
        rcases h.2.2.2.2.2.1.1 k hk3 with z | z | z
        · exact absurd z.1 c
        · exact z.1
        · exact z.1
      obtain ⟨r, C1, g1, LX, LY⟩ := rk_look (by omega) hk3 ht h
      obtain ⟨y', C', g, X, Y⟩ := ih (k + 1) (y + r) (N + 22) C1 (by omega) (by omega) g1
      exact ⟨y', C', by rw [show N + 22 * (d + 1) = N + 22 + 22 * d by omega]; exact g, fun post n1 b x3 m K => br_f n3 ⟨ik, br_f (by rw [ek]; exact c) (LX _ (nm_r (Int32.add_assoc b y r) (nm_r (nI_1 k) (X post n1 b x3 m K))))⟩, fun post K => br_f n3 (LY _ (nm_e (nm_r (nI_1 k) (Y post K))))⟩
theorem rk_To_0 {to : Nat → Int32} {nw pr mg ng lg en co : Int32} (h : rk_To to nw pr mg ng lg en co) : rk_To (upd to 0 (to 0 + 1)) (nw + 1) pr mg ng lg en co :=
  ⟨pk_us.trans (by rw [h.1]), (pk_un (j := 1) (k := 0) (by decide)).trans h.2.1, (pk_un (j := 2) (k := 0) (by decide)).trans h.2.2.1, (pk_un (j := 3) (k := 0) (by decide)).trans h.2.2.2.1, (pk_un (j := 4) (k := 0) (by decide)).trans h.2.2.2.2.1, (pk_un (j := 5) (k := 0) (by decide)).trans h.2.2.2.2.2.1, (pk_un (j := 6) (k := 0) (by decide)).trans h.2.2.2.2.2.2⟩
theorem rk_tick1 (hN : N + 87 ≤ 67108864) (hw : w ≤ 1073741824) (h : rk_In N (fun _ => w) w C) :
    ∃ y C', rk_In (N + 87) (fun _ => w + 1) (w + 1) C' ∧
      (∀ (post : Int32 → SX → Prop) (n1 b x3 : Int32) (m : Nat), ¬ n1 ≤ x3 → wX_tick_16 post n1 m (b + y) (x3 + 1) (C' 0 0) (C' 1 0) (C' 2 0) (C' 3 0) (C' 4 0) (C' 5 0) (C' 6 0) (C' 7 0) (C' 8) (C' 9) (C' 10) (C' 11) (C' 12) (C' 13) (C' 14) (C' 15) (C' 16) (C' 17) (C' 18) (C' 19) (C' 20) (C' 21) (C' 22) (C' 23) (C' 24) (C' 25) (C' 26) (C' 27) (C' 28) (C' 29) (C' 30) (C' 31) (C' 32) (C' 33) (C' 34) (C' 35) (C' 36) (C' 37) (C' 38) (C' 39) (C' 40) (C' 41) (C' 42) (C' 43) (C' 44) (C' 45) (C' 46) (C' 47) (C' 48) (C' 49) (C' 50) (C' 51) (C' 52) (C' 53) (C' 54) (C' 55) (C' 56) → wX_tick_16 post n1 (m + 1) b x3 (C 0 0) (C 1 0) (C 2 0) (C 3 0) (C 4 0) (C 5 0) (C 6 0) (C 7 0) (C 8) (C 9) (C 10) (C 11) (C 12) (C 13) (C 14) (C 15) (C 16) (C 17) (C 18) (C 19) (C 20) (C 21) (C 22) (C 23) (C 24) (C 25) (C 26) (C 27) (C 28) (C 29) (C 30) (C 31) (C 32) (C 33) (C 34) (C 35) (C 36) (C 37) (C 38) (C 39) (C 40) (C 41) (C 42) (C 43) (C 44) (C 45) (C 46) (C 47) (C 48) (C 49) (C 50) (C 51) (C 52) (C 53) (C 54) (C 55) (C 56)) ∧
      (∀ post : Int32 → SY → Prop, post y (rk_mY C') → wpY_tickOnce post (rk_mY C)) := by
  have hC0 : rk_In N (fun _ => w) (w + 1) (rk_sA (rk_sA C 1 (fun _ => (C 1 0) + 1)) 74 (upd (C 74) 0 ((C 74) 0 + 1))) := by
    obtain ⟨h0, h1, h2, h3, h4, h5, h6, h7, h8, h9⟩ := h
    exact ⟨h0, h1, h2, h3, h4, h5, h6, h7, rk_To_0 h8, by show (C 1 0) + 1 = nI (w + 1); rw [h9, nI_1]⟩
  obtain ⟨C1, g1, X1, Y1⟩ := rk_spend (by omega) hC0
  have e1 : rk_mX (rk_sA (rk_sA C 1 (fun _ => (C 1 0) + 1)) 74 (upd (C 74) 0 ((C 74) 0 + 1))) = rk_mX (rk_sA C 1 (fun _ => (C 1 0) + 1)) := by simp only [rk_mX, rk_sA_s, rk_sA_n, ne_eq, Nat.reduceEqDiff, not_false_eq_true]
  have e2 : rk_mY (rk_sA (rk_sA C 1 (fun _ => (C 1 0) + 1)) 74 (upd (C 74) 0 ((C 74) 0 + 1))) = rk_mY (rk_sA C 74 (upd (C 74) 0 ((C 74) 0 + 1))) := by simp only [rk_mY, rk_sA_s, rk_sA_n, ne_eq, Nat.reduceEqDiff, not_false_eq_true]
  rw [e1] at X1
  rw [e2] at Y1
  have t1 : (C1 74) 0 = (C1 1 0) := g1.2.2.2.2.2.2.2.2.1.1
  have fin : ∀ C2 : rk_ST, rk_In (N + 11) (fun _ => w) (w + 1) C2 → ∃ y C', rk_In (N + 87) (fun _ => w + 1) (w + 1) C' ∧
      (∀ (post : Int32 → SX → Prop) (n1 b x3 : Int32) (m : Nat), wX_tick_16 post n1 m (b + y) (x3 + 1) (C' 0 0) (C' 1 0) (C' 2 0) (C' 3 0) (C' 4 0) (C' 5 0) (C' 6 0) (C' 7 0) (C' 8) (C' 9) (C' 10) (C' 11) (C' 12) (C' 13) (C' 14) (C' 15) (C' 16) (C' 17) (C' 18) (C' 19) (C' 20) (C' 21) (C' 22) (C' 23) (C' 24) (C' 25) (C' 26) (C' 27) (C' 28) (C' 29) (C' 30) (C' 31) (C' 32) (C' 33) (C' 34) (C' 35) (C' 36) (C' 37) (C' 38) (C' 39) (C' 40) (C' 41) (C' 42) (C' 43) (C' 44) (C' 45) (C' 46) (C' 47) (C' 48) (C' 49) (C' 50) (C' 51) (C' 52) (C' 53) (C' 54) (C' 55) (C' 56) → ∃ n, wX_tick_52 post (wX_tick_16 post n1 m) n1 b x3 n 0 (C2 0 0) (C2 1 0) (C2 2 0) (C2 3 0) (C2 4 0) (C2 5 0) (C2 6 0) (C2 7 0) (C2 8) (C2 9) (C2 10) (C2 11) (C2 12) (C2 13) (C2 14) (C2 15) (C2 16) (C2 17) (C2 18) (C2 19) (C2 20) (C2 21) (C2 22) (C2 23) (C2 24) (C2 25) (C2 26) (C2 27) (C2 28) (C2 29) (C2 30) (C2 31) (C2 32) (C2 33) (C2 34) (C2 35) (C2 36) (C2 37) (C2 38) (C2 39) (C2 40) (C2 41) (C2 42) (C2 43) (C2 44) (C2 45) (C2 46) (C2 47) (C2 48) (C2 49) (C2 50) (C2 51) (C2 52) (C2 53) (C2 54) (C2 55) (C2 56)) ∧
      (∀ post : Int32 → SY → Prop, post y (rk_mY C') → ∃ n, wY_tickOnce_34 post 0 n 0 (C2 57 0) (C2 58 0) (C2 8) (C2 59) (C2 9) (C2 10) (C2 11) (C2 13) (C2 60) (C2 16) (C2 15) (C2 61) (C2 62) (C2 36) (C2 38) (C2 37) (C2 63) (C2 64) (C2 18) (C2 65) (C2 66) (C2 67) (C2 68) (C2 39) (C2 42) (C2 43) (C2 40) (C2 69) (C2 70) (C2 49) (C2 52) (C2 51) (C2 53) (C2 71) (C2 72) (C2 54) (C2 73) (C2 74) (C2 56)) := by
    intro C2 g2
    obtain ⟨C3, g3, X3, Y3⟩ := rk_alL (w1 := w) (by omega) 10 0 (N + 11) C2 rfl (by omega) (rk_In_bs (fun t _ => (if_neg (Nat.not_lt_zero t)).symm) g2)
    obtain ⟨y, C', g, X4, Y4⟩ := rk_svL 3 0 0 (N + 11 + 10) C3 rfl (by omega) g3
    refine ⟨y, C', by rw [show N + 87 = N + 11 + 10 + 22 * 3 by omega]; exact g, fun post n1 b x3 m K => ⟨11, X3 post n1 b x3 m ⟨4, ?_⟩⟩, fun post K => ⟨11, Y3 post 0 ⟨4, Y4 post K⟩⟩⟩
    have z := X4 post n1 b x3 m K
    rw [Int32.add_zero] at z
    exact z
  by_cases c8 : ((C1 1 0) - (C1 1 0) / 8 * 8) = 0
  · obtain ⟨C2, g2, X2, Y2⟩ := rk_raiseL 10 0 (N + 1) C1 rfl (by omega) g1
    obtain ⟨y, C', g, XX, YY⟩ := fin C2 g2
    refine ⟨y, C', g, fun post n1 b x3 m hn K => br_f hn (nm_r (e' := (C 1 0) + 1) rfl (X1 _ (And.intro (by decide) (br_t c8 ?_)))), fun post K => nm_r (e' := upd (C 74) 0 ((C 74) 0 + 1)) rfl (Y1 _ (And.intro (by decide) (br_t (by rw [t1]; exact c8) ?_)))⟩
    · exact ⟨11, X2 _ (XX post n1 b x3 m K)⟩
    · exact ⟨11, Y2 _ (YY post K)⟩
  · obtain ⟨y, C', g, XX, YY⟩ := fin C1 (rk_In_up (by omega) g1)
    exact ⟨y, C', g, fun post n1 b x3 m hn K => br_f hn (nm_r (e' := (C 1 0) + 1) rfl (X1 _ (And.intro (by decide) (br_f c8 (XX post n1 b x3 m K))))), fun post K => nm_r (e' := upd (C 74) 0 ((C 74) 0 + 1)) rfl (Y1 _ (And.intro (by decide) (br_f (by rw [t1]; exact c8) (YY post K))))⟩
theorem rk_tickL {n : Nat} (hn : n ≤ 100) : ∀ (d i : Nat) (acc : Int32) (N w : Nat) (C : rk_ST), i + d = n → N + 87 * d ≤ 67108864 → w + d ≤ 1073741824 → rk_In N (fun _ => w) w C →
    ∃ r C', rk_In (N + 87 * d) (fun _ => w + d) (w + d) C' ∧ (∀ post : Int32 → SX → Prop, post r (rk_mX C') → wX_tick_16 post (nI n) (d + 1) acc (nI i) (C 0 0) (C 1 0) (C 2 0) (C 3 0) (C 4 0) (C 5 0) (C 6 0) (C 7 0) (C 8) (C 9) (C 10) (C 11) (C 12) (C 13) (C 14) (C 15) (C 16) (C 17) (C 18) (C 19) (C 20) (C 21) (C 22) (C 23) (C 24) (C 25) (C 26) (C 27) (C 28) (C 29) (C 30) (C 31) (C 32) (C 33) (C 34) (C 35) (C 36) (C 37) (C 38) (C 39) (C 40) (C 41) (C 42) (C 43) (C 44) (C 45) (C 46) (C 47) (C 48) (C 49) (C 50) (C 51) (C 52) (C 53) (C 54) (C 55) (C 56)) ∧ (∀ post : Int32 → SY → Prop, post r (rk_mY C') → wY_tick_16 post (nI n) (d + 1) acc (nI i) (C 57 0) (C 58 0) (C 8) (C 59) (C 9) (C 10) (C 11) (C 13) (C 60) (C 16) (C 15) (C 61) (C 62) (C 36) (C 38) (C 37) (C 63) (C 64) (C 18) (C 65) (C 66) (C 67) (C 68) (C 39) (C 42) (C 43) (C 40) (C 69) (C 70) (C 49) (C 52) (C 51) (C 53) (C 71) (C 72) (C 54) (C 73) (C 74) (C 56)) := by
  intro d
  induction d with
  | zero =>
    intro i acc N w C hi hN hw h
    have e : i = n := by omega
    subst e
    exact ⟨acc, C, h, fun post K => br_t (nI_le (Nat.le_refl i) (by omega)) K, fun post K => br_t (nI_le (Nat.le_refl i) (by omega)) K⟩
  | succ d ih =>
    intro i acc N w C hi hN hw h
    have hni : ¬ nI n ≤ nI i := nI_ge (by omega) (by omega)
    obtain ⟨y, C1, g1, X1, Y1⟩ := rk_tick1 (by omega) (by omega) h
    obtain ⟨r, C', g, X, Y⟩ := ih (i + 1) (acc + y) (N + 87) (w + 1) C1 (by omega) (by omega) (by omega) g1
    refine ⟨r, C', by rw [show N + 87 * (d + 1) = N + 87 + 87 * d by omega, show w + (d + 1) = w + 1 + d by omega]; exact g, fun post K => X1 post (nI n) acc (nI i) (d + 1) hni ?_, fun post K => br_f hni (Y1 _ (nm_e (nm_r (nI_1 i) (Y post K))))⟩
    rw [nI_1]
    exact X post K
theorem rk_tick (hN : N + 8700 ≤ 67108864) (hw : w + 100 ≤ 1073741824) (h : rk_In N (fun _ => w) w C) (v1 : Int32) :
    ∃ r w' C', w' ≤ w + 100 ∧ rk_In (N + 8700) (fun _ => w') w' C' ∧ (∀ post : Int32 → SX → Prop, post r (rk_mX C') → wpX_tick post (rk_mX C) v1) ∧ (∀ post : Int32 → SY → Prop, post r (rk_mY C') → wpY_tick post (rk_mY C) v1) := by
  rcases rk_rng v1 1 100 with z | ⟨z1, z2⟩
  · refine ⟨-1, w, C, by omega, rk_In_up (by omega) h, fun post K => ?_, fun post K => ?_⟩
    · unfold wpX_tick
      exact rk_xout1 z (br_f (by decide) K)
    · unfold wpY_tick
      exact rk_yin0 z (br_t rfl K)
  · have z0 : ¬ v1 < 0 := fun q => z1 (Int32.lt_trans q (by decide))
    obtain ⟨n, hn, rfl⟩ := nI_of2 (n := 100) (by decide) z0 z2
    obtain ⟨r, C', g, X, Y⟩ := rk_tickL hn n 0 0 N w C (Nat.zero_add n) (by omega) (by omega) h
    refine ⟨r, w + n, C', by omega, rk_In_up (by omega) g, fun post K => ?_, fun post K => ?_⟩
    · unfold wpX_tick
      exact rk_xout0 z1 z2 (br_t rfl ⟨_, X post K⟩)
    · unfold wpY_tick
      exact rk_yin1 z1 z2 (br_f (by decide) ⟨_, Y post K⟩)
end
end
section
/-! copy -/
def rk_bf (b m : Nat → Int32) (f i : Nat) : Nat → Int32 := fun k => if k < i then m (f + k) else b k
def rk_wb (m b : Nat → Int32) (t i : Nat) : Nat → Int32 := fun j => if t ≤ j ∧ j < t + i then b (j - t) else m j
def rk_ft (x6 x13 x14 : Int32) (f t : Nat) : Prop := (x6 = 0 ∧ x14 = nI f ∧ x13 = nI t) ∨ (¬ x6 = 0 ∧ x13 = nI f ∧ x14 = nI t)
section
variable {C E : rk_ST} {N : Nat} {s r p q k c a f t n : Nat} {x e v how : Int32} {bs bs' : Nat → Nat} {w : Nat}
theorem rk_bf_0 (b m : Nat → Int32) (f : Nat) : rk_bf b m f 0 = b := by
  funext i
  exact if_neg (by omega)
theorem rk_bf_s (b m : Nat → Int32) (f i : Nat) : upd (rk_bf b m f i) i (m (f + i)) = rk_bf b m f (i + 1) := by
  funext j
  by_cases e : j = i
  · subst e
    rw [pk_us]
    unfold rk_bf
    rw [if_pos (by omega)]
  · rw [pk_un e]
    unfold rk_bf
    by_cases z : j < i
    · rw [if_pos z, if_pos (by omega)]
    · rw [if_neg z, if_neg (by omega)]
theorem rk_wb_0 (m b : Nat → Int32) (t : Nat) : rk_wb m b t 0 = m := by
  funext i
  exact if_neg (by omega)
theorem rk_wb_s (m b : Nat → Int32) (t i : Nat) : upd (rk_wb m b t i) (t + i) (b i) = rk_wb m b t (i + 1) := by
  funext j
  by_cases e : j = t + i
  · subst e
    rw [pk_us]
    unfold rk_wb
    rw [if_pos (by omega), Nat.add_sub_cancel_left]
  · rw [pk_un e]
    unfold rk_wb
    by_cases z : t ≤ j ∧ j < t + i
    · rw [if_pos z, if_pos (by omega)]
    · rw [if_neg z, if_neg (by omega)]
theorem rk_xcp220 {post : Int32 → SX → Prop} (hn : n ≤ 16) (ht : t + n ≤ 160) (K : post 0 (rk_mX (rk_sA (rk_sA E 18 (rk_wb (E 18) (E 56) t n)) 7 (fun _ => (E 7 0) + nI n)))) : ∀ d i, i + d = n → wX_copy_220 post (nI n) (nI t) (E 0 0) (E 1 0) (E 2 0) (E 3 0) (E 4 0) (E 5 0) (E 6 0) (E 7 0) (d + 1) (nI i) (E 8) (E 9) (E 10) (E 11) (E 12) (E 13) (E 14) (E 15) (E 16) (E 17) (rk_wb (E 18) (E 56) t i) (E 19) (E 20) (E 21) (E 22) (E 23) (E 24) (E 25) (E 26) (E 27) (E 28) (E 29) (E 30) (E 31) (E 32) (E 33) (E 34) (E 35) (E 36) (E 37) (E 38) (E 39) (E 40) (E 41) (E 42) (E 43) (E 44) (E 45) (E 46) (E 47) (E 48) (E 49) (E 50) (E 51) (E 52) (E 53) (E 54) (E 55) (E 56) := by
  intro d
  induction d with
  | zero =>
    intro i hi
    have e : i = n := by omega
    subst e
    exact br_t (nI_le (Nat.le_refl i) (by omega)) (nm_r (e' := (E 7 0) + nI i) rfl K)
  | succ d ih =>
    intro i hi
    have ei : (nI i).toNatClampNeg = i := rk_cl (by omega)
    exact br_f (nI_ge (a := i) (b := n) (by omega) (by omega)) ⟨rk_in (by omega), by rw [nI_add]; exact rk_in (by omega), nm_r (e' := rk_wb (E 18) (E 56) t (i + 1)) (by rw [nI_add, rk_cl (by omega : t + i < 160), ei, rk_wb_s]) (nm_r (nI_1 i) (ih (i + 1) (by omega)))⟩
theorem rk_xcp187 {post : Int32 → SX → Prop} (hn : n ≤ 16) (hf : f + n ≤ 160) (K : ∃ m, wX_copy_220 post (nI n) (nI t) (E 0 0) (E 1 0) (E 2 0) (E 3 0) (E 4 0) (E 5 0) (E 6 0) (E 7 0) m 0 (E 8) (E 9) (E 10) (E 11) (E 12) (E 13) (E 14) (E 15) (E 16) (E 17) (E 18) (E 19) (E 20) (E 21) (E 22) (E 23) (E 24) (E 25) (E 26) (E 27) (E 28) (E 29) (E 30) (E 31) (E 32) (E 33) (E 34) (E 35) (E 36) (E 37) (E 38) (E 39) (E 40) (E 41) (E 42) (E 43) (E 44) (E 45) (E 46) (E 47) (E 48) (E 49) (E 50) (E 51) (E 52) (E 53) (E 54) (E 55) (rk_bf (E 56) (E 18) f n)) : ∀ d i, i + d = n → wX_copy_187 post (nI n) (nI f) (nI t) (E 0 0) (E 1 0) (E 2 0) (E 3 0) (E 4 0) (E 5 0) (E 6 0) (E 7 0) (d + 1) (nI i) (E 8) (E 9) (E 10) (E 11) (E 12) (E 13) (E 14) (E 15) (E 16) (E 17) (E 18) (E 19) (E 20) (E 21) (E 22) (E 23) (E 24) (E 25) (E 26) (E 27) (E 28) (E 29) (E 30) (E 31) (E 32) (E 33) (E 34) (E 35) (E 36) (E 37) (E 38) (E 39) (E 40) (E 41) (E 42) (E 43) (E 44) (E 45) (E 46) (E 47) (E 48) (E 49) (E 50) (E 51) (E 52) (E 53) (E 54) (E 55) (rk_bf (E 56) (E 18) f i) := by
  intro d
  induction d with
  | zero =>
    intro i hi
    have e : i = n := by omega
    subst e
    exact br_t (nI_le (Nat.le_refl i) (by omega)) K
  | succ d ih =>
    intro i hi
    have ei : (nI i).toNatClampNeg = i := rk_cl (by omega)
    exact br_f (nI_ge (a := i) (b := n) (by omega) (by omega)) ⟨by rw [nI_add]; exact rk_in (by omega), rk_in (by omega), nm_r (e' := rk_bf (E 56) (E 18) f (i + 1)) (by rw [nI_add, rk_cl (by omega : f + i < 160), ei, rk_bf_s]) (nm_r (nI_1 i) (ih (i + 1) (by omega)))⟩
theorem rk_ycp321 {post : Int32 → SY → Prop} {x6 x13 x14 : Int32} (hx : rk_ft x6 x13 x14 f t) (hn : n ≤ 16) (ht : t + n ≤ 160) (K : post 0 (rk_mY (rk_sA (rk_sA E 18 (rk_wb (E 18) (E 56) t n)) 74 (upd (E 74) 6 ((E 74) 6 + nI n))))) : ∀ d i, i + d = n → wY_copy_321 post (nI n) x6 x13 x14 (E 57 0) (E 58 0) (d + 1) (nI i) (E 8) (E 59) (E 9) (E 10) (E 11) (E 13) (E 60) (E 16) (E 15) (E 61) (E 62) (E 36) (E 38) (E 37) (E 63) (E 64) (rk_wb (E 18) (E 56) t i) (E 65) (E 66) (E 67) (E 68) (E 39) (E 42) (E 43) (E 40) (E 69) (E 70) (E 49) (E 52) (E 51) (E 53) (E 71) (E 72) (E 54) (E 73) (E 74) (E 56) := by
  intro d
  induction d with
  | zero =>
    intro i hi
    have e : i = n := by omega
    subst e
    exact br_t (nI_le (Nat.le_refl i) (by omega)) (nm_r (e' := upd (E 74) 6 ((E 74) 6 + nI i)) rfl K)
  | succ d ih =>
    intro i hi
    have ei : (nI i).toNatClampNeg = i := rk_cl (by omega)
    refine br_f (nI_ge (a := i) (b := n) (by omega) (by omega)) ?_
    have go : ∀ z0, z0 = nI t → wY_copy_344 post (wY_copy_321 post (nI n) x6 x13 x14 (E 57 0) (E 58 0) (d + 1)) (nI n) x6 x13 x14 (nI i) z0 (E 57 0) (E 58 0) (E 8) (E 59) (E 9) (E 10) (E 11) (E 13) (E 60) (E 16) (E 15) (E 61) (E 62) (E 36) (E 38) (E 37) (E 63) (E 64) (rk_wb (E 18) (E 56) t i) (E 65) (E 66) (E 67) (E 68) (E 39) (E 42) (E 43) (E 40) (E 69) (E 70) (E 49) (E 52) (E 51) (E 53) (E 71) (E 72) (E 54) (E 73) (E 74) (E 56) := by
      intro z0 hz
      subst hz
      exact And.intro (rk_in (by omega)) ⟨by rw [nI_add]; exact rk_in (by omega), nm_r (e' := rk_wb (E 18) (E 56) t (i + 1)) (by rw [nI_add, rk_cl (by omega : t + i < 160), ei, rk_wb_s]) (nm_r (nI_1 i) (ih (i + 1) (by omega)))⟩
    rcases hx with ⟨h1, h2, h3⟩ | ⟨h1, h2, h3⟩
    · exact br_t h1 (go x13 h3)
    · exact br_f h1 (go x14 h3)
theorem rk_ycp278 {post : Int32 → SY → Prop} {x6 x13 x14 : Int32} (hx : rk_ft x6 x13 x14 f t) (hn : n ≤ 16) (hf : f + n ≤ 160) (K : ∃ m, wY_copy_321 post (nI n) x6 x13 x14 (E 57 0) (E 58 0) m 0 (E 8) (E 59) (E 9) (E 10) (E 11) (E 13) (E 60) (E 16) (E 15) (E 61) (E 62) (E 36) (E 38) (E 37) (E 63) (E 64) (E 18) (E 65) (E 66) (E 67) (E 68) (E 39) (E 42) (E 43) (E 40) (E 69) (E 70) (E 49) (E 52) (E 51) (E 53) (E 71) (E 72) (E 54) (E 73) (E 74) (rk_bf (E 56) (E 18) f n)) : ∀ d i, i + d = n → wY_copy_278 post (nI n) x6 x13 x14 (E 57 0) (E 58 0) (d + 1) (nI i) (E 8) (E 59) (E 9) (E 10) (E 11) (E 13) (E 60) (E 16) (E 15) (E 61) (E 62) (E 36) (E 38) (E 37) (E 63) (E 64) (E 18) (E 65) (E 66) (E 67) (E 68) (E 39) (E 42) (E 43) (E 40) (E 69) (E 70) (E 49) (E 52) (E 51) (E 53) (E 71) (E 72) (E 54) (E 73) (E 74) (rk_bf (E 56) (E 18) f i) := by
  intro d
  induction d with
  | zero =>
    intro i hi
    have e : i = n := by omega
    subst e
    exact br_t (nI_le (Nat.le_refl i) (by omega)) K
  | succ d ih =>
    intro i hi
    have ei : (nI i).toNatClampNeg = i := rk_cl (by omega)
    have z := ih (i + 1) (by omega)
    refine br_f (nI_ge (a := i) (b := n) (by omega) (by omega)) ?_
    rcases hx with ⟨h1, h2, h3⟩ | ⟨h1, h2, h3⟩
    · subst h2
      exact br_t h1 ⟨by rw [nI_add]; exact rk_in (by omega), rk_in (by omega), nm_r (e' := rk_bf (E 56) (E 18) f (i + 1)) (by rw [nI_add, rk_cl (by omega : f + i < 160), ei, rk_bf_s]) (nm_r (nI_1 i) z)⟩
    · subst h2
      exact br_f h1 ⟨by rw [nI_add]; exact rk_in (by omega), rk_in (by omega), nm_r (e' := rk_bf (E 56) (E 18) f (i + 1)) (by rw [nI_add, rk_cl (by omega : f + i < 160), ei, rk_bf_s]) (nm_r (nI_1 i) z)⟩
theorem rk_slot_ep (hN : N ≤ 67108864) (hT : rk_Tie (C 8) (C 75)) (hB : rk_Bir N (C 75) (C 12) (C 59)) (hs : s < 10) (ha : (C 75) s = 1) :
    (∀ post : Int32 → Prop, post (nI s) → wpX_slotOf post (rk_mX C) (rk_ep (C 12) s)) ∧ (∀ post : Int32 → Prop, post (nI s) → wpY_slotOf post (rk_mY C) (rk_ep (C 12) s)) := by
  obtain ⟨v, hv, X, Y⟩ := rk_slot hN hT hB (rk_ep (C 12) s)
  rcases hv with ⟨_, l⟩ | ⟨s', h1, h2, h3, h4⟩
  · exact absurd rfl (l s hs ha)
  · have : s = s' := rk_ep_inj hN hB hs h1 h4
    subst this
    subst h2
    exact ⟨X, Y⟩
theorem rk_resolveL (hN : N ≤ 67108864) (h : rk_Co N rk_fa 0 C C) (hG : rk_Gr (C 39) (C 40) (C 41) (C 43) (C 69)) :
    ∀ (d k u s j : Nat), k + d = 3 → u < 10 → (C 75) u = 1 → s < 10 → (C 75) s = 1 → j < 4 → ∃ v, (v = -4 ∨ v = -3 ∨ ∃ g, g < 40 ∧ v = nI g ∧ (C 39) g = 1) ∧
      (∀ post : Int32 → Prop, post v → wX_resolve_20 post (C 0 0) (C 1 0) (C 2 0) (C 3 0) (C 4 0) (C 5 0) (C 6 0) (C 7 0) (C 8) (C 9) (C 10) (C 11) (C 12) (C 13) (C 14) (C 15) (C 16) (C 17) (C 18) (C 19) (C 20) (C 21) (C 22) (C 23) (C 24) (C 25) (C 26) (C 27) (C 28) (C 29) (C 30) (C 31) (C 32) (C 33) (C 34) (C 35) (C 36) (C 37) (C 38) (C 39) (C 40) (C 41) (C 42) (C 43) (C 44) (C 45) (C 46) (C 47) (C 48) (C 49) (C 50) (C 51) (C 52) (C 53) (C 54) (C 55) (C 56) (d + 1) (nI u) (nI s) (nI (4 * s + j)) (nI k)) ∧
      (∀ (post : Int32 → SY → Prop) (x3 x4 x5 x6 x7 x12 : Int32), (¬ 0 ≤ v → post v (rk_mY C)) → (0 ≤ v → wY_copy_204 post x3 x4 x5 x6 x7 v (C 57 0) (C 58 0) (C 8) (C 59) (C 9) (C 10) (C 11) (C 13) (C 60) (C 16) (C 15) (C 61) (C 62) (C 36) (C 38) (C 37) (C 63) (C 64) (C 18) (C 65) (C 66) (C 67) (C 68) (C 39) (C 42) (C 43) (C 40) (C 69) (C 70) (C 49) (C 52) (C 51) (C 53) (C 71) (C 72) (C 54) (C 73) (C 74) (C 56)) → wY_copy_85 post x3 x4 x5 x6 x7 (C 57 0) (C 58 0) (C 8) (C 59) (C 9) (C 10) (C 11) (C 13) (C 60) (C 16) (C 15) (C 61) (C 62) (C 36) (C 38) (C 37) (C 63) (C 64) (C 18) (C 65) (C 66) (C 67) (C 68) (C 39) (C 42) (C 43) (C 40) (C 69) (C 70) (C 49) (C 52) (C 51) (C 53) (C 71) (C 72) (C 54) (C 73) (C 74) (C 56) (d + 2) (rk_ep (C 12) u) (rk_ep (C 12) s) (nI j) x12 (nI (k + 1))) := by
  obtain ⟨hT, _, hB, _⟩ := h
  intro d
  induction d with
  | zero =>
    intro k u s j hk hu hau hs has hj
    have e : k = 3 := by omega
    subst e
    obtain ⟨_, QY⟩ := rk_slot_ep hN hT hB hs has
    have ig : vp_in (nI (4 * s + j)) 40 := rk_in (by omega)
    have eg : (nI (4 * s + j)).toNatClampNeg = 4 * s + j := rk_cl (by omega)
    have p0 : (0 : Int32) ≤ nI s := nI_pos' (by omega)
    rcases hG (4 * s + j) (by omega) with k0 | ⟨k1, _⟩ | ⟨k2, _⟩
    · exact ⟨-4, Or.inl rfl, fun post K => br_f (by decide) ⟨ig, br_t (by rw [eg]; exact k0) K⟩, fun post x3 x4 x5 x6 x7 x12 K1 K2 => br_f (by decide) (br_f (by decide) (QY _ (br_t p0 (nm_r (e' := nI (4 * s + j)) (rk_4 s j) ⟨ig, br_t (by rw [eg]; exact k0) (K1 (by decide))⟩))))⟩
    · have n0 : ¬ (C 39) (4 * s + j) = 0 := by rw [k1]; decide
      by_cases c : (C 42) (4 * s + j) = -1 ∨ (C 42) (4 * s + j) = rk_ep (C 12) u
      · refine ⟨nI (4 * s + j), Or.inr (Or.inr ⟨_, by omega, rfl, k1⟩), fun post K => br_f (by decide) ⟨ig, br_f (by rw [eg]; exact n0) ⟨ig, ?_⟩⟩, fun post x3 x4 x5 x6 x7 x12 K1 K2 => br_f (by decide) (br_f (by decide) (QY _ (br_t p0 (nm_r (e' := nI (4 * s + j)) (rk_4 s j) ⟨ig, br_f (by rw [eg]; exact n0) ⟨ig, ?_⟩⟩))))⟩
        · have z : ∀ J, wX_resolve_66 post J (nI s) (nI (4 * s + j)) (nI 3) (C 0 0) (C 1 0) (C 2 0) (C 3 0) (C 4 0) (C 5 0) (C 6 0) (C 7 0) (C 8) (C 9) (C 10) (C 11) (C 12) (C 13) (C 14) (C 15) (C 16) (C 17) (C 18) (C 19) (C 20) (C 21) (C 22) (C 23) (C 24) (C 25) (C 26) (C 27) (C 28) (C 29) (C 30) (C 31) (C 32) (C 33) (C 34) (C 35) (C 36) (C 37) (C 38) (C 39) (C 40) (C 41) (C 42) (C 43) (C 44) (C 45) (C 46) (C 47) (C 48) (C 49) (C 50) (C 51) (C 52) (C 53) (C 54) (C 55) (C 56) := fun J => And.intro ig (br_t (by rw [eg]; exact k1) K)
          by_cases c1 : (C 42) (4 * s + j) = -1
          · exact br_t (by rw [eg]; exact c1) (z _)
          · exact br_f (by rw [eg]; exact c1) ⟨ig, rk_xep hu (br_t (by rw [eg]; exact c.resolve_left c1) (z _))⟩
        · have z : ∀ J, wY_copy_162 post J x3 x4 x5 x6 x7 (rk_ep (C 12) s) (nI (4 * s + j)) (nI (3 + 1)) (C 57 0) (C 58 0) (C 8) (C 59) (C 9) (C 10) (C 11) (C 13) (C 60) (C 16) (C 15) (C 61) (C 62) (C 36) (C 38) (C 37) (C 63) (C 64) (C 18) (C 65) (C 66) (C 67) (C 68) (C 39) (C 42) (C 43) (C 40) (C 69) (C 70) (C 49) (C 52) (C 51) (C 53) (C 71) (C 72) (C 54) (C 73) (C 74) (C 56) := fun J => And.intro ig (br_t (by rw [eg]; exact k1) (K2 (nI_pos' (by omega))))
          by_cases c1 : (C 42) (4 * s + j) = -1
          · exact br_t (by rw [eg]; exact c1) (z _)
          · exact br_f (by rw [eg]; exact c1) ⟨ig, br_t (by rw [eg]; exact c.resolve_left c1) (z _)⟩
      · have c1 : ¬ (C 42) (4 * s + j) = -1 := fun q => c (Or.inl q)
        have c2 : ¬ (C 42) (4 * s + j) = rk_ep (C 12) u := fun q => c (Or.inr q)
        exact ⟨-4, Or.inl rfl, fun post K => br_f (by decide) ⟨ig, br_f (by rw [eg]; exact n0) ⟨ig, br_f (by rw [eg]; exact c1) ⟨ig, rk_xep hu (br_f (by rw [eg]; exact c2) K)⟩⟩⟩, fun post x3 x4 x5 x6 x7 x12 K1 K2 => br_f (by decide) (br_f (by decide) (QY _ (br_t p0 (nm_r (e' := nI (4 * s + j)) (rk_4 s j) ⟨ig, br_f (by rw [eg]; exact n0) ⟨ig, br_f (by rw [eg]; exact c1) ⟨ig, br_f (by rw [eg]; exact c2) (K1 (by decide))⟩⟩⟩))))⟩
    · have n0 : ¬ (C 39) (4 * s + j) = 0 := by rw [k2]; decide
      have n1 : ¬ (C 39) (4 * s + j) = 1 := by rw [k2]; decide
      refine ⟨-4, Or.inl rfl, fun post K => br_f (by decide) ⟨ig, br_f (by rw [eg]; exact n0) ⟨ig, ?_⟩⟩, fun post x3 x4 x5 x6 x7 x12 K1 K2 => br_f (by decide) (br_f (by decide) (QY _ (br_t p0 (nm_r (e' := nI (4 * s + j)) (rk_4 s j) ⟨ig, br_f (by rw [eg]; exact n0) ⟨ig, ?_⟩⟩))))⟩
      · have z : ∀ J, wX_resolve_66 post J (nI s) (nI (4 * s + j)) (nI 3) (C 0 0) (C 1 0) (C 2 0) (C 3 0) (C 4 0) (C 5 0) (C 6 0) (C 7 0) (C 8) (C 9) (C 10) (C 11) (C 12) (C 13) (C 14) (C 15) (C 16) (C 17) (C 18) (C 19) (C 20) (C 21) (C 22) (C 23) (C 24) (C 25) (C 26) (C 27) (C 28) (C 29) (C 30) (C 31) (C 32) (C 33) (C 34) (C 35) (C 36) (C 37) (C 38) (C 39) (C 40) (C 41) (C 42) (C 43) (C 44) (C 45) (C 46) (C 47) (C 48) (C 49) (C 50) (C 51) (C 52) (C 53) (C 54) (C 55) (C 56) := fun J => And.intro ig (br_f (by rw [eg]; exact n1) (br_t rfl K))
        by_cases c1 : (C 42) (4 * s + j) = -1
        · exact br_t (by rw [eg]; exact c1) (z _)
        · refine br_f (by rw [eg]; exact c1) ⟨ig, rk_xep hu ?_⟩
          by_cases c2 : (C 42) (4 * s + j) = rk_ep (C 12) u
          · exact br_t (by rw [eg]; exact c2) (z _)
          · exact br_f (by rw [eg]; exact c2) K
      · have z : wY_copy_162 post (wY_copy_85 post x3 x4 x5 x6 x7 (C 57 0) (C 58 0) (C 8) (C 59) (C 9) (C 10) (C 11) (C 13) (C 60) (C 16) (C 15) (C 61) (C 62) (C 36) (C 38) (C 37) (C 63) (C 64) (C 18) (C 65) (C 66) (C 67) (C 68) (C 39) (C 42) (C 43) (C 40) (C 69) (C 70) (C 49) (C 52) (C 51) (C 53) (C 71) (C 72) (C 54) (C 73) (C 74) (C 56) 1) x3 x4 x5 x6 x7 (rk_ep (C 12) s) (nI (4 * s + j)) (nI (3 + 1)) (C 57 0) (C 58 0) (C 8) (C 59) (C 9) (C 10) (C 11) (C 13) (C 60) (C 16) (C 15) (C 61) (C 62) (C 36) (C 38) (C 37) (C 63) (C 64) (C 18) (C 65) (C 66) (C 67) (C 68) (C 39) (C 42) (C 43) (C 40) (C 69) (C 70) (C 49) (C 52) (C 51) (C 53) (C 71) (C 72) (C 54) (C 73) (C 74) (C 56) := And.intro ig (br_f (by rw [eg]; exact n1) ⟨ig, nm_e ⟨ig, nm_e (nm_r (nI_1 4) (br_f (by decide) (br_t rfl (K1 (by decide)))))⟩⟩)
        by_cases c1 : (C 42) (4 * s + j) = -1
        · exact br_t (by rw [eg]; exact c1) z
        · refine br_f (by rw [eg]; exact c1) ⟨ig, ?_⟩
          by_cases c2 : (C 42) (4 * s + j) = rk_ep (C 12) u
          · exact br_t (by rw [eg]; exact c2) z
          · exact br_f (by rw [eg]; exact c2) (K1 (by decide))
  | succ d ih =>
    intro k u s j hk hu hau hs has hj
    have k4 : ¬ (4 : Int32) ≤ nI k := nI_ge (b := 4) (by omega) (by omega)
    have k6 : ¬ (6 : Int32) ≤ nI (k + 1) := nI_ge (b := 6) (by omega) (by omega)
    have k5 : ¬ nI (k + 1) = 5 := fun z => by have := rk_inj (b := 5) (by omega) (by omega) z; omega
    have k3 : ¬ nI k = 3 := fun z => by have := rk_inj (b := 3) (by omega) (by omega) z; omega
    obtain ⟨_, QY⟩ := rk_slot_ep hN hT hB hs has
    have ig : vp_in (nI (4 * s + j)) 40 := rk_in (by omega)
    have eg : (nI (4 * s + j)).toNatClampNeg = 4 * s + j := rk_cl (by omega)
    have p0 : (0 : Int32) ≤ nI s := nI_pos' (by omega)
    by_cases n0 : (C 39) (4 * s + j) = 0
    · exact ⟨-4, Or.inl rfl, fun post K => br_f k4 ⟨ig, br_t (by rw [eg]; exact n0) K⟩, fun post x3 x4 x5 x6 x7 x12 K1 K2 => br_f k6 (br_f k5 (QY _ (br_t p0 (nm_r (e' := nI (4 * s + j)) (rk_4 s j) ⟨ig, br_t (by rw [eg]; exact n0) (K1 (by decide))⟩))))⟩
    · by_cases c : (C 42) (4 * s + j) = -1 ∨ (C 42) (4 * s + j) = rk_ep (C 12) u
      · have topX : ∀ (n : Nat) (post : Int32 → Prop), wX_resolve_66 post (wX_resolve_20 post (C 0 0) (C 1 0) (C 2 0) (C 3 0) (C 4 0) (C 5 0) (C 6 0) (C 7 0) (C 8) (C 9) (C 10) (C 11) (C 12) (C 13) (C 14) (C 15) (C 16) (C 17) (C 18) (C 19) (C 20) (C 21) (C 22) (C 23) (C 24) (C 25) (C 26) (C 27) (C 28) (C 29) (C 30) (C 31) (C 32) (C 33) (C 34) (C 35) (C 36) (C 37) (C 38) (C 39) (C 40) (C 41) (C 42) (C 43) (C 44) (C 45) (C 46) (C 47) (C 48) (C 49) (C 50) (C 51) (C 52) (C 53) (C 54) (C 55) (C 56) n) (nI s) (nI (4 * s + j)) (nI k) (C 0 0) (C 1 0) (C 2 0) (C 3 0) (C 4 0) (C 5 0) (C 6 0) (C 7 0) (C 8) (C 9) (C 10) (C 11) (C 12) (C 13) (C 14) (C 15) (C 16) (C 17) (C 18) (C 19) (C 20) (C 21) (C 22) (C 23) (C 24) (C 25) (C 26) (C 27) (C 28) (C 29) (C 30) (C 31) (C 32) (C 33) (C 34) (C 35) (C 36) (C 37) (C 38) (C 39) (C 40) (C 41) (C 42) (C 43) (C 44) (C 45) (C 46) (C 47) (C 48) (C 49) (C 50) (C 51) (C 52) (C 53) (C 54) (C 55) (C 56) → wX_resolve_20 post (C 0 0) (C 1 0) (C 2 0) (C 3 0) (C 4 0) (C 5 0) (C 6 0) (C 7 0) (C 8) (C 9) (C 10) (C 11) (C 12) (C 13) (C 14) (C 15) (C 16) (C 17) (C 18) (C 19) (C 20) (C 21) (C 22) (C 23) (C 24) (C 25) (C 26) (C 27) (C 28) (C 29) (C 30) (C 31) (C 32) (C 33) (C 34) (C 35) (C 36) (C 37) (C 38) (C 39) (C 40) (C 41) (C 42) (C 43) (C 44) (C 45) (C 46) (C 47) (C 48) (C 49) (C 50) (C 51) (C 52) (C 53) (C 54) (C 55) (C 56) (n + 1) (nI u) (nI s) (nI (4 * s + j)) (nI k) := by
          intro n post z
          refine br_f k4 ⟨ig, br_f (by rw [eg]; exact n0) ⟨ig, ?_⟩⟩
          by_cases c1 : (C 42) (4 * s + j) = -1
          · exact br_t (by rw [eg]; exact c1) z
          · exact br_f (by rw [eg]; exact c1) ⟨ig, rk_xep hu (br_t (by rw [eg]; exact c.resolve_left c1) z)⟩
        have topY : ∀ (n : Nat) (post : Int32 → SY → Prop) (x3 x4 x5 x6 x7 x12 : Int32), wY_copy_162 post (wY_copy_85 post x3 x4 x5 x6 x7 (C 57 0) (C 58 0) (C 8) (C 59) (C 9) (C 10) (C 11) (C 13) (C 60) (C 16) (C 15) (C 61) (C 62) (C 36) (C 38) (C 37) (C 63) (C 64) (C 18) (C 65) (C 66) (C 67) (C 68) (C 39) (C 42) (C 43) (C 40) (C 69) (C 70) (C 49) (C 52) (C 51) (C 53) (C 71) (C 72) (C 54) (C 73) (C 74) (C 56) n) x3 x4 x5 x6 x7 (rk_ep (C 12) s) (nI (4 * s + j)) (nI (k + 1)) (C 57 0) (C 58 0) (C 8) (C 59) (C 9) (C 10) (C 11) (C 13) (C 60) (C 16) (C 15) (C 61) (C 62) (C 36) (C 38) (C 37) (C 63) (C 64) (C 18) (C 65) (C 66) (C 67) (C 68) (C 39) (C 42) (C 43) (C 40) (C 69) (C 70) (C 49) (C 52) (C 51) (C 53) (C 71) (C 72) (C 54) (C 73) (C 74) (C 56) → wY_copy_85 post x3 x4 x5 x6 x7 (C 57 0) (C 58 0) (C 8) (C 59) (C 9) (C 10) (C 11) (C 13) (C 60) (C 16) (C 15) (C 61) (C 62) (C 36) (C 38) (C 37) (C 63) (C 64) (C 18) (C 65) (C 66) (C 67) (C 68) (C 39) (C 42) (C 43) (C 40) (C 69) (C 70) (C 49) (C 52) (C 51) (C 53) (C 71) (C 72) (C 54) (C 73) (C 74) (C 56) (n + 1) (rk_ep (C 12) u) (rk_ep (C 12) s) (nI j) x12 (nI (k + 1)) := by
          intro n post x3 x4 x5 x6 x7 x12 z
          refine br_f k6 (br_f k5 (QY _ (br_t p0 (nm_r (e' := nI (4 * s + j)) (rk_4 s j) ⟨ig, br_f (by rw [eg]; exact n0) ⟨ig, ?_⟩⟩))))
          by_cases c1 : (C 42) (4 * s + j) = -1
          · exact br_t (by rw [eg]; exact c1) z
          · exact br_f (by rw [eg]; exact c1) ⟨ig, br_t (by rw [eg]; exact c.resolve_left c1) z⟩
        rcases hG (4 * s + j) (by omega) with z | ⟨k1, _⟩ | ⟨k2, j', hj', ej'⟩
        · exact absurd z n0
        · exact ⟨nI (4 * s + j), Or.inr (Or.inr ⟨_, by omega, rfl, k1⟩), fun post K => topX _ post (And.intro ig (br_t (by rw [eg]; exact k1) K)), fun post x3 x4 x5 x6 x7 x12 K1 K2 => topY _ post x3 x4 x5 x6 x7 x12 (And.intro ig (br_t (by rw [eg]; exact k1) (K2 (nI_pos' (by omega)))))⟩
        · have n1 : ¬ (C 39) (4 * s + j) = 1 := by rw [k2]; decide
          obtain ⟨v, hv, VX, VY⟩ := rk_slot hN hT hB ((C 43) (4 * s + j))
          rcases hv with ⟨rfl, l⟩ | ⟨s', hs', rfl, has', ee⟩
          · refine ⟨-3, Or.inr (Or.inl rfl), fun post K => topX _ post (And.intro ig (br_f (by rw [eg]; exact n1) (br_f k3 ⟨ig, ?_⟩))), fun post x3 x4 x5 x6 x7 x12 K1 K2 => topY _ post x3 x4 x5 x6 x7 x12 (And.intro ig (br_f (by rw [eg]; exact n1) ⟨ig, nm_r (e' := (C 43) (4 * s + j)) (by rw [eg]) ⟨ig, nm_e (nm_r (nI_1 (k + 1)) ?_)⟩⟩))⟩
            · rw [eg]
              exact VX _ (br_f rk_m1nle K)
            · have k6' : ¬ (6 : Int32) ≤ nI (k + 1 + 1) := nI_ge (b := 6) (by omega) (by omega)
              have k5' : ¬ nI (k + 1 + 1) = 5 := fun z => by have := rk_inj (b := 5) (by omega) (by omega) z; omega
              exact br_f k6' (br_f k5' (VY _ (br_f rk_m1nle (K1 (by decide)))))
          · obtain ⟨v, hv, X, Y⟩ := ih (k + 1) s s' j' (by omega) hs has hs' has' hj'
            refine ⟨v, hv, fun post K => topX _ post (And.intro ig (br_f (by rw [eg]; exact n1) (br_f k3 ⟨ig, ?_⟩))), fun post x3 x4 x5 x6 x7 x12 K1 K2 => topY _ post x3 x4 x5 x6 x7 x12 (And.intro ig (br_f (by rw [eg]; exact n1) ⟨ig, nm_r (e' := rk_ep (C 12) s') (by rw [eg]; exact ee) ⟨ig, nm_r (e' := nI j') (by rw [eg]; exact ej') (nm_r (nI_1 (k + 1)) (Y post x3 x4 x5 x6 x7 _ K1 K2))⟩⟩))⟩
            rw [eg]
            refine VX _ (br_t (nI_pos' (by omega)) ⟨ig, nm_r (e' := nI (4 * s' + j')) (by rw [ej', rk_4]) (nm_r (nI_1 k) (X post K))⟩)
      · have c1 : ¬ (C 42) (4 * s + j) = -1 := fun q => c (Or.inl q)
        have c2 : ¬ (C 42) (4 * s + j) = rk_ep (C 12) u := fun q => c (Or.inr q)
        exact ⟨-4, Or.inl rfl, fun post K => br_f k4 ⟨ig, br_f (by rw [eg]; exact n0) ⟨ig, br_f (by rw [eg]; exact c1) ⟨ig, rk_xep hu (br_f (by rw [eg]; exact c2) K)⟩⟩⟩, fun post x3 x4 x5 x6 x7 x12 K1 K2 => br_f k6 (br_f k5 (QY _ (br_t p0 (nm_r (e' := nI (4 * s + j)) (rk_4 s j) ⟨ig, br_f (by rw [eg]; exact n0) ⟨ig, br_f (by rw [eg]; exact c1) ⟨ig, br_f (by rw [eg]; exact c2) (K1 (by decide))⟩⟩⟩))))⟩
end
end
section
/-! copy, put together -/
def rk_ccp (C : rk_ST) (f t n : Nat) : rk_ST :=
  rk_sA (rk_sA (rk_sA (rk_sA C 56 (rk_bf (C 56) (C 18) f n)) 18 (rk_wb (C 18) (rk_bf (C 56) (C 18) f n) t n)) 7 (fun _ => (C 7 0) + nI n)) 74 (upd (C 74) 6 ((C 74) 6 + nI n))
section
variable {C E : rk_ST} {N : Nat} {s r p q k c a f t n : Nat} {x e v how : Int32} {bs bs' : Nat → Nat} {w : Nat}
theorem rk_To_6 {to : Nat → Int32} {nw pr mg ng lg en co z : Int32} (h : rk_To to nw pr mg ng lg en co) : rk_To (upd to 6 (to 6 + z)) nw pr mg ng lg en (co + z) :=
  ⟨(pk_un (j := 0) (k := 6) (by decide)).trans h.1, (pk_un (j := 1) (k := 6) (by decide)).trans h.2.1, (pk_un (j := 2) (k := 6) (by decide)).trans h.2.2.1, (pk_un (j := 3) (k := 6) (by decide)).trans h.2.2.2.1, (pk_un (j := 4) (k := 6) (by decide)).trans h.2.2.2.2.1, (pk_un (j := 5) (k := 6) (by decide)).trans h.2.2.2.2.2.1, pk_us.trans (by rw [h.2.2.2.2.2.2])⟩
theorem rk_in_cp (h : rk_In N bs w C) : rk_In N bs w (rk_ccp C f t n) := by
  obtain ⟨h0, h1, h2, h3, h4, h5, h6, h7, h8, h9⟩ := h
  exact ⟨h0, h1, h2, h3, h4, h5, h6, h7, rk_To_6 h8, h9⟩
theorem rk_xcp {post : Int32 → SX → Prop} (hn : n ≤ 16) (hf : f + n ≤ 160) (ht : t + n ≤ 160) (K : post 0 (rk_mX (rk_ccp C f t n))) : ∃ m, wX_copy_187 post (nI n) (nI f) (nI t) (C 0 0) (C 1 0) (C 2 0) (C 3 0) (C 4 0) (C 5 0) (C 6 0) (C 7 0) m 0 (C 8) (C 9) (C 10) (C 11) (C 12) (C 13) (C 14) (C 15) (C 16) (C 17) (C 18) (C 19) (C 20) (C 21) (C 22) (C 23) (C 24) (C 25) (C 26) (C 27) (C 28) (C 29) (C 30) (C 31) (C 32) (C 33) (C 34) (C 35) (C 36) (C 37) (C 38) (C 39) (C 40) (C 41) (C 42) (C 43) (C 44) (C 45) (C 46) (C 47) (C 48) (C 49) (C 50) (C 51) (C 52) (C 53) (C 54) (C 55) (C 56) := by
  have z2 := rk_xcp220 (E := rk_sA C 56 (rk_bf (C 56) (C 18) f n)) (post := post) (t := t) hn ht (by
    simp only [rk_mX, rk_sA_s, rk_sA_n, ne_eq, Nat.reduceEqDiff, not_false_eq_true, rk_ccp] at K ⊢
    exact K) n 0 (Nat.zero_add n)
  rw [rk_wb_0] at z2
  have z1 := rk_xcp187 (E := C) (post := post) (t := t) (f := f) hn hf ⟨n + 1, by
    simp only [rk_sA_s, rk_sA_n, ne_eq, Nat.reduceEqDiff, not_false_eq_true] at z2
    exact z2⟩ n 0 (Nat.zero_add n)
  rw [rk_bf_0] at z1
  exact ⟨n + 1, z1⟩
theorem rk_ycp {post : Int32 → SY → Prop} {x6 x13 x14 : Int32} (hx : rk_ft x6 x13 x14 f t) (hn : n ≤ 16) (hf : f + n ≤ 160) (ht : t + n ≤ 160) (K : post 0 (rk_mY (rk_ccp C f t n))) : ∃ m, wY_copy_278 post (nI n) x6 x13 x14 (C 57 0) (C 58 0) m 0 (C 8) (C 59) (C 9) (C 10) (C 11) (C 13) (C 60) (C 16) (C 15) (C 61) (C 62) (C 36) (C 38) (C 37) (C 63) (C 64) (C 18) (C 65) (C 66) (C 67) (C 68) (C 39) (C 42) (C 43) (C 40) (C 69) (C 70) (C 49) (C 52) (C 51) (C 53) (C 71) (C 72) (C 54) (C 73) (C 74) (C 56) := by
  have z2 := rk_ycp321 (E := rk_sA C 56 (rk_bf (C 56) (C 18) f n)) (post := post) (t := t) hx hn ht (by
    simp only [rk_mY, rk_sA_s, rk_sA_n, ne_eq, Nat.reduceEqDiff, not_false_eq_true, rk_ccp] at K ⊢
    exact K) n 0 (Nat.zero_add n)
  rw [rk_wb_0] at z2
  have z1 := rk_ycp278 (E := C) (post := post) (t := t) (f := f) hx hn hf ⟨n + 1, by
    simp only [rk_sA_s, rk_sA_n, ne_eq, Nat.reduceEqDiff, not_false_eq_true] at z2
    exact z2⟩ n 0 (Nat.zero_add n)
  rw [rk_bf_0] at z1
  exact ⟨n + 1, z1⟩
theorem rk_copy (hN : N ≤ 67108864) (h : rk_In N bs w C) (v1 v2 v3 v4 v5 v6 : Int32) :
    ∃ r C', rk_In N bs w C' ∧ (∀ post : Int32 → SX → Prop, post r (rk_mX C') → wpX_copy post (rk_mX C) v1 v2 v3 v4 v5 v6) ∧ (∀ post : Int32 → SY → Prop, post r (rk_mY C') → wpY_copy post (rk_mY C) v1 v2 v3 v4 v5 v6) := by
  obtain ⟨v, hv, RX, RY⟩ := rk_runner h.1
  rcases hv with ⟨rfl, _⟩ | ⟨r, hr, rfl, r1, _⟩
  · refine ⟨-1, C, h, fun post K => ?_, fun post K => ?_⟩
    · unfold wpX_copy
      exact RX _ (br_t rk_m1lt K)
    · unfold wpY_copy
      exact RY _ (br_t rk_m1lt K)
  · have n0 : ¬ nI r < 0 := nI_pos (by omega)
    have hB := h.1.2.2.1
    have har := rk_Tie_al h.1.1 hr (by rw [r1]; decide)
    rcases rk_rng v2 0 3 with z | ⟨z1, z2⟩
    · refine ⟨-1, C, h, fun post K => ?_, fun post K => ?_⟩
      · unfold wpX_copy
        exact RX _ (br_f n0 (rk_xout1 z (br_f (by decide) K)))
      · unfold wpY_copy
        exact RY _ (br_f n0 (rk_yin0 z (br_t rfl K)))
    · rcases rk_rng v5 1 16 with y | ⟨y1, y2⟩
      · refine ⟨-1, C, h, fun post K => ?_, fun post K => ?_⟩
        · unfold wpX_copy
          exact RX _ (br_f n0 (rk_xout0 z1 z2 (br_t rfl (rk_xout1 y (br_f (by decide) K)))))
        · unfold wpY_copy
          exact RY _ (br_f n0 (rk_yin1 z1 z2 (br_f (by decide) (rk_yin0 y (br_t rfl K)))))
      · rcases rk_rng v4 0 (16 - v5) with u | ⟨u1, u2⟩
        · refine ⟨-1, C, h, fun post K => ?_, fun post K => ?_⟩
          · unfold wpX_copy
            exact RX _ (br_f n0 (rk_xout0 z1 z2 (br_t rfl (rk_xout0 y1 y2 (br_t rfl (rk_xout1 u (br_f (by decide) K)))))))
          · unfold wpY_copy
            exact RY _ (br_f n0 (rk_yin1 z1 z2 (br_f (by decide) (rk_yin1 y1 y2 (br_f (by decide) (rk_yin0 u (br_t rfl K)))))))
        · have topX : ∀ post : Int32 → SX → Prop, wpX_wrong (fun r_66 => ((r_66 = 0 → wpX_resolve (fun r_125 => ((0 ≤ r_125 → (vp_in r_125 40 ∧ wpX_outside (fun r_185 => ((r_185 = 0 → (vp_in r_125 40 ∧ ((v6 = 0 → wX_copy_118 post v3 v4 v5 v6 (nI r) r_125 1 ((C 41) r_125.toNatClampNeg) (C 0 0) (C 1 0) (C 2 0) (C 3 0) (C 4 0) (C 5 0) (C 6 0) (C 7 0) (C 8) (C 9) (C 10) (C 11) (C 12) (C 13) (C 14) (C 15) (C 16) (C 17) (C 18) (C 19) (C 20) (C 21) (C 22) (C 23) (C 24) (C 25) (C 26) (C 27) (C 28) (C 29) (C 30) (C 31) (C 32) (C 33) (C 34) (C 35) (C 36) (C 37) (C 38) (C 39) (C 40) (C 41) (C 42) (C 43) (C 44) (C 45) (C 46) (C 47) (C 48) (C 49) (C 50) (C 51) (C 52) (C 53) (C 54) (C 55) (C 56)) ∧ (¬ v6 = 0 → wX_copy_118 post v3 v4 v5 v6 (nI r) r_125 2 ((C 41) r_125.toNatClampNeg) (C 0 0) (C 1 0) (C 2 0) (C 3 0) (C 4 0) (C 5 0) (C 6 0) (C 7 0) (C 8) (C 9) (C 10) (C 11) (C 12) (C 13) (C 14) (C 15) (C 16) (C 17) (C 18) (C 19) (C 20) (C 21) (C 22) (C 23) (C 24) (C 25) (C 26) (C 27) (C 28) (C 29) (C 30) (C 31) (C 32) (C 33) (C 34) (C 35) (C 36) (C 37) (C 38) (C 39) (C 40) (C 41) (C 42) (C 43) (C 44) (C 45) (C 46) (C 47) (C 48) (C 49) (C 50) (C 51) (C 52) (C 53) (C 54) (C 55) (C 56))))) ∧ (¬ r_185 = 0 → post (-4) (rk_mX C)))) v3 0 ((C 40) r_125.toNatClampNeg - v5))) ∧ (¬ 0 ≤ r_125 → post r_125 (rk_mX C)))) (rk_mX C) (nI r) v1 v2) ∧ (¬ r_66 = 0 → post r_66 (rk_mX C)))) (rk_mX C) (nI r) v1 0 → wpX_copy post (rk_mX C) v1 v2 v3 v4 v5 v6 := by
            intro post K
            unfold wpX_copy
            exact RX _ (br_f n0 (rk_xout0 z1 z2 (br_t rfl (rk_xout0 y1 y2 (br_t rfl (rk_xout0 u1 u2 (br_t rfl K)))))))
          have topY : ∀ post : Int32 → SY → Prop, wpY_wrong (fun r_48 => ((0 ≤ r_48 → wpY_endpoint (fun r_89 => ∃ n85 : Nat, wY_copy_85 post v3 v4 v5 v6 (nI r) (C 57 0) (C 58 0) (C 8) (C 59) (C 9) (C 10) (C 11) (C 13) (C 60) (C 16) (C 15) (C 61) (C 62) (C 36) (C 38) (C 37) (C 63) (C 64) (C 18) (C 65) (C 66) (C 67) (C 68) (C 39) (C 42) (C 43) (C 40) (C 69) (C 70) (C 49) (C 52) (C 51) (C 53) (C 71) (C 72) (C 54) (C 73) (C 74) (C 56) n85 r_89 v1 v2 0 1) (rk_mY C) (nI r)) ∧ (¬ 0 ≤ r_48 → post r_48 (rk_mY C)))) (rk_mY C) (nI r) v1 0 → wpY_copy post (rk_mY C) v1 v2 v3 v4 v5 v6 := by
            intro post K
            unfold wpY_copy
            exact RY _ (br_f n0 (rk_yin1 z1 z2 (br_f (by decide) (rk_yin1 y1 y2 (br_f (by decide) (rk_yin1 u1 u2 (br_f (by decide) K)))))))
          obtain ⟨wv, hw, WX, WY⟩ := rk_wrong hN h.1 hr v1 0
          have bad : ¬ wv = 0 → ¬ 0 ≤ wv → ∃ r C', rk_In N bs w C' ∧ (∀ post : Int32 → SX → Prop, post r (rk_mX C') → wpX_copy post (rk_mX C) v1 v2 v3 v4 v5 v6) ∧ (∀ post : Int32 → SY → Prop, post r (rk_mY C') → wpY_copy post (rk_mY C) v1 v2 v3 v4 v5 v6) := fun b1 b2 => ⟨wv, C, h, fun post K => topX post (WX _ (br_f b1 K)), fun post K => topY post (WY _ (br_f b2 K))⟩
          rcases hw with b | b | b | ⟨b, s, hs, hsr, has, hto⟩
          · exact bad (by rw [b]; decide) (by rw [b]; decide)
          · exact bad (by rw [b]; decide) (by rw [b]; decide)
          · exact bad (by rw [b]; decide) (by rw [b]; decide)
          · subst b
            have hG := h.2.2.2.2.2.2.2.1
            have e15 : v1 &&& 15 = nI s := by rw [hto]; exact rk_ep_and hN hB hs
            obtain ⟨j, hj, rfl⟩ := nI_of2 (n := 3) (by decide) z1 z2
            have y0 : ¬ v5 < 0 := fun q => y1 (Int32.lt_trans q (by decide))
            obtain ⟨n, hn, rfl⟩ := nI_of2 (n := 16) (by decide) y0 y2
            have hn1 : 1 ≤ n := by
              rcases Nat.eq_zero_or_pos n with q | q
              · subst q
                exact absurd (by decide : nI 0 < 1) y1
              · exact q
            have e16 : (16 : Int32) - nI n = nI (16 - n) := by rw [show (16 : Int32) = nI 16 from rfl, pk_sub hn]
            obtain ⟨at', hat, rfl⟩ := nI_of2 (n := 16 - n) (by rw [e16]; exact nI_toInt (by omega)) u1 u2
            obtain ⟨v, hv, VX, VY⟩ := rk_resolveL hN h.1 hG 3 0 r s j rfl hr har hs has (by omega)
            have resX : ∀ post : Int32 → Prop, post v → wpX_resolve post (rk_mX C) (nI r) v1 (nI j) := fun post K => nm_r (e' := nI s) e15 (nm_r (e' := nI (4 * s + j)) (rk_4 s j) ⟨_, VX post K⟩)
            have hmidY : ∀ post : Int32 → SY → Prop, (¬ 0 ≤ v → post v (rk_mY C)) → (0 ≤ v → wY_copy_204 post v3 (nI at') (nI n) v6 (nI r) v (C 57 0) (C 58 0) (C 8) (C 59) (C 9) (C 10) (C 11) (C 13) (C 60) (C 16) (C 15) (C 61) (C 62) (C 36) (C 38) (C 37) (C 63) (C 64) (C 18) (C 65) (C 66) (C 67) (C 68) (C 39) (C 42) (C 43) (C 40) (C 69) (C 70) (C 49) (C 52) (C 51) (C 53) (C 71) (C 72) (C 54) (C 73) (C 74) (C 56)) → wpY_copy post (rk_mY C) v1 (nI j) v3 (nI at') (nI n) v6 := by
              intro post K1 K2
              refine topY post (WY _ (br_t (by decide) (rk_yep hB hr har ⟨5, ?_⟩)))
              rw [hto]
              exact VY post v3 (nI at') (nI n) v6 (nI r) 0 K1 K2
            have hmidX : ∀ post : Int32 → SX → Prop, ((0 ≤ v → (vp_in v 40 ∧ wpX_outside (fun r_185 => ((r_185 = 0 → (vp_in v 40 ∧ ((v6 = 0 → wX_copy_118 post v3 (nI at') (nI n) v6 (nI r) v 1 ((C 41) v.toNatClampNeg) (C 0 0) (C 1 0) (C 2 0) (C 3 0) (C 4 0) (C 5 0) (C 6 0) (C 7 0) (C 8) (C 9) (C 10) (C 11) (C 12) (C 13) (C 14) (C 15) (C 16) (C 17) (C 18) (C 19) (C 20) (C 21) (C 22) (C 23) (C 24) (C 25) (C 26) (C 27) (C 28) (C 29) (C 30) (C 31) (C 32) (C 33) (C 34) (C 35) (C 36) (C 37) (C 38) (C 39) (C 40) (C 41) (C 42) (C 43) (C 44) (C 45) (C 46) (C 47) (C 48) (C 49) (C 50) (C 51) (C 52) (C 53) (C 54) (C 55) (C 56)) ∧ (¬ v6 = 0 → wX_copy_118 post v3 (nI at') (nI n) v6 (nI r) v 2 ((C 41) v.toNatClampNeg) (C 0 0) (C 1 0) (C 2 0) (C 3 0) (C 4 0) (C 5 0) (C 6 0) (C 7 0) (C 8) (C 9) (C 10) (C 11) (C 12) (C 13) (C 14) (C 15) (C 16) (C 17) (C 18) (C 19) (C 20) (C 21) (C 22) (C 23) (C 24) (C 25) (C 26) (C 27) (C 28) (C 29) (C 30) (C 31) (C 32) (C 33) (C 34) (C 35) (C 36) (C 37) (C 38) (C 39) (C 40) (C 41) (C 42) (C 43) (C 44) (C 45) (C 46) (C 47) (C 48) (C 49) (C 50) (C 51) (C 52) (C 53) (C 54) (C 55) (C 56))))) ∧ (¬ r_185 = 0 → post (-4) (rk_mX C)))) v3 0 ((C 40) v.toNatClampNeg - nI n))) ∧ (¬ 0 ≤ v → post v (rk_mX C))) → wpX_copy post (rk_mX C) v1 (nI j) v3 (nI at') (nI n) v6 := fun post K => topX post (WX _ (br_t rfl (resX _ K)))
            rcases hv with rfl | rfl | ⟨g, hg, rfl, k1⟩
            · exact ⟨-4, C, h, fun post K => hmidX post (br_f (by decide) K), fun post K => hmidY post (fun _ => K) (fun q => absurd q (by decide))⟩
            · exact ⟨-3, C, h, fun post K => hmidX post (br_f (by decide) K), fun post K => hmidY post (fun _ => K) (fun q => absurd q (by decide))⟩
            · have g0 : (0 : Int32) ≤ nI g := nI_pos' (by omega)
              have ig : vp_in (nI g) 40 := rk_in hg
              have eg : (nI g).toNatClampNeg = g := rk_cl (by omega)
              have hgr : (C 69) g = (C 41) g ∧ ∃ f l, (C 43) g = nI f ∧ (C 40) g = nI l ∧ f + l ≤ 16 := by
                rcases hG g hg with q | q | q
                · rw [k1] at q; exact absurd q (by decide)
                · exact q.2
                · rw [k1] at q; exact absurd q.1 (by decide)
              obtain ⟨e3, fw, l, ew, el, hfl⟩ := hgr
              have midX : ∀ post : Int32 → SX → Prop, wpX_outside (fun r_185 => ((r_185 = 0 → (vp_in (nI g) 40 ∧ ((v6 = 0 → wX_copy_118 post v3 (nI at') (nI n) v6 (nI r) (nI g) 1 ((C 41) g) (C 0 0) (C 1 0) (C 2 0) (C 3 0) (C 4 0) (C 5 0) (C 6 0) (C 7 0) (C 8) (C 9) (C 10) (C 11) (C 12) (C 13) (C 14) (C 15) (C 16) (C 17) (C 18) (C 19) (C 20) (C 21) (C 22) (C 23) (C 24) (C 25) (C 26) (C 27) (C 28) (C 29) (C 30) (C 31) (C 32) (C 33) (C 34) (C 35) (C 36) (C 37) (C 38) (C 39) (C 40) (C 41) (C 42) (C 43) (C 44) (C 45) (C 46) (C 47) (C 48) (C 49) (C 50) (C 51) (C 52) (C 53) (C 54) (C 55) (C 56)) ∧ (¬ v6 = 0 → wX_copy_118 post v3 (nI at') (nI n) v6 (nI r) (nI g) 2 ((C 41) g) (C 0 0) (C 1 0) (C 2 0) (C 3 0) (C 4 0) (C 5 0) (C 6 0) (C 7 0) (C 8) (C 9) (C 10) (C 11) (C 12) (C 13) (C 14) (C 15) (C 16) (C 17) (C 18) (C 19) (C 20) (C 21) (C 22) (C 23) (C 24) (C 25) (C 26) (C 27) (C 28) (C 29) (C 30) (C 31) (C 32) (C 33) (C 34) (C 35) (C 36) (C 37) (C 38) (C 39) (C 40) (C 41) (C 42) (C 43) (C 44) (C 45) (C 46) (C 47) (C 48) (C 49) (C 50) (C 51) (C 52) (C 53) (C 54) (C 55) (C 56))))) ∧ (¬ r_185 = 0 → post (-4) (rk_mX C)))) v3 0 (nI l - nI n) → wpX_copy post (rk_mX C) v1 (nI j) v3 (nI at') (nI n) v6 := by
                intro post K
                refine hmidX post (br_t g0 ⟨ig, ?_⟩)
                rw [eg, el]
                exact K
              have midY : ∀ post : Int32 → SY → Prop, wY_copy_204 post v3 (nI at') (nI n) v6 (nI r) (nI g) (C 57 0) (C 58 0) (C 8) (C 59) (C 9) (C 10) (C 11) (C 13) (C 60) (C 16) (C 15) (C 61) (C 62) (C 36) (C 38) (C 37) (C 63) (C 64) (C 18) (C 65) (C 66) (C 67) (C 68) (C 39) (C 42) (C 43) (C 40) (C 69) (C 70) (C 49) (C 52) (C 51) (C 53) (C 71) (C 72) (C 54) (C 73) (C 74) (C 56) → wpY_copy post (rk_mY C) v1 (nI j) v3 (nI at') (nI n) v6 := fun post K => hmidY post (fun q => absurd g0 q) (fun _ => K)
              rcases rk_rng v3 0 (nI l - nI n) with q | ⟨q1, q2⟩
              · refine ⟨-4, C, h, fun post K => midX post (rk_xout1 q (br_f (by decide) K)), fun post K => midY post ?_⟩
                by_cases q1 : v3 < 0
                · exact br_t q1 K
                · exact br_f q1 ⟨ig, br_t (by rw [eg, el]; exact Int32.not_le.mp (q.resolve_left q1)) K⟩
              · have hln : n ≤ l := by
                  rcases Nat.lt_or_ge l n with b | b
                  · have b1 := pk_sneg (by omega) b
                    exact absurd (Int32.lt_of_le_of_lt q2 b1) q1
                  · exact b
                rw [pk_sub hln] at q2
                obtain ⟨o, ho, rfl⟩ := nI_of2 (n := l - n) (nI_toInt (by omega)) q1 q2
                have q2' : nI o ≤ nI l - nI n := by rw [pk_sub hln]; exact q2
                have main : ∀ z0 : Int32, (v6 = 0 ∧ z0 = 1) ∨ (¬ v6 = 0 ∧ z0 = 2) → ∃ r' C', rk_In N bs w C' ∧ (∀ post : Int32 → SX → Prop, post r' (rk_mX C') → wX_copy_118 post (nI o) (nI at') (nI n) v6 (nI r) (nI g) z0 ((C 41) g) (C 0 0) (C 1 0) (C 2 0) (C 3 0) (C 4 0) (C 5 0) (C 6 0) (C 7 0) (C 8) (C 9) (C 10) (C 11) (C 12) (C 13) (C 14) (C 15) (C 16) (C 17) (C 18) (C 19) (C 20) (C 21) (C 22) (C 23) (C 24) (C 25) (C 26) (C 27) (C 28) (C 29) (C 30) (C 31) (C 32) (C 33) (C 34) (C 35) (C 36) (C 37) (C 38) (C 39) (C 40) (C 41) (C 42) (C 43) (C 44) (C 45) (C 46) (C 47) (C 48) (C 49) (C 50) (C 51) (C 52) (C 53) (C 54) (C 55) (C 56)) ∧ (∀ post : Int32 → SY → Prop, post r' (rk_mY C') → wY_copy_239 post (nI o) (nI at') (nI n) v6 (nI r) (nI g) z0 ((C 41) g) (C 57 0) (C 58 0) (C 8) (C 59) (C 9) (C 10) (C 11) (C 13) (C 60) (C 16) (C 15) (C 61) (C 62) (C 36) (C 38) (C 37) (C 63) (C 64) (C 18) (C 65) (C 66) (C 67) (C 68) (C 39) (C 42) (C 43) (C 40) (C 69) (C 70) (C 49) (C 52) (C 51) (C 53) (C 71) (C 72) (C 54) (C 73) (C 74) (C 56)) := by
                  intro z0 hz
                  by_cases ch : ((C 41) g &&& z0) = 0
                  · exact ⟨-4, C, h, fun post K => br_t ch K, fun post K => br_t ch K⟩
                  · have esh : nI g >>> ((2 : Int32) &&& 31) = nI (g / 4) := pk_shrN (by omega) _ 2 (by decide)
                    have edv : nI g / 4 = nI (g / 4) := pk_div (d := 4) (by omega) (by omega) (by omega)
                    have eth : (16 : Int32) * nI (g / 4) + nI fw + nI o = nI (16 * (g / 4) + fw + o) := by rw [rk_16, nI_add]
                    rcases hz with ⟨b1, b2⟩ | ⟨b1, b2⟩
                    · refine ⟨0, rk_ccp C (16 * (g / 4) + fw + o) (16 * r + at') n, rk_in_cp h, fun post K => br_f ch ⟨ig, nm_r (e' := nI (16 * (g / 4) + fw + o)) (by rw [esh, eg, ew, eth]) (br_t b1 (br_t b1 (nm_r (e' := nI (16 * r + at')) (rk_16 r at') (rk_xcp hn (by omega) (by omega) K))))⟩, fun post K => br_f ch (nm_r (e' := nI (16 * r + at')) (rk_16 r at') ⟨by decide, ig, nm_r (e' := nI (16 * (g / 4) + fw + o)) (by rw [edv, eg, ew, eth]) (rk_ycp (Or.inl ⟨b1, rfl, rfl⟩) hn (by omega) (by omega) K)⟩)⟩
                    · refine ⟨0, rk_ccp C (16 * r + at') (16 * (g / 4) + fw + o) n, rk_in_cp h, fun post K => br_f ch ⟨ig, nm_r (e' := nI (16 * (g / 4) + fw + o)) (by rw [esh, eg, ew, eth]) (br_f b1 ?_)⟩, fun post K => br_f ch (nm_r (e' := nI (16 * r + at')) (rk_16 r at') ⟨by decide, ig, nm_r (e' := nI (16 * (g / 4) + fw + o)) (by rw [edv, eg, ew, eth]) (rk_ycp (Or.inr ⟨b1, rfl, rfl⟩) hn (by omega) (by omega) K)⟩)⟩
                      rw [rk_16]
                      exact br_f b1 (rk_xcp hn (by omega) (by omega) K)
                have yok : ∀ post : Int32 → SY → Prop, ((v6 = 0 → wY_copy_239 post (nI o) (nI at') (nI n) v6 (nI r) (nI g) 1 ((C 41) g) (C 57 0) (C 58 0) (C 8) (C 59) (C 9) (C 10) (C 11) (C 13) (C 60) (C 16) (C 15) (C 61) (C 62) (C 36) (C 38) (C 37) (C 63) (C 64) (C 18) (C 65) (C 66) (C 67) (C 68) (C 39) (C 42) (C 43) (C 40) (C 69) (C 70) (C 49) (C 52) (C 51) (C 53) (C 71) (C 72) (C 54) (C 73) (C 74) (C 56)) ∧ (¬ v6 = 0 → wY_copy_239 post (nI o) (nI at') (nI n) v6 (nI r) (nI g) 2 ((C 41) g) (C 57 0) (C 58 0) (C 8) (C 59) (C 9) (C 10) (C 11) (C 13) (C 60) (C 16) (C 15) (C 61) (C 62) (C 36) (C 38) (C 37) (C 63) (C 64) (C 18) (C 65) (C 66) (C 67) (C 68) (C 39) (C 42) (C 43) (C 40) (C 69) (C 70) (C 49) (C 52) (C 51) (C 53) (C 71) (C 72) (C 54) (C 73) (C 74) (C 56))) → wY_copy_204 post (nI o) (nI at') (nI n) v6 (nI r) (nI g) (C 57 0) (C 58 0) (C 8) (C 59) (C 9) (C 10) (C 11) (C 13) (C 60) (C 16) (C 15) (C 61) (C 62) (C 36) (C 38) (C 37) (C 63) (C 64) (C 18) (C 65) (C 66) (C 67) (C 68) (C 39) (C 42) (C 43) (C 40) (C 69) (C 70) (C 49) (C 52) (C 51) (C 53) (C 71) (C 72) (C 54) (C 73) (C 74) (C 56) := by
                  intro post K
                  refine br_f q1 ⟨ig, br_f (by rw [eg, el]; exact Int32.not_lt.mpr q2') ⟨ig, ?_⟩⟩
                  rw [eg, e3]
                  exact K
                by_cases c6 : v6 = 0
                · obtain ⟨r', C', g', X, Y⟩ := main 1 (Or.inl ⟨c6, rfl⟩)
                  exact ⟨r', C', g', fun post K => midX post (rk_xout0 q1 q2' (br_t rfl ⟨ig, br_t c6 (X post K)⟩)), fun post K => midY post (yok post (br_t c6 (Y post K)))⟩
                · obtain ⟨r', C', g', X, Y⟩ := main 2 (Or.inr ⟨c6, rfl⟩)
                  exact ⟨r', C', g', fun post K => midX post (rk_xout0 q1 q2' (br_t rfl ⟨ig, br_f c6 (X post K)⟩)), fun post K => midY post (yok post (br_f c6 (Y post K)))⟩
end
end
section
/-! service; counts for at -/
section
variable {C E : rk_ST} {N : Nat} {s r p q k c a f t n : Nat} {x e v how : Int32} {bs bs' : Nat → Nat} {w : Nat} {Q F : List Nat} {tt : Nat → Nat} {sg : Nat → Int}
theorem rk_service (h : rk_In N bs w C) (v1 v2 : Int32) : ∃ r, (∀ post : Int32 → Prop, post r → wpX_service post (rk_mX C) v1 v2) ∧ (∀ post : Int32 → Prop, post r → wpY_service post (rk_mY C) v1 v2) := by
  rcases rk_rng v1 0 2 with z | ⟨z1, z2⟩
  · refine ⟨-1, fun post K => ?_, fun post K => ?_⟩
    · unfold wpX_service
      exact rk_xout1 z (br_f (by decide) K)
    · unfold wpY_service
      exact rk_yin0 z (br_t rfl K)
  · obtain ⟨k, hk, rfl⟩ := nI_of2 (n := 2) (by decide) z1 z2
    have hk3 : k < 3 := by omega
    have ik : vp_in (nI k) 3 := rk_in hk3
    have ek : (nI k).toNatClampNeg = k := rk_cl (by omega)
    have hB := h.1.2.2.1
    rcases rk_rng v2 0 3 with y | ⟨y1, y2⟩
    · refine ⟨-1, fun post K => ?_, fun post K => ?_⟩
      · unfold wpX_service
        have n0 : ¬ v2 = 0 := by
          intro e
          rw [e] at y
          rcases y with y | y
          · exact absurd y (by decide)
          · exact absurd (by decide) y
        have z24 : wX_service_24 (fun q => post q) (nI k) v2 (C 0 0) (C 1 0) (C 2 0) (C 3 0) (C 4 0) (C 5 0) (C 6 0) (C 7 0) (C 8) (C 9) (C 10) (C 11) (C 12) (C 13) (C 14) (C 15) (C 16) (C 17) (C 18) (C 19) (C 20) (C 21) (C 22) (C 23) (C 24) (C 25) (C 26) (C 27) (C 28) (C 29) (C 30) (C 31) (C 32) (C 33) (C 34) (C 35) (C 36) (C 37) (C 38) (C 39) (C 40) (C 41) (C 42) (C 43) (C 44) (C 45) (C 46) (C 47) (C 48) (C 49) (C 50) (C 51) (C 52) (C 53) (C 54) (C 55) (C 56) := by
          by_cases u : v2 < 0
          · exact br_t u K
          · exact br_f u (br_t (Int32.not_le.mp (y.resolve_left u)) K)
        refine rk_xout0 z1 z2 (br_t rfl ⟨ik, ?_⟩)
        by_cases c : (C 48) k = 0
        · exact br_t (by rw [ek]; exact c) (br_f n0 K)
        · exact br_f (by rw [ek]; exact c) z24
      · unfold wpY_service
        exact rk_yin1 z1 z2 (br_f (by decide) (rk_yin0 y (br_t rfl K)))
    · obtain ⟨j, hj, rfl⟩ := nI_of2 (n := 3) (by decide) y1 y2
      have n3 : ¬ (3 : Int32) < nI j := Int32.not_lt.mpr y2
      have topX : ∀ (post : Int32 → Prop), (((C 48) k = 0 → ((nI j = 0 → wX_service_24 post (nI k) (nI j) (C 0 0) (C 1 0) (C 2 0) (C 3 0) (C 4 0) (C 5 0) (C 6 0) (C 7 0) (C 8) (C 9) (C 10) (C 11) (C 12) (C 13) (C 14) (C 15) (C 16) (C 17) (C 18) (C 19) (C 20) (C 21) (C 22) (C 23) (C 24) (C 25) (C 26) (C 27) (C 28) (C 29) (C 30) (C 31) (C 32) (C 33) (C 34) (C 35) (C 36) (C 37) (C 38) (C 39) (C 40) (C 41) (C 42) (C 43) (C 44) (C 45) (C 46) (C 47) (C 48) (C 49) (C 50) (C 51) (C 52) (C 53) (C 54) (C 55) (C 56)) ∧ (¬ nI j = 0 → post (-1)))) ∧ (¬ (C 48) k = 0 → wX_service_24 post (nI k) (nI j) (C 0 0) (C 1 0) (C 2 0) (C 3 0) (C 4 0) (C 5 0) (C 6 0) (C 7 0) (C 8) (C 9) (C 10) (C 11) (C 12) (C 13) (C 14) (C 15) (C 16) (C 17) (C 18) (C 19) (C 20) (C 21) (C 22) (C 23) (C 24) (C 25) (C 26) (C 27) (C 28) (C 29) (C 30) (C 31) (C 32) (C 33) (C 34) (C 35) (C 36) (C 37) (C 38) (C 39) (C 40) (C 41) (C 42) (C 43) (C 44) (C 45) (C 46) (C 47) (C 48) (C 49) (C 50) (C 51) (C 52) (C 53) (C 54) (C 55) (C 56))) → wpX_service post (rk_mX C) (nI k) (nI j) := by
        intro post K
        unfold wpX_service
        refine rk_xout0 z1 z2 (br_t rfl ⟨ik, ?_⟩)
        rw [ek]
        exact K
      have topY : ∀ (post : Int32 → Prop), (((C 70) k = 0 → ((nI j ≤ 0 → wY_service_33 post (nI k) (nI j) (C 57 0) (C 58 0) (C 8) (C 59) (C 9) (C 10) (C 11) (C 13) (C 60) (C 16) (C 15) (C 61) (C 62) (C 36) (C 38) (C 37) (C 63) (C 64) (C 18) (C 65) (C 66) (C 67) (C 68) (C 39) (C 42) (C 43) (C 40) (C 69) (C 70) (C 49) (C 52) (C 51) (C 53) (C 71) (C 72) (C 54) (C 73) (C 74) (C 56)) ∧ (¬ nI j ≤ 0 → post (-1)))) ∧ (¬ (C 70) k = 0 → wY_service_33 post (nI k) (nI j) (C 57 0) (C 58 0) (C 8) (C 59) (C 9) (C 10) (C 11) (C 13) (C 60) (C 16) (C 15) (C 61) (C 62) (C 36) (C 38) (C 37) (C 63) (C 64) (C 18) (C 65) (C 66) (C 67) (C 68) (C 39) (C 42) (C 43) (C 40) (C 69) (C 70) (C 49) (C 52) (C 51) (C 53) (C 71) (C 72) (C 54) (C 73) (C 74) (C 56))) → wpY_service post (rk_mY C) (nI k) (nI j) := by
        intro post K
        unfold wpY_service
        refine rk_yin1 z1 z2 (br_f (by decide) (rk_yin1 y1 y2 (br_f (by decide) ⟨ik, ?_⟩)))
        rw [ek]
        exact K
      rcases h.2.2.2.2.2.1.1 k hk3 with ⟨a1, a2, a3⟩ | ⟨a1, a2, a3, a4⟩ | ⟨a1, a2, p, a3, a4, a5, a6, a7, _⟩
      · rcases (by omega : j = 0 ∨ 0 < j) with e | e
        · subst e
          exact ⟨0, fun post K => topX post (br_t a1 (br_t rfl (br_f y1 (br_f n3 (br_t rfl ⟨ik, br_t (by rw [ek]; exact a1) K⟩))))), fun post K => topY post (br_t a2 (br_t (by decide) (br_t rfl ⟨ik, by rw [ek, a2]; exact K⟩)))⟩
        · exact ⟨-1, fun post K => topX post (br_t a1 (br_f (nI_ne0 e (by omega)) K)), fun post K => topY post (br_t a2 (br_f (nI_nle e (by omega)) K))⟩
      · have t0 : ¬ (C 48) k = 0 := by rw [a1]; decide
        have s0 : ¬ (C 70) k = 0 := by rw [a2]; decide
        have np : ¬ (0 : Int32) ≤ (C 50) k := by rw [a3]; exact rk_m1nle
        rcases (by omega : j = 0 ∨ j = 1 ∨ j = 2 ∨ j = 3) with e | e | e | e
        · subst e
          exact ⟨2, fun post K => topX post (br_f t0 (br_f y1 (br_f n3 (br_t rfl ⟨ik, br_f (by rw [ek]; exact t0) ⟨ik, br_f (by rw [ek]; exact np) K⟩⟩)))), fun post K => topY post (br_f s0 (br_t rfl ⟨ik, by rw [ek, a2]; exact K⟩))⟩
        · subst e
          exact ⟨-1, fun post K => topX post (br_f t0 (br_f y1 (br_f n3 (br_f (by decide) (br_t rfl ⟨ik, br_f (by rw [ek]; exact np) K⟩))))), fun post K => topY post (br_f s0 (br_f (by decide) (br_t rfl ⟨ik, by rw [ek, a4]; exact K⟩)))⟩
        · subst e
          exact ⟨(C 51) k, fun post K => topX post (br_f t0 (br_f y1 (br_f n3 (br_f (by decide) (br_f (by decide) (br_t rfl ⟨ik, by rw [ek]; exact K⟩)))))), fun post K => topY post (br_f s0 (br_f (by decide) (br_f (by decide) (br_t rfl ⟨ik, by rw [ek]; exact K⟩))))⟩
        · subst e
          exact ⟨(C 54) k, fun post K => topX post (br_f t0 (br_f y1 (br_f n3 (br_f (by decide) (br_f (by decide) (br_f (by decide) (br_t rfl ⟨ik, by rw [ek]; exact K⟩))))))), fun post K => topY post (br_f s0 (br_f (by decide) (br_f (by decide) (br_f (by decide) ⟨ik, by rw [ek]; exact K⟩))))⟩
      · have t0 : ¬ (C 48) k = 0 := by rw [a1]; decide
        have s0 : ¬ (C 70) k = 0 := by rw [a2]; decide
        have np : (0 : Int32) ≤ (C 50) k := by rw [a4]; exact nI_pos' (by omega)
        rcases (by omega : j = 0 ∨ j = 1 ∨ j = 2 ∨ j = 3) with e | e | e | e
        · subst e
          exact ⟨1, fun post K => topX post (br_f t0 (br_f y1 (br_f n3 (br_t rfl ⟨ik, br_f (by rw [ek]; exact t0) ⟨ik, br_t (by rw [ek]; exact np) K⟩⟩)))), fun post K => topY post (br_f s0 (br_t rfl ⟨ik, by rw [ek, a2]; exact K⟩))⟩
        · subst e
          refine ⟨rk_ep (C 12) p, fun post K => topX post (br_f t0 (br_f y1 (br_f n3 (br_f (by decide) (br_t rfl ⟨ik, br_t (by rw [ek]; exact np) ⟨ik, ?_⟩⟩))))), fun post K => topY post (br_f s0 (br_f (by decide) (br_t rfl ⟨ik, by rw [ek, a7]; exact K⟩)))⟩
          rw [ek, a4]
          exact rk_xep a3 K
        · subst e
          exact ⟨(C 51) k, fun post K => topX post (br_f t0 (br_f y1 (br_f n3 (br_f (by decide) (br_f (by decide) (br_t rfl ⟨ik, by rw [ek]; exact K⟩)))))), fun post K => topY post (br_f s0 (br_f (by decide) (br_f (by decide) (br_t rfl ⟨ik, by rw [ek]; exact K⟩))))⟩
        · subst e
          exact ⟨(C 54) k, fun post K => topX post (br_f t0 (br_f y1 (br_f n3 (br_f (by decide) (br_f (by decide) (br_f (by decide) (br_t rfl ⟨ik, by rw [ek]; exact K⟩))))))), fun post K => topY post (br_f s0 (br_f (by decide) (br_f (by decide) (br_f (by decide) ⟨ik, by rw [ek]; exact K⟩))))⟩
/-! ones -/
theorem rk_low : ∀ n : Nat, 0 < n → ∃ j m, n = 2 ^ (j + 1) * m + 2 ^ j := by
  intro n
  induction n using Nat.strongRecOn with
  | ind n ih =>
    intro hn
    rcases Nat.mod_two_eq_zero_or_one n with h | h
    · obtain ⟨j, m, e⟩ := ih (n / 2) (by omega) (by omega)
      refine ⟨j + 1, m, ?_⟩
      have h2 : n = 2 * (n / 2) := by omega
      rw [h2, e, Nat.mul_add, ← Nat.mul_assoc, Nat.pow_succ 2 (j + 1), Nat.mul_comm (2 ^ (j + 1)) 2, Nat.pow_succ 2 j, Nat.mul_comm (2 ^ j) 2]
    · exact ⟨0, n / 2, by omega⟩
theorem rk_lowbit (x : Int32) (hx : ¬ x = 0) : ∃ j, j < 32 ∧ bt x j = true ∧ ∀ i, i < 32 → bt (x &&& (x - 1)) i = (bt x i && !decide (i = j)) := by
  have hlt := x.toBitVec.isLt
  have hpos : 0 < x.toBitVec.toNat := by
    rcases Nat.eq_zero_or_pos x.toBitVec.toNat with z | z
    · exact absurd (Int32.toBitVec_inj.mp (BitVec.eq_of_toNat_eq z)) hx
    · exact z
  obtain ⟨j, m, e⟩ := rk_low _ hpos
  have hp : 0 < 2 ^ j := Nat.two_pow_pos j
  have hpj : 2 ^ j < 2 ^ (j + 1) := by rw [Nat.pow_succ]; omega
  have e1 : (x - 1).toBitVec.toNat = 2 ^ (j + 1) * m + (2 ^ j - 1) := by
    have z : (x - 1).toBitVec = x.toBitVec - 1#32 := rfl
    rw [z, BitVec.toNat_sub, show (1#32).toNat = 1 from rfl, e]
    omega
  have b1 : ∀ i, bt x i = (2 ^ (j + 1) * m + 2 ^ j).testBit i := fun i => by unfold bt; rw [BitVec.getLsbD, e]
  have b2 : ∀ i, bt (x - 1) i = (2 ^ (j + 1) * m + (2 ^ j - 1)).testBit i := fun i => by unfold bt; rw [BitVec.getLsbD, e1]
  have hj : bt x j = true := by
    rw [b1, Nat.testBit_two_pow_mul_add m hpj, if_pos (by omega), Nat.testBit_two_pow_self]
  have hj32 : j < 32 := by
    rcases Nat.lt_or_ge j 32 with z | z
    · exact z
    · rw [b_big z] at hj
      exact absurd hj (by decide)
  refine ⟨j, hj32, hj, fun i hi => ?_⟩
  rw [b_and, b1, b2, Nat.testBit_two_pow_mul_add m hpj, Nat.testBit_two_pow_mul_add m (by omega)]
  by_cases c : i < j + 1
  · rw [if_pos c, if_pos c, Nat.testBit_two_pow, Nat.testBit_two_pow_sub_one]
    by_cases c2 : i = j
    · rw [decide_eq_true c2, decide_eq_false (by omega : ¬ i < j)]
      simp
    · rw [decide_eq_false (fun z => c2 z.symm)]
      simp
  · rw [if_neg c, if_neg c, Bool.and_self, decide_eq_false (by omega), Bool.not_false, Bool.and_true]
theorem rk_xones : ∀ (n : Nat) (x : Int32) (a : Nat), rk_cn (bt x) 32 = n → ∀ post : Int32 → Prop, post (nI (a + n)) → wX_ones_4 post (n + 1) (nI a) x := by
  intro n
  induction n with
  | zero =>
    intro x a h post K
    have x0 : x = 0 := by
      apply b_ext
      intro i hi
      rw [b_0]
      cases z : bt x i
      · rfl
      · have := rk_cn_pos.mpr ⟨i, hi, z⟩
        omega
    exact br_t x0 K
  | succ n ih =>
    intro x a h post K
    have x0 : ¬ x = 0 := by
      intro e
      rw [e, rk_cn_zero (fun i _ => b_0 i)] at h
      omega
    obtain ⟨j, hj, hb, hl⟩ := rk_lowbit x x0
    have hc : rk_cn (bt x) 32 = rk_cn (bt (x &&& (x - 1))) 32 + 1 := by
      refine rk_cn_add hj (fun i hi hne => ?_) ?_ hb
      · rw [hl i hi, decide_eq_false hne, Bool.not_false, Bool.and_true]
      · rw [hl j hj, decide_eq_true rfl, Bool.not_true, Bool.and_false]
    refine br_f x0 (nm_r (nI_1 a) (nm_e (ih (x &&& (x - 1)) (a + 1) (by omega) post ?_)))
    rw [show a + 1 + n = a + (n + 1) by omega]
    exact K
theorem rk_cn_ext {p : Nat → Bool} {n m : Nat} (hnm : n ≤ m) (h : ∀ i, n ≤ i → i < m → p i = false) : rk_cn p m = rk_cn p n := by
  induction m with
  | zero => rw [show n = 0 by omega]
  | succ m ih =>
    by_cases e : n = m + 1
    · rw [e]
    · show rk_cn p m + (if p m then 1 else 0) = rk_cn p n
      rw [ih (by omega) (fun i h1 h2 => h i h1 (by omega)), h m (by omega) (by omega)]
      simp
/-! Y's counts -/
theorem rk_y95_le {post : Int32 → Prop} {x1 x2 x3 : Int32} (h : x2 ≤ 6) (K : post x3) : ∃ n, wY_counted_95 post x1 x2 (C 57 0) (C 58 0) (C 8) (C 59) (C 9) (C 10) (C 11) (C 13) (C 60) (C 16) (C 15) (C 61) (C 62) (C 36) (C 38) (C 37) (C 63) (C 64) (C 18) (C 65) (C 66) (C 67) (C 68) (C 39) (C 42) (C 43) (C 40) (C 69) (C 70) (C 49) (C 52) (C 51) (C 53) (C 71) (C 72) (C 54) (C 73) (C 74) (C 56) n x3 0 := by
  refine ⟨1, ?_⟩
  by_cases c : (C 57 0) ≤ 0
  · exact br_t c K
  · exact br_f c (br_t h K)
theorem rk_y55_ne {post : Int32 → Prop} {x1 x2 x3 : Int32} (h : ¬ x2 = 6) (K : ∃ n, wY_counted_95 post x1 x2 (C 57 0) (C 58 0) (C 8) (C 59) (C 9) (C 10) (C 11) (C 13) (C 60) (C 16) (C 15) (C 61) (C 62) (C 36) (C 38) (C 37) (C 63) (C 64) (C 18) (C 65) (C 66) (C 67) (C 68) (C 39) (C 42) (C 43) (C 40) (C 69) (C 70) (C 49) (C 52) (C 51) (C 53) (C 71) (C 72) (C 54) (C 73) (C 74) (C 56) n x3 0) : ∃ n, wY_counted_55 post x1 x2 (C 57 0) (C 58 0) (C 8) (C 59) (C 9) (C 10) (C 11) (C 13) (C 60) (C 16) (C 15) (C 61) (C 62) (C 36) (C 38) (C 37) (C 63) (C 64) (C 18) (C 65) (C 66) (C 67) (C 68) (C 39) (C 42) (C 43) (C 40) (C 69) (C 70) (C 49) (C 52) (C 51) (C 53) (C 71) (C 72) (C 54) (C 73) (C 74) (C 56) n x3 0 :=
  ⟨1, br_f (by decide) (br_f h K)⟩
theorem rk_y5_ne {post : Int32 → Prop} {x1 x2 : Int32} (h : ¬ x2 = 5) (K : ∃ n, wY_counted_55 post x1 x2 (C 57 0) (C 58 0) (C 8) (C 59) (C 9) (C 10) (C 11) (C 13) (C 60) (C 16) (C 15) (C 61) (C 62) (C 36) (C 38) (C 37) (C 63) (C 64) (C 18) (C 65) (C 66) (C 67) (C 68) (C 39) (C 42) (C 43) (C 40) (C 69) (C 70) (C 49) (C 52) (C 51) (C 53) (C 71) (C 72) (C 54) (C 73) (C 74) (C 56) n 0 0) : wpY_counted post (rk_mY C) x1 x2 :=
  ⟨1, br_f (by decide) (br_f h K)⟩
theorem rk_yc5 (hB : rk_Bir N (C 75) (C 12) (C 59)) (hW : rk_Wt rk_fa 0 (C 8) (C 75) (C 14) (C 60) (C 15) (C 12) (C 27) (C 17) (C 64)) (hs : s < 10) (ha : (C 75) s = 1) {post : Int32 → Prop} (K : post (nI (rk_cn (rk_sb (C 8) (C 14) (C 12) s) 10))) :
    ∀ d i, i + d = 10 → wY_counted_5 post (nI s) 5 (C 57 0) (C 58 0) (C 8) (C 59) (C 9) (C 10) (C 11) (C 13) (C 60) (C 16) (C 15) (C 61) (C 62) (C 36) (C 38) (C 37) (C 63) (C 64) (C 18) (C 65) (C 66) (C 67) (C 68) (C 39) (C 42) (C 43) (C 40) (C 69) (C 70) (C 49) (C 52) (C 51) (C 53) (C 71) (C 72) (C 54) (C 73) (C 74) (C 56) (d + 1) (nI (rk_cn (rk_sb (C 8) (C 14) (C 12) s) i)) (nI i) := by
  intro d
  induction d with
  | zero =>
    intro i hi
    have e : i = 10 := by omega
    subst e
    exact br_t (nI_le (a := 10) (by omega) (by omega)) (rk_y55_ne (by decide) (rk_y95_le (by decide) K))
  | succ d ih =>
    intro i hi
    have hi10 : i < 10 := by omega
    have ii : vp_in (nI i) 10 := rk_in hi10
    have ei : (nI i).toNatClampNeg = i := rk_cl (by omega)
    have z := ih (i + 1) (by omega)
    have zs : rk_cn (rk_sb (C 8) (C 14) (C 12) s) (i + 1) = rk_cn (rk_sb (C 8) (C 14) (C 12) s) i + (if rk_sb (C 8) (C 14) (C 12) s i then 1 else 0) := rfl
    rw [zs] at z
    refine br_f (nI_ge (b := 10) hi10 (by omega)) (br_t rfl ⟨ii, ?_⟩)
    by_cases s2 : (C 8) i = 2
    · have ho := (hW.1 i hi10 (Or.inl s2)).1
      refine br_t (by rw [ei]; exact s2) ⟨ii, rk_yep hB hs ha ?_⟩
      by_cases c : (C 14) i = rk_ep (C 12) s
      · rw [if_pos (by unfold rk_sb; exact decide_eq_true ⟨s2, c⟩)] at z
        exact br_t (by rw [ei, ho]; exact c) (nm_r (nI_1 _) (nm_r (nI_1 i) z))
      · rw [if_neg (by unfold rk_sb; rw [decide_eq_true_iff]; exact fun q => c q.2), Nat.add_zero] at z
        exact br_f (by rw [ei, ho]; exact c) (nm_r (nI_1 i) z)
    · rw [if_neg (by unfold rk_sb; rw [decide_eq_true_iff]; exact fun q => s2 q.1), Nat.add_zero] at z
      exact br_f (by rw [ei]; exact s2) (nm_r (nI_1 i) z)
theorem rk_yc6 (hno : rk_No (C 75) (C 28) (C 65)) (hs : s < 10) {post : Int32 → Prop} (K : post (nI (rk_cn (bt ((C 28) s)) 14))) :
    ∀ d i, i + d = 14 → wY_counted_55 post (nI s) 6 (C 57 0) (C 58 0) (C 8) (C 59) (C 9) (C 10) (C 11) (C 13) (C 60) (C 16) (C 15) (C 61) (C 62) (C 36) (C 38) (C 37) (C 63) (C 64) (C 18) (C 65) (C 66) (C 67) (C 68) (C 39) (C 42) (C 43) (C 40) (C 69) (C 70) (C 49) (C 52) (C 51) (C 53) (C 71) (C 72) (C 54) (C 73) (C 74) (C 56) (d + 1) (nI (rk_cn (bt ((C 28) s)) i)) (nI i) := by
  intro d
  induction d with
  | zero =>
    intro i hi
    have e : i = 14 := by omega
    subst e
    exact br_t (nI_le (a := 14) (by omega) (by omega)) (rk_y95_le (by decide) K)
  | succ d ih =>
    intro i hi
    have hi14 : i < 14 := by omega
    have ix : vp_in ((14 : Int32) * nI s + nI i) 140 := by rw [rk_14]; exact rk_in (by omega)
    have ex : ((14 : Int32) * nI s + nI i).toNatClampNeg = 14 * s + i := by rw [rk_14]; exact rk_cl (by omega)
    have z := ih (i + 1) (by omega)
    have zs : rk_cn (bt ((C 28) s)) (i + 1) = rk_cn (bt ((C 28) s)) i + (if bt ((C 28) s) i then 1 else 0) := rfl
    rw [zs] at z
    have hy := hno.1 s hs i hi14
    refine br_f (nI_ge (b := 14) hi14 (by omega)) (br_t rfl ⟨ix, ?_⟩)
    by_cases b : bt ((C 28) s) i = true
    · rw [if_pos b] at z hy
      exact br_f (by rw [ex, hy]; decide) (nm_r (nI_1 _) (nm_r (nI_1 i) z))
    · rw [if_neg b] at z hy
      rw [Nat.add_zero] at z
      exact br_t (by rw [ex]; exact hy) (nm_r (nI_1 i) z)
theorem rk_yc78 (hX : rk_LX Q tt sg F (C 75) (C 29) (C 30) (C 31) (C 32) (C 33) (C 34) (C 0 0)) (hY : rk_LY Q tt (C 29) (C 35) (C 66) (C 67) (C 68) (C 57 0)) (hs : s < 10) {x2 : Int32} {g : Nat → Bool} (hx6 : ¬ x2 ≤ 6)
    (hg : ∀ i c, Q[i]? = some c → ((if x2 = 7 then (C 67) i else (C 66) i) = nI s ↔ g c = true)) {post : Int32 → Prop} (K : post (nI (Q.countP g))) : ∀ d i, i + d = Q.length → wY_counted_95 post (nI s) x2 (C 57 0) (C 58 0) (C 8) (C 59) (C 9) (C 10) (C 11) (C 13) (C 60) (C 16) (C 15) (C 61) (C 62) (C 36) (C 38) (C 37) (C 63) (C 64) (C 18) (C 65) (C 66) (C 67) (C 68) (C 39) (C 42) (C 43) (C 40) (C 69) (C 70) (C 49) (C 52) (C 51) (C 53) (C 71) (C 72) (C 54) (C 73) (C 74) (C 56) (d + 1) (nI ((Q.take i).countP g)) (nI i) := by
  have hQ30 : Q.length ≤ 30 := by have := hX.2.2.2.2.2.2.2; omega
  intro d
  induction d with
  | zero =>
    intro i hi
    have e : i = Q.length := by omega
    subst e
    rw [List.take_length]
    exact br_t (by rw [hY.1]; exact nI_le (Nat.le_refl _) (by omega)) K
  | succ d ih =>
    intro i hi
    have hl : i < Q.length := by omega
    have hc : Q[i]? = some Q[i] := List.getElem?_eq_getElem hl
    have ii : vp_in (nI i) 30 := rk_in (by omega)
    have ei : (nI i).toNatClampNeg = i := rk_cl (by omega)
    have z := ih (i + 1) (by omega)
    rw [rk_take_s hc, List.countP_append, List.countP_singleton] at z
    have hgi := hg i _ hc
    have go : ∀ z0, z0 = (if x2 = 7 then (C 67) i else (C 66) i) → wY_counted_133 post (wY_counted_95 post (nI s) x2 (C 57 0) (C 58 0) (C 8) (C 59) (C 9) (C 10) (C 11) (C 13) (C 60) (C 16) (C 15) (C 61) (C 62) (C 36) (C 38) (C 37) (C 63) (C 64) (C 18) (C 65) (C 66) (C 67) (C 68) (C 39) (C 42) (C 43) (C 40) (C 69) (C 70) (C 49) (C 52) (C 51) (C 53) (C 71) (C 72) (C 54) (C 73) (C 74) (C 56) (d + 1)) (nI s) x2 (nI ((Q.take i).countP g)) (nI i) z0 (C 57 0) (C 58 0) (C 8) (C 59) (C 9) (C 10) (C 11) (C 13) (C 60) (C 16) (C 15) (C 61) (C 62) (C 36) (C 38) (C 37) (C 63) (C 64) (C 18) (C 65) (C 66) (C 67) (C 68) (C 39) (C 42) (C 43) (C 40) (C 69) (C 70) (C 49) (C 52) (C 51) (C 53) (C 71) (C 72) (C 54) (C 73) (C 74) (C 56) := by
      intro z0 hz
      subst hz
      by_cases b : g Q[i] = true
      · rw [if_pos b] at z
        exact br_t (hgi.mpr b) (nm_r (nI_1 _) (nm_r (nI_1 i) z))
      · rw [if_neg b, Nat.add_zero] at z
        exact br_f (fun q => b (hgi.mp q)) (nm_r (nI_1 i) z)
    refine br_f (by rw [hY.1]; exact nI_ge hl (by omega)) (br_f hx6 ?_)
    by_cases c7 : x2 = 7
    · exact br_t c7 ⟨ii, go _ (by rw [ei, if_pos c7])⟩
    · exact br_f c7 ⟨ii, go _ (by rw [ei, if_neg c7])⟩
end
end
section
/-! placeOf, at -/
def rk_pb (st lv mo : Nat → Int32) (p y t : Nat) : Bool := decide (st t = 1 ∧ lv t = nI p ∧ (mo t).toInt < (mo y).toInt)
section
variable {C E : rk_ST} {N : Nat} {s r p q k c a f t n y : Nat} {x e v how : Int32} {w : Nat} {Q F : List Nat} {tt : Nat → Nat} {sg : Nat → Int}
theorem rk_pb_iff : rk_pb (C 8) (C 10) (C 63) p y t = true ↔ (C 8) t = 1 ∧ (C 10) t = nI p ∧ rk_m (C 63) t < rk_m (C 63) y := by
  unfold rk_pb
  rw [decide_eq_true_iff]
  exact Iff.rfl
theorem rk_xplL (h : rk_Co N rk_fa 0 C C) (hp : p < 4) : ∀ (n y : Nat) (v : Int32) (a : Nat), rk_R (C 8) (C 10) p y → rk_Pv (rk_R (C 8) (C 10) p) (rk_m (C 63)) y v → rk_cn (rk_pb (C 8) (C 10) (C 63) p y) 10 = n → ∀ post : Int32 → Prop, post (nI (a + n)) → wX_placeOf_21 post (C 0 0) (C 1 0) (C 2 0) (C 3 0) (C 4 0) (C 5 0) (C 6 0) (C 7 0) (C 8) (C 9) (C 10) (C 11) (C 12) (C 13) (C 14) (C 15) (C 16) (C 17) (C 18) (C 19) (C 20) (C 21) (C 22) (C 23) (C 24) (C 25) (C 26) (C 27) (C 28) (C 29) (C 30) (C 31) (C 32) (C 33) (C 34) (C 35) (C 36) (C 37) (C 38) (C 39) (C 40) (C 41) (C 42) (C 43) (C 44) (C 45) (C 46) (C 47) (C 48) (C 49) (C 50) (C 51) (C 52) (C 53) (C 54) (C 55) (C 56) (n + 1) (nI a) v := by
  obtain ⟨hT, hL, hB, hM, hR, _⟩ := h
  intro n
  induction n with
  | zero =>
    intro y v a hy hv hn post K
    rcases hv with ⟨e, _⟩ | ⟨b, e, Sb, l, bb⟩
    · subst e
      exact br_t rk_m1lt K
    · have := rk_cn_pos.mpr ⟨b, Sb.2.1, rk_pb_iff.mpr ⟨Sb.2.2.1, Sb.2.2.2, l⟩⟩
      omega
  | succ n ih =>
    intro y v a hy hv hn post K
    rcases hv with ⟨e, l⟩ | ⟨b, e, Sb, l, bb⟩
    · exfalso
      obtain ⟨i, hi, hb⟩ := rk_cn_pos.mp (by omega : 0 < rk_cn (rk_pb (C 8) (C 10) (C 63) p y) 10)
      obtain ⟨q1, q2, q3⟩ := rk_pb_iff.mp hb
      have := l i ⟨hp, hi, q1, q2⟩
      omega
    · subst e
      have hb10 := Sb.2.1
      have hc : rk_cn (rk_pb (C 8) (C 10) (C 63) p y) 10 = rk_cn (rk_pb (C 8) (C 10) (C 63) p b) 10 + 1 := by
        refine rk_cn_add hb10 (fun i hi hne => ?_) ?_ (rk_pb_iff.mpr ⟨Sb.2.2.1, Sb.2.2.2, l⟩)
        · rw [Bool.eq_iff_iff, rk_pb_iff, rk_pb_iff]
          refine ⟨fun z => ⟨z.1, z.2.1, by omega⟩, fun z => ⟨z.1, z.2.1, ?_⟩⟩
          have q1 := bb i ⟨hp, hi, z.1, z.2.1⟩
          have q2 : rk_m (C 63) i ≠ rk_m (C 63) b := fun u => hne (rk_R_in hT hM (⟨hp, hi, z.1, z.2.1⟩ : rk_R (C 8) (C 10) p i) Sb u)
          omega
        · cases u : rk_pb (C 8) (C 10) (C 63) p b b
          · rfl
          · have := (rk_pb_iff.mp u).2.2
            omega
      have eb : (nI b).toNatClampNeg = b := rk_cl (by omega)
      refine br_f (nI_pos (by omega)) (nm_r (nI_1 a) ⟨rk_in hb10, nm_r (e' := (C 20) b) (by rw [eb]) (ih b ((C 20) b) (a + 1) Sb ((hR p hp).2.1 b Sb) (by omega) post ?_)⟩)
      rw [show a + 1 + n = a + (n + 1) by omega]
      exact K
theorem rk_yplL (hp : p < 4) (hs : s < 10) (hl : (C 10) s = nI p) {post : Int32 → Prop} (K : post (nI (rk_cn (rk_pb (C 8) (C 10) (C 63) p s) 10))) :
    ∀ d i, i + d = 10 → wY_placeOf_16 post (nI s) (C 57 0) (C 58 0) (C 8) (C 59) (C 9) (C 10) (C 11) (C 13) (C 60) (C 16) (C 15) (C 61) (C 62) (C 36) (C 38) (C 37) (C 63) (C 64) (C 18) (C 65) (C 66) (C 67) (C 68) (C 39) (C 42) (C 43) (C 40) (C 69) (C 70) (C 49) (C 52) (C 51) (C 53) (C 71) (C 72) (C 54) (C 73) (C 74) (C 56) (d + 1) (nI (rk_cn (rk_pb (C 8) (C 10) (C 63) p s) i)) (nI i) := by
  have is : vp_in (nI s) 10 := rk_in hs
  have es : (nI s).toNatClampNeg = s := rk_cl (by omega)
  intro d
  induction d with
  | zero =>
    intro i hi
    have e : i = 10 := by omega
    subst e
    exact br_t (nI_le (a := 10) (by omega) (by omega)) K
  | succ d ih =>
    intro i hi
    have hi10 : i < 10 := by omega
    have ii : vp_in (nI i) 10 := rk_in hi10
    have ei : (nI i).toNatClampNeg = i := rk_cl (by omega)
    have z := ih (i + 1) (by omega)
    have zs : rk_cn (rk_pb (C 8) (C 10) (C 63) p s) (i + 1) = rk_cn (rk_pb (C 8) (C 10) (C 63) p s) i + (if rk_pb (C 8) (C 10) (C 63) p s i then 1 else 0) := rfl
    rw [zs] at z
    refine br_f (nI_ge (b := 10) hi10 (by omega)) ⟨ii, ?_⟩
    have skip : ¬ rk_pb (C 8) (C 10) (C 63) p s i = true → wY_placeOf_16 post (nI s) (C 57 0) (C 58 0) (C 8) (C 59) (C 9) (C 10) (C 11) (C 13) (C 60) (C 16) (C 15) (C 61) (C 62) (C 36) (C 38) (C 37) (C 63) (C 64) (C 18) (C 65) (C 66) (C 67) (C 68) (C 39) (C 42) (C 43) (C 40) (C 69) (C 70) (C 49) (C 52) (C 51) (C 53) (C 71) (C 72) (C 54) (C 73) (C 74) (C 56) (d + 1) (nI (rk_cn (rk_pb (C 8) (C 10) (C 63) p s) i)) (nI (i + 1)) := by
      intro b
      rw [if_neg b, Nat.add_zero] at z
      exact z
    by_cases c1 : (C 8) i = 1
    · refine br_t (by rw [ei]; exact c1) ⟨ii, is, ?_⟩
      by_cases c2 : (C 10) i = nI p
      · refine br_t (by rw [ei, es, c2, hl]) ⟨ii, is, ?_⟩
        by_cases c3 : (C 63) s ≤ (C 63) i
        · exact br_t (by rw [ei, es]; exact c3) (nm_r (nI_1 i) (skip (fun b => by
            have q := (rk_pb_iff.mp b).2.2
            have q2 := Int32.le_iff_toInt_le.mp c3
            unfold rk_m at q
            omega)))
        · rw [if_pos (rk_pb_iff.mpr ⟨c1, c2, Int32.lt_iff_toInt_lt.mp (Int32.not_le.mp c3)⟩)] at z
          exact br_f (by rw [ei, es]; exact c3) (nm_r (nI_1 _) (nm_r (nI_1 i) z))
      · exact br_f (by rw [ei, es, hl]; exact c2) (nm_r (nI_1 i) (skip (fun b => c2 (rk_pb_iff.mp b).2.1)))
    · exact br_f (by rw [ei]; exact c1) (nm_r (nI_1 i) (skip (fun b => c1 (rk_pb_iff.mp b).1)))
theorem rk_at (hw : w ≤ 1073741824) (h : rk_In N (fun _ => w) w C) (v1 v2 : Int32) : ∃ r, (∀ post : Int32 → Prop, post r → wpX_at post (rk_mX C) v1 v2) ∧ (∀ post : Int32 → Prop, post r → wpY_at post (rk_mY C) v1 v2) := by
  rcases rk_rng v1 0 9 with z | ⟨z1, z2⟩
  · refine ⟨-1, fun post K => ?_, fun post K => ?_⟩
    · unfold wpX_at
      exact rk_xout1 z (br_f (by decide) K)
    · unfold wpY_at
      exact rk_ythereO z (br_t rfl K)
  · obtain ⟨s, hs, rfl⟩ := nI_of2 (n := 9) (by decide) z1 z2
    have hs10 : s < 10 := by omega
    have is : vp_in (nI s) 10 := rk_in hs10
    have es : (nI s).toNatClampNeg = s := rk_cl (by omega)
    by_cases h0 : (C 8) s = 0
    · refine ⟨-1, fun post K => ?_, fun post K => ?_⟩
      · unfold wpX_at
        exact rk_xout0 z1 z2 (br_t rfl ⟨rk_in hs10, br_t (by rw [es]; exact h0) K⟩)
      · unfold wpY_at
        exact rk_ythere0 hs10 h0 (br_t rfl K)
    · have hT := h.1.1
      have ha := rk_Tie_al hT hs10 h0
      rcases rk_rng v2 0 14 with y | ⟨y1, y2⟩
      · refine ⟨-1, fun post K => ?_, fun post K => ?_⟩
        · unfold wpX_at
          refine rk_xout0 z1 z2 (br_t rfl ⟨is, br_f (by rw [es]; exact h0) ?_⟩)
          by_cases u : v2 < 0
          · exact br_t u K
          · exact br_f u (br_t (Int32.not_le.mp (y.resolve_left u)) K)
        · unfold wpY_at
          refine rk_ythere1 hT hs10 ha (br_f (by decide) ?_)
          by_cases u : v2 < 0
          · exact br_t u K
          · exact br_f u (br_t (Int32.not_le.mp (y.resolve_left u)) K)
      · obtain ⟨j, hj, rfl⟩ := nI_of2 (n := 14) (by decide) y1 y2
        have n14 : ¬ (14 : Int32) < nI j := Int32.not_lt.mpr y2
        have hco := h.1
        obtain ⟨hT, hL, hB, hM, hR, hW, hA, hQ⟩ := hco
        obtain ⟨Q, tt, sg, F, hX, hY⟩ := h.2.1
        have hno := h.2.2.1
        have ham := h.2.2.2.1
        have h9 := h.2.2.2.2.2.2.2.2.2
        obtain ⟨p, hp, hl⟩ := (hL s hs10).1
        rcases (by omega : j = 0 ∨ j = 1 ∨ j = 2 ∨ j = 3 ∨ j = 4 ∨ j = 5 ∨ j = 6 ∨ j = 7 ∨ j = 8 ∨ j = 9 ∨ j = 10 ∨ j = 11 ∨ j = 12 ∨ j = 13 ∨ j = 14) with rfl | rfl | rfl | rfl | rfl | rfl | rfl | rfl | rfl | rfl | rfl | rfl | rfl | rfl | rfl
        · refine ⟨rk_ep (C 12) s, fun post K => ?_, fun post K => ?_⟩
          · unfold wpX_at
            refine rk_xout0 z1 z2 (br_t rfl ⟨is, br_f (by rw [es]; exact h0) (br_f y1 (br_f n14 (br_t rfl ?_)))⟩)
            exact rk_xep hs10 K
          · unfold wpY_at
            refine rk_ythere1 hT hs10 ha (br_f (by decide) (br_f y1 (br_f n14 (br_t rfl ?_))))
            exact rk_yep hB hs10 ha K
        · refine ⟨(C 8) s, fun post K => ?_, fun post K => ?_⟩
          · unfold wpX_at
            refine rk_xout0 z1 z2 (br_t rfl ⟨is, br_f (by rw [es]; exact h0) (br_f y1 (br_f n14 (br_f (by decide) (br_t rfl ?_))))⟩)
            exact And.intro is (by rw [es]; exact K)
          · unfold wpY_at
            refine rk_ythere1 hT hs10 ha (br_f (by decide) (br_f y1 (br_f n14 (br_f (by decide) (br_t rfl ?_)))))
            exact And.intro is (by rw [es]; exact K)
        · refine ⟨if (C 8) s = 1 then rk_ep (C 12) s else (C 14) s, fun post K => ?_, fun post K => ?_⟩
          · unfold wpX_at
            refine rk_xout0 z1 z2 (br_t rfl ⟨is, br_f (by rw [es]; exact h0) (br_f y1 (br_f n14 (br_f (by decide) (br_f (by decide) (br_t rfl ?_)))))⟩)
            refine And.intro is ?_
            by_cases c : (C 8) s = 1
            · rw [if_pos c] at K
              exact br_t (by rw [es]; exact c) (rk_xep hs10 K)
            · rw [if_neg c] at K
              exact br_f (by rw [es]; exact c) ⟨is, by rw [es]; exact K⟩
          · unfold wpY_at
            refine rk_ythere1 hT hs10 ha (br_f (by decide) (br_f y1 (br_f n14 (br_f (by decide) (br_f (by decide) (br_t rfl ?_))))))
            refine And.intro is ?_
            by_cases c : (C 8) s = 1
            · rw [if_pos c] at K
              exact br_t (by rw [es]; exact c) (rk_yep hB hs10 ha K)
            · rw [if_neg c] at K
              have hw : rk_wg (C 8) s := (rk_Tie_st hT hs10 ha).resolve_left c
              have ho := (hW.1 s hs10 hw).1
              exact br_f (by rw [es]; exact c) ⟨is, by rw [es, ho]; exact K⟩
        · refine ⟨(C 10) s, fun post K => ?_, fun post K => ?_⟩
          · unfold wpX_at
            refine rk_xout0 z1 z2 (br_t rfl ⟨is, br_f (by rw [es]; exact h0) (br_f y1 (br_f n14 (br_f (by decide) (br_f (by decide) (br_f (by decide) (br_t rfl ?_))))))⟩)
            exact And.intro is (by rw [es]; exact K)
          · unfold wpY_at
            refine rk_ythere1 hT hs10 ha (br_f (by decide) (br_f y1 (br_f n14 (br_f (by decide) (br_f (by decide) (br_f (by decide) (br_t rfl ?_)))))))
            exact And.intro is (by rw [es]; exact K)
        · refine ⟨(C 11) s, fun post K => ?_, fun post K => ?_⟩
          · unfold wpX_at
            refine rk_xout0 z1 z2 (br_t rfl ⟨is, br_f (by rw [es]; exact h0) (br_f y1 (br_f n14 (br_f (by decide) (br_f (by decide) (br_f (by decide) (br_f (by decide) (br_t rfl ?_)))))))⟩)
            exact And.intro is (by rw [es]; exact K)
          · unfold wpY_at
            refine rk_ythere1 hT hs10 ha (br_f (by decide) (br_f y1 (br_f n14 (br_f (by decide) (br_f (by decide) (br_f (by decide) (br_f (by decide) (br_t rfl ?_))))))))
            exact And.intro is (by rw [es]; exact K)
        · refine ⟨nI (rk_cn (rk_sb (C 8) (C 14) (C 12) s) 10), fun post K => ?_, fun post K => ?_⟩
          · unfold wpX_at
            refine rk_xout0 z1 z2 (br_t rfl ⟨is, br_f (by rw [es]; exact h0) (br_f y1 (br_f n14 (br_f (by decide) (br_f (by decide) (br_f (by decide) (br_f (by decide) (br_f (by decide) (br_t rfl ?_))))))))⟩)
            exact And.intro is (by rw [es, (hQ s hs10).2]; exact K)
          · unfold wpY_at
            refine rk_ythere1 hT hs10 ha (br_f (by decide) (br_f y1 (br_f n14 (br_f (by decide) (br_f (by decide) (br_f (by decide) (br_f (by decide) (br_f (by decide) (br_t rfl ?_)))))))))
            unfold wY_at_136
            exact ⟨11, rk_yc5 hB hW hs10 ha K 10 0 rfl⟩
        · refine ⟨nI (rk_cn (bt ((C 28) s)) 14), fun post K => ?_, fun post K => ?_⟩
          · unfold wpX_at
            refine rk_xout0 z1 z2 (br_t rfl ⟨is, br_f (by rw [es]; exact h0) (br_f y1 (br_f n14 (br_f (by decide) (br_f (by decide) (br_f (by decide) (br_f (by decide) (br_f (by decide) (br_f (by decide) (br_t rfl ?_)))))))))⟩)
            refine And.intro is ?_
            rw [es]
            refine ⟨_, rk_xones (rk_cn (bt ((C 28) s)) 14) ((C 28) s) 0 (rk_cn_ext (by omega) (fun i h1 _ => hno.2.1 s hs10 i h1)) _ ?_⟩
            rw [Nat.zero_add]
            exact K
          · unfold wpY_at
            refine rk_ythere1 hT hs10 ha (br_f (by decide) (br_f y1 (br_f n14 (br_f (by decide) (br_f (by decide) (br_f (by decide) (br_f (by decide) (br_f (by decide) (br_f (by decide) (br_t rfl ?_))))))))))
            unfold wY_at_136
            exact rk_y5_ne (by decide) ⟨15, rk_yc6 hno hs10 K 14 0 rfl⟩
        · refine ⟨nI (Q.countP (fun c => tt c == s)), fun post K => ?_, fun post K => ?_⟩
          · unfold wpX_at
            refine rk_xout0 z1 z2 (br_t rfl ⟨is, br_f (by rw [es]; exact h0) (br_f y1 (br_f n14 (br_f (by decide) (br_f (by decide) (br_f (by decide) (br_f (by decide) (br_f (by decide) (br_f (by decide) (br_f (by decide) (br_t rfl ?_))))))))))⟩)
            exact And.intro is (by rw [es, (hX.2.2.2.1 s hs10).1]; exact K)
          · unfold wpY_at
            refine rk_ythere1 hT hs10 ha (br_f (by decide) (br_f y1 (br_f n14 (br_f (by decide) (br_f (by decide) (br_f (by decide) (br_f (by decide) (br_f (by decide) (br_f (by decide) (br_f (by decide) (br_t rfl ?_)))))))))))
            unfold wY_at_136
            refine rk_y5_ne (by decide) (rk_y55_ne (by decide) ⟨_, rk_yc78 hX hY hs10 (g := fun c => tt c == s) (by decide) (fun i c hc => ?_) K Q.length 0 (Nat.zero_add _)⟩)
            have htt := (hX.1 c (List.mem_of_getElem? hc)).2.1
            rw [if_pos (show nI 7 = 7 from rfl), (hY.2 i c hc).2.1]
            exact ⟨fun q => beq_iff_eq.mpr (rk_inj (by omega) (by omega) q), fun q => by rw [beq_iff_eq.mp q]⟩
        · refine ⟨nI (Q.countP (fun c => (C 29) c == nI s)), fun post K => ?_, fun post K => ?_⟩
          · unfold wpX_at
            refine rk_xout0 z1 z2 (br_t rfl ⟨is, br_f (by rw [es]; exact h0) (br_f y1 (br_f n14 (br_f (by decide) (br_f (by decide) (br_f (by decide) (br_f (by decide) (br_f (by decide) (br_f (by decide) (br_f (by decide) (br_f (by decide) (br_t rfl ?_)))))))))))⟩)
            exact And.intro is (by rw [es, (hX.2.2.2.1 s hs10).2.1]; exact K)
          · unfold wpY_at
            refine rk_ythere1 hT hs10 ha (br_f (by decide) (br_f y1 (br_f n14 (br_f (by decide) (br_f (by decide) (br_f (by decide) (br_f (by decide) (br_f (by decide) (br_f (by decide) (br_f (by decide) (br_f (by decide) (br_t rfl ?_))))))))))))
            unfold wY_at_136
            refine rk_y5_ne (by decide) (rk_y55_ne (by decide) ⟨_, rk_yc78 hX hY hs10 (g := fun c => (C 29) c == nI s) (by decide) (fun i c hc => ?_) K Q.length 0 (Nat.zero_add _)⟩)
            rw [if_neg (by decide), (hY.2 i c hc).1]
            exact ⟨fun q => beq_iff_eq.mpr q, fun q => beq_iff_eq.mp q⟩
        · refine ⟨if (C 8) s = 1 then nI (rk_cn (rk_pb (C 8) (C 10) (C 63) p s) 10) else -1, fun post K => ?_, fun post K => ?_⟩
          · unfold wpX_at
            refine rk_xout0 z1 z2 (br_t rfl ⟨is, br_f (by rw [es]; exact h0) (br_f y1 (br_f n14 (br_f (by decide) (br_f (by decide) (br_f (by decide) (br_f (by decide) (br_f (by decide) (br_f (by decide) (br_f (by decide) (br_f (by decide) (br_f (by decide) (br_t rfl ?_))))))))))))⟩)
            refine And.intro is ?_
            by_cases c : (C 8) s = 1
            · rw [if_pos c] at K
              have hRs : rk_R (C 8) (C 10) p s := ⟨hp, hs10, c, hl⟩
              refine br_t (by rw [es]; exact c) ⟨is, nm_r (e' := (C 20) s) (by rw [es]) ⟨_, rk_xplL h.1 hp _ s ((C 20) s) 0 hRs ((hR p hp).2.1 s hRs) rfl _ ?_⟩⟩
              rw [Nat.zero_add]
              exact K
            · rw [if_neg c] at K
              exact br_f (by rw [es]; exact c) K
          · unfold wpY_at
            refine rk_ythere1 hT hs10 ha (br_f (by decide) (br_f y1 (br_f n14 (br_f (by decide) (br_f (by decide) (br_f (by decide) (br_f (by decide) (br_f (by decide) (br_f (by decide) (br_f (by decide) (br_f (by decide) (br_f (by decide) (br_t rfl ?_)))))))))))))
            refine And.intro is ?_
            by_cases c : (C 8) s = 1
            · rw [if_pos c] at K
              exact br_t (by rw [es]; exact c) ⟨11, rk_yplL hp hs10 hl K 10 0 rfl⟩
            · rw [if_neg c] at K
              exact br_f (by rw [es]; exact c) K
        · refine ⟨(C 36) s, fun post K => ?_, fun post K => ?_⟩
          · unfold wpX_at
            refine rk_xout0 z1 z2 (br_t rfl ⟨is, br_f (by rw [es]; exact h0) (br_f y1 (br_f n14 (br_f (by decide) (br_f (by decide) (br_f (by decide) (br_f (by decide) (br_f (by decide) (br_f (by decide) (br_f (by decide) (br_f (by decide) (br_f (by decide) (br_f (by decide) (br_t rfl ?_)))))))))))))⟩)
            exact And.intro is (by rw [es]; exact K)
          · unfold wpY_at
            refine rk_ythere1 hT hs10 ha (br_f (by decide) (br_f y1 (br_f n14 (br_f (by decide) (br_f (by decide) (br_f (by decide) (br_f (by decide) (br_f (by decide) (br_f (by decide) (br_f (by decide) (br_f (by decide) (br_f (by decide) (br_f (by decide) (br_t rfl ?_))))))))))))))
            exact And.intro is (by rw [es]; exact K)
        · refine ⟨(C 38) s, fun post K => ?_, fun post K => ?_⟩
          · unfold wpX_at
            refine rk_xout0 z1 z2 (br_t rfl ⟨is, br_f (by rw [es]; exact h0) (br_f y1 (br_f n14 (br_f (by decide) (br_f (by decide) (br_f (by decide) (br_f (by decide) (br_f (by decide) (br_f (by decide) (br_f (by decide) (br_f (by decide) (br_f (by decide) (br_f (by decide) (br_f (by decide) (br_t rfl ?_))))))))))))))⟩)
            exact And.intro is (by rw [es]; exact K)
          · unfold wpY_at
            refine rk_ythere1 hT hs10 ha (br_f (by decide) (br_f y1 (br_f n14 (br_f (by decide) (br_f (by decide) (br_f (by decide) (br_f (by decide) (br_f (by decide) (br_f (by decide) (br_f (by decide) (br_f (by decide) (br_f (by decide) (br_f (by decide) (br_f (by decide) (br_t rfl ?_)))))))))))))))
            exact And.intro is (by rw [es]; exact K)
        · refine ⟨(C 37) s, fun post K => ?_, fun post K => ?_⟩
          · unfold wpX_at
            refine rk_xout0 z1 z2 (br_t rfl ⟨is, br_f (by rw [es]; exact h0) (br_f y1 (br_f n14 (br_f (by decide) (br_f (by decide) (br_f (by decide) (br_f (by decide) (br_f (by decide) (br_f (by decide) (br_f (by decide) (br_f (by decide) (br_f (by decide) (br_f (by decide) (br_f (by decide) (br_f (by decide) (br_t rfl ?_)))))))))))))))⟩)
            exact And.intro is (by rw [es]; exact K)
          · unfold wpY_at
            refine rk_ythere1 hT hs10 ha (br_f (by decide) (br_f y1 (br_f n14 (br_f (by decide) (br_f (by decide) (br_f (by decide) (br_f (by decide) (br_f (by decide) (br_f (by decide) (br_f (by decide) (br_f (by decide) (br_f (by decide) (br_f (by decide) (br_f (by decide) (br_f (by decide) (br_t rfl ?_))))))))))))))))
            exact And.intro is (by rw [es]; exact K)
        · refine ⟨(C 15) s, fun post K => ?_, fun post K => ?_⟩
          · unfold wpX_at
            refine rk_xout0 z1 z2 (br_t rfl ⟨is, br_f (by rw [es]; exact h0) (br_f y1 (br_f n14 (br_f (by decide) (br_f (by decide) (br_f (by decide) (br_f (by decide) (br_f (by decide) (br_f (by decide) (br_f (by decide) (br_f (by decide) (br_f (by decide) (br_f (by decide) (br_f (by decide) (br_f (by decide) (br_f (by decide) (br_t rfl ?_))))))))))))))))⟩)
            exact And.intro is (by rw [es]; exact K)
          · unfold wpY_at
            refine rk_ythere1 hT hs10 ha (br_f (by decide) (br_f y1 (br_f n14 (br_f (by decide) (br_f (by decide) (br_f (by decide) (br_f (by decide) (br_f (by decide) (br_f (by decide) (br_f (by decide) (br_f (by decide) (br_f (by decide) (br_f (by decide) (br_f (by decide) (br_f (by decide) (br_f (by decide) (br_t rfl ?_)))))))))))))))))
            exact And.intro is (by rw [es]; exact K)
        · refine ⟨(C 61) s, fun post K => ?_, fun post K => ?_⟩
          · unfold wpX_at
            refine rk_xout0 z1 z2 (br_t rfl ⟨is, br_f (by rw [es]; exact h0) (br_f y1 (br_f n14 (br_f (by decide) (br_f (by decide) (br_f (by decide) (br_f (by decide) (br_f (by decide) (br_f (by decide) (br_f (by decide) (br_f (by decide) (br_f (by decide) (br_f (by decide) (br_f (by decide) (br_f (by decide) (br_f (by decide) (br_f (by decide) (br_t rfl ?_)))))))))))))))))⟩)
            refine And.intro is ?_
            rcases ham s hs10 with u | ⟨_, ⟨u1, u2⟩ | ⟨a, u1, u2, u3, u4⟩⟩
            · rw [ha] at u
              exact absurd u.1 (by decide)
            · rw [u2] at K
              exact br_t (by rw [es]; exact u1) K
            · have u4 : (C 44) s = nI (w + a) := u4
              have ea : (C 44) s - (C 1 0) = (C 61) s := by
                rw [u3, u4, h9, pk_sub (by omega)]
                exact congrArg nI (by omega)
              exact br_f (by rw [es, u4]; exact nI_ne0 (by omega) (by omega)) ⟨is, by rw [es, ea]; exact K⟩
          · unfold wpY_at
            refine rk_ythere1 hT hs10 ha (br_f (by decide) (br_f y1 (br_f n14 (br_f (by decide) (br_f (by decide) (br_f (by decide) (br_f (by decide) (br_f (by decide) (br_f (by decide) (br_f (by decide) (br_f (by decide) (br_f (by decide) (br_f (by decide) (br_f (by decide) (br_f (by decide) (br_f (by decide) (br_f (by decide) (br_t rfl ?_))))))))))))))))))
            exact And.intro is (by rw [es]; exact K)
end
end
section
/-! the start -/
def rk_ini (n : Nat) : Nat → Int32 := fun q => if q < n then -1 else 0
def rk_iln (n : Nat) : Nat → Int32 := fun q => if q < n then (if q = 29 then -1 else nI (q + 1)) else 0
def rk_Z : rk_ST := fun _ _ => 0
def rk_C0 : rk_ST := rk_sA (rk_sA (rk_sA (rk_sA rk_Z 21 (rk_ini 4)) 22 (rk_ini 4)) 30 (rk_iln 30)) 50 (rk_ini 3)
theorem rk_ini_s (i : Nat) : upd (rk_ini i) i (-1) = rk_ini (i + 1) := by
  funext j
  by_cases e : j = i
  · subst e
    rw [pk_us]
    unfold rk_ini
    rw [if_pos (by omega)]
  · rw [pk_un e]
    unfold rk_ini
    by_cases z : j < i
    · rw [if_pos z, if_pos (by omega)]
    · rw [if_neg z, if_neg (by omega)]
theorem rk_iln_s (i : Nat) : upd (rk_iln i) i (if i = 29 then -1 else nI (i + 1)) = rk_iln (i + 1) := by
  funext j
  by_cases e : j = i
  · subst e
    rw [pk_us]
    unfold rk_iln
    rw [if_pos (show j < j + 1 by omega)]
  · rw [pk_un e]
    unfold rk_iln
    by_cases z : j < i
    · rw [if_pos z, if_pos (show j < i + 1 by omega)]
    · rw [if_neg z, if_neg (show ¬ j < i + 1 by omega)]
theorem rk_xi450 {E : rk_ST} {post : SX → Prop} (K : post (rk_mX (rk_sA E 50 (rk_ini 3)))) : ∀ d i, i + d = 3 → wX_init_450 post (E 0 0) (E 1 0) (E 2 0) (E 3 0) (E 4 0) (E 5 0) (E 6 0) (E 7 0) (d + 1) (nI i) (E 8) (E 9) (E 10) (E 11) (E 12) (E 13) (E 14) (E 15) (E 16) (E 17) (E 18) (E 19) (E 20) (E 21) (E 22) (E 23) (E 24) (E 25) (E 26) (E 27) (E 28) (E 29) (E 30) (E 31) (E 32) (E 33) (E 34) (E 35) (E 36) (E 37) (E 38) (E 39) (E 40) (E 41) (E 42) (E 43) (E 44) (E 45) (E 46) (E 47) (E 48) (E 49) (rk_ini i) (E 51) (E 52) (E 53) (E 54) (E 55) (E 56) := by
  intro d
  induction d with
  | zero =>
    intro i hi
    have e : i = 3 := by omega
    subst e
    exact br_t (nI_le (a := 3) (by omega) (by omega)) K
  | succ d ih =>
    intro i hi
    have ei : (nI i).toNatClampNeg = i := rk_cl (by omega)
    exact br_f (nI_ge (b := 3) (by omega) (by omega)) ⟨rk_in (by omega), nm_r (e' := rk_ini (i + 1)) (by rw [ei, rk_vbm, rk_ini_s]) (nm_r (nI_1 i) (ih (i + 1) (by omega)))⟩
theorem rk_xi416 {E : rk_ST} {post : SX → Prop} (K : ∃ n, wX_init_450 post (E 0 0) (E 1 0) (E 2 0) (E 3 0) (E 4 0) (E 5 0) (E 6 0) (E 7 0) n 0 (E 8) (E 9) (E 10) (E 11) (E 12) (E 13) (E 14) (E 15) (E 16) (E 17) (E 18) (E 19) (E 20) (E 21) (E 22) (E 23) (E 24) (E 25) (E 26) (E 27) (E 28) (E 29) (rk_iln 30) (E 31) (E 32) (E 33) (E 34) (E 35) (E 36) (E 37) (E 38) (E 39) (E 40) (E 41) (E 42) (E 43) (E 44) (E 45) (E 46) (E 47) (E 48) (E 49) (E 50) (E 51) (E 52) (E 53) (E 54) (E 55) (E 56)) : ∀ d i, i + d = 30 → wX_init_416 post (E 0 0) (E 1 0) (E 2 0) (E 3 0) (E 4 0) (E 5 0) (E 6 0) (E 7 0) (d + 1) (nI i) (E 8) (E 9) (E 10) (E 11) (E 12) (E 13) (E 14) (E 15) (E 16) (E 17) (E 18) (E 19) (E 20) (E 21) (E 22) (E 23) (E 24) (E 25) (E 26) (E 27) (E 28) (E 29) (rk_iln i) (E 31) (E 32) (E 33) (E 34) (E 35) (E 36) (E 37) (E 38) (E 39) (E 40) (E 41) (E 42) (E 43) (E 44) (E 45) (E 46) (E 47) (E 48) (E 49) (E 50) (E 51) (E 52) (E 53) (E 54) (E 55) (E 56) := by
  intro d
  induction d with
  | zero =>
    intro i hi
    have e : i = 30 := by omega
    subst e
    exact br_t (nI_le (a := 30) (by omega) (by omega)) K
  | succ d ih =>
    intro i hi
    have ei : (nI i).toNatClampNeg = i := rk_cl (by omega)
    have ii : vp_in (nI i) 30 := rk_in (by omega)
    have z := ih (i + 1) (by omega)
    have zs := rk_iln_s i
    refine br_f (nI_ge (b := 30) (by omega) (by omega)) ?_
    by_cases c : i = 29
    · rw [if_pos c] at zs
      exact br_t (by rw [c]; rfl) ⟨ii, nm_r (e' := rk_iln (i + 1)) (by rw [ei, rk_vbm8, zs]) (nm_r (nI_1 i) z)⟩
    · rw [if_neg c] at zs
      exact br_f (fun q => c (rk_inj (b := 29) (by omega) (by omega) q)) ⟨ii, nm_r (e' := rk_iln (i + 1)) (by rw [ei, nI_1, rk_vb8 (by omega), zs]) (nm_r (nI_1 i) z)⟩
theorem rk_xi389 {E : rk_ST} {post : SX → Prop} (K : ∃ n, wX_init_416 post (E 0 0) (E 1 0) (E 2 0) (E 3 0) (E 4 0) (E 5 0) (E 6 0) (E 7 0) n 0 (E 8) (E 9) (E 10) (E 11) (E 12) (E 13) (E 14) (E 15) (E 16) (E 17) (E 18) (E 19) (E 20) (rk_ini 4) (rk_ini 4) (E 23) (E 24) (E 25) (E 26) (E 27) (E 28) (E 29) (E 30) (E 31) (E 32) (E 33) (E 34) (E 35) (E 36) (E 37) (E 38) (E 39) (E 40) (E 41) (E 42) (E 43) (E 44) (E 45) (E 46) (E 47) (E 48) (E 49) (E 50) (E 51) (E 52) (E 53) (E 54) (E 55) (E 56)) : ∀ d i, i + d = 4 → wX_init_389 post (E 0 0) (E 1 0) (E 2 0) (E 3 0) (E 4 0) (E 5 0) (E 6 0) (E 7 0) (d + 1) (nI i) (E 8) (E 9) (E 10) (E 11) (E 12) (E 13) (E 14) (E 15) (E 16) (E 17) (E 18) (E 19) (E 20) (rk_ini i) (rk_ini i) (E 23) (E 24) (E 25) (E 26) (E 27) (E 28) (E 29) (E 30) (E 31) (E 32) (E 33) (E 34) (E 35) (E 36) (E 37) (E 38) (E 39) (E 40) (E 41) (E 42) (E 43) (E 44) (E 45) (E 46) (E 47) (E 48) (E 49) (E 50) (E 51) (E 52) (E 53) (E 54) (E 55) (E 56) := by
  intro d
  induction d with
  | zero =>
    intro i hi
    have e : i = 4 := by omega
    subst e
    exact br_t (nI_le (a := 4) (by omega) (by omega)) K
  | succ d ih =>
    intro i hi
    have ei : (nI i).toNatClampNeg = i := rk_cl (by omega)
    have ii : vp_in (nI i) 4 := rk_in (by omega)
    exact br_f (nI_ge (b := 4) (by omega) (by omega)) ⟨ii, nm_r (e' := rk_ini (i + 1)) (by rw [ei, rk_vbm, rk_ini_s]) ⟨ii, nm_r (e' := rk_ini (i + 1)) (by rw [ei, rk_vbm, rk_ini_s]) (nm_r (nI_1 i) (ih (i + 1) (by omega)))⟩⟩
theorem rk_ini_0 : rk_ini 0 = fun _ => 0 := by
  funext i
  exact if_neg (by omega)
theorem rk_iln_0 : rk_iln 0 = fun _ => 0 := by
  funext i
  exact if_neg (by omega)
theorem rk_xinit {post : SX → Prop} (K : post (rk_mX rk_C0)) : wpX_init post := by
  have z3 := rk_xi450 (E := rk_sA (rk_sA (rk_sA rk_Z 21 (rk_ini 4)) 22 (rk_ini 4)) 30 (rk_iln 30)) (post := post) K 3 0 rfl
  rw [rk_ini_0] at z3
  have z2 := rk_xi416 (E := rk_sA (rk_sA rk_Z 21 (rk_ini 4)) 22 (rk_ini 4)) (post := post) ⟨4, by
    simp only [rk_sA_s, rk_sA_n, ne_eq, Nat.reduceEqDiff, not_false_eq_true, rk_Z] at z3 ⊢
    exact z3⟩ 30 0 rfl
  rw [rk_iln_0] at z2
  have z1 := rk_xi389 (E := rk_Z) (post := post) ⟨31, by
    simp only [rk_sA_s, rk_sA_n, ne_eq, Nat.reduceEqDiff, not_false_eq_true, rk_Z] at z2 ⊢
    exact z2⟩ 4 0 rfl
  rw [rk_ini_0] at z1
  exact ⟨5, z1⟩
theorem rk_ch0 : ∀ d k, k + d = 30 → rk_Ch (rk_iln 30) (if k < 30 then nI k else -1) (List.range' k d) := by
  intro d
  induction d with
  | zero =>
    intro k hk
    rw [if_neg (by omega)]
    exact rfl
  | succ d ih =>
    intro k hk
    rw [List.range'_succ, if_pos (by omega)]
    refine ⟨rfl, ?_⟩
    have z := ih (k + 1) (by omega)
    have e : rk_iln 30 k = if k + 1 < 30 then nI (k + 1) else -1 := by
      unfold rk_iln
      rw [if_pos (by omega)]
      by_cases c : k = 29
      · rw [if_pos c, if_neg (by omega)]
      · rw [if_neg c, if_pos (by omega)]
    rw [e]
    exact z
theorem rk_in0 : rk_In 0 (fun _ => 0) 0 rk_C0 := by
  have n01 : ¬ (0 : Int32) = 1 := by decide
  have nR : ∀ p t, ¬ rk_R (fun _ => 0) (fun _ => 0) p t := fun p t z => n01 z.2.2.1
  have nW : ∀ r t, ¬ rk_W (fun _ => 0) (fun _ => 0) (fun _ => 0) r t := fun r t z => by
    rcases z.2.2.1 with y | y | y
    · exact absurd (show (0 : Int32) = 2 from y) (by decide)
    · exact absurd (show (0 : Int32) = 3 from y) (by decide)
    · exact absurd (show (0 : Int32) = 4 from y) (by decide)
  have nS : ∀ r t, ¬ rk_S (fun _ => 0) (fun _ => 0) (fun _ => 0) r t := fun r t z => nW r t (rk_S_W z)
  have hco : rk_Co 0 rk_fa 0 rk_C0 rk_C0 := by
    unfold rk_Co
    simp only [rk_sA_s, rk_sA_n, ne_eq, Nat.reduceEqDiff, not_false_eq_true, rk_C0, rk_Z]
    refine ⟨fun s _ => Or.inl ⟨rfl, rfl⟩, fun s _ => ⟨⟨0, by omega, rfl⟩, ⟨0, by omega, rfl⟩, ⟨0, by omega, rfl⟩⟩, fun s _ => ⟨0, Nat.le_refl 0, rfl, Or.inl ⟨rfl, rfl⟩⟩, ⟨0, Nat.le_refl 0, rfl, fun s _ z => absurd z n01, fun s t _ _ z => absurd z n01⟩, fun p hp => ⟨fun t z => absurd z (nR p t), fun t z => absurd z (nR p t), Or.inl ⟨if_pos hp, nR p⟩, Or.inl ⟨if_pos hp, nR p⟩⟩, ⟨fun t _ z => ?_, fun r t _ _ => ?_, fun t _ z => ?_⟩, ⟨fun _ => 0, fun r t z => absurd z (nW r t)⟩, fun r hr => ⟨⟨fun t z => absurd z (nS r t), fun ⟨t, z⟩ => absurd z (nS r t)⟩, ?_⟩⟩
    · rcases z with y | y | y
      · exact absurd (show (0 : Int32) = 2 from y) (by decide)
      · exact absurd (show (0 : Int32) = 3 from y) (by decide)
      · exact absurd (show (0 : Int32) = 4 from y) (by decide)
    · show bt 0 t = true ↔ _
      rw [b_0]
      exact ⟨fun z => absurd z (by decide), fun z => absurd z (nW r t)⟩
    · exact absurd (show (0 : Int32) = 2 from z) (by decide)
    · rw [rk_cn_zero (fun t ht => ?_)]
      · rfl
      · cases z : rk_sb (fun _ => 0) (fun _ => 0) (fun _ => 0) r t
        · rfl
        · exact absurd ((rk_sb_S hr ht).mp z) (nS r t)
  refine ⟨hco, ?_⟩
  unfold rk_Re rk_LeC
  simp only [rk_sA_s, rk_sA_n, ne_eq, Nat.reduceEqDiff, not_false_eq_true, rk_C0, rk_Z]
  refine ⟨⟨[], fun _ => 0, fun _ => 0, List.range' 0 30, ⟨fun c z => absurd z List.not_mem_nil, List.Pairwise.nil, fun r _ => ⟨fun t z => absurd z.1 List.not_mem_nil, fun ⟨t, z⟩ => absurd z.1 List.not_mem_nil⟩, fun r _ => ⟨rfl, rfl, Nat.zero_le 3⟩, rk_ch0 30 0 rfl, List.nodup_range', fun c z => ⟨?_, List.not_mem_nil⟩, ?_⟩, ⟨rfl, fun i c z => ?_⟩⟩, ⟨fun r _ k _ => ?_, fun r _ k _ => b_0 k, fun r _ k _ z => ?_⟩, fun s _ => Or.inl ⟨rfl, rfl⟩, fun k _ q _ => ?_, ⟨fun k hk => Or.inl ⟨rfl, rfl, if_pos hk⟩, fun p _ z => absurd z n01⟩, fun k _ => ⟨⟨0, by omega, rfl⟩, ⟨0, by omega, rfl⟩, ⟨0, by omega, rfl⟩⟩, fun g _ => Or.inl rfl, ⟨rfl, rfl, rfl, rfl, rfl, rfl, rfl⟩, rfl⟩
  · rw [List.mem_range'_1] at z
    omega
  · rw [List.length_range']
    rfl
  · simp at z
  · show (0 : Int32) = if bt 0 k = true then 1 else 0
    rw [b_0]
    rfl
  · have z' : bt 0 k = true := z
    rw [b_0] at z'
    exact absurd z' (by decide)
  · show bt 0 q = (decide ((0 : Int32) = 1) && bt 0 k)
    rw [b_0, decide_eq_false n01]
    rfl
end
section
/-! what is owed -/
def i_Rel (k : Nat) (u : SX) (v : SY) : Prop := ∃ (w : Nat) (C : rk_ST), u = rk_mX C ∧ v = rk_mY C ∧ w ≤ 20 * k ∧ rk_In (2000 * k) (fun _ => w) w C
theorem rk_rel {k w N : Nat} {C : rk_ST} (hw : w ≤ 20 * k) (hN : N ≤ 2000 * k) (h : rk_In N (fun _ => w) w C) : i_Rel k (rk_mX C) (rk_mY C) := by
  unfold i_Rel
  exact ⟨w, C, rfl, rfl, hw, rk_In_up hN h⟩
theorem i_up {k : Nat} {u : SX} {v : SY} (h : i_Rel k u v) : i_Rel (k + 7) u v := by
  unfold i_Rel at h
  obtain ⟨w, C, rfl, rfl, hw, g⟩ := h
  exact rk_rel (by omega) (by omega) g
theorem i_vc0 : wpX_init (fun u => wpY_init (fun v => i_Rel 0 u v)) := by
  refine rk_xinit ?_
  have z : i_Rel 0 (rk_mX rk_C0) (rk_mY rk_C0) := rk_rel (by omega) (by omega) rk_in0
  simp only [rk_mY, rk_C0, rk_sA_s, rk_sA_n, ne_eq, Nat.reduceEqDiff, not_false_eq_true, rk_Z] at z ⊢
  exact z
theorem i_vc_birth {k : Nat} {u : SX} {v : SY} (I : i_Rel k u v) (hk : k + 7 ≤ 3584) (v1 : Int32) (v2 : Int32) : wpX_birth (fun r u' => wpY_birth (fun r' v' => r' = r ∧ i_Rel (k + 7) u' v') v v1 v2) u v1 v2 := by
  unfold i_Rel at I
  obtain ⟨w, C, rfl, rfl, hw, g⟩ := I
  obtain ⟨r, C', g', X, Y⟩ := rk_birth (by omega) g v1 v2
  exact X _ (Y _ ⟨rfl, rk_rel (by omega) (by omega) g'⟩)
theorem i_vc_end {k : Nat} {u : SX} {v : SY} (I : i_Rel k u v) (hk : k + 7 ≤ 3584) (v1 : Int32) : wpX_end (fun r u' => wpY_end (fun r' v' => r' = r ∧ i_Rel (k + 7) u' v') v v1) u v1 := by
  unfold i_Rel at I
  obtain ⟨w, C, rfl, rfl, hw, g⟩ := I
  obtain ⟨r, C', g', X, Y⟩ := rk_end (by omega) g v1
  exact X _ (Y _ ⟨rfl, rk_rel (by omega) (by omega) g'⟩)
theorem i_vc_leave {k : Nat} {u : SX} {v : SY} (I : i_Rel k u v) (hk : k + 7 ≤ 3584) : wpX_leave (fun r u' => wpY_leave (fun r' v' => r' = r ∧ i_Rel (k + 7) u' v') v) u := by
  unfold i_Rel at I
  obtain ⟨w, C, rfl, rfl, hw, g⟩ := I
  obtain ⟨r, C', g', X, Y⟩ := rk_leave (by omega) g
  exact X _ (Y _ ⟨rfl, rk_rel (by omega) (by omega) g'⟩)
theorem i_vc_send {k : Nat} {u : SX} {v : SY} (I : i_Rel k u v) (hk : k + 7 ≤ 3584) (v1 : Int32) (v2 : Int32) : wpX_send (fun r u' => wpY_send (fun r' v' => r' = r ∧ i_Rel (k + 7) u' v') v v1 v2) u v1 v2 := by
  unfold i_Rel at I
  obtain ⟨w, C, rfl, rfl, hw, g⟩ := I
  obtain ⟨r, C', g', X, Y⟩ := rk_hand (cl := 0) (Or.inl rfl) (by omega) g v1 v2
  unfold wpX_send
  refine X _ ?_
  unfold wpY_send
  refine Y _ ?_
  exact ⟨rfl, rk_rel (by omega) (by omega) g'⟩
theorem i_vc_call {k : Nat} {u : SX} {v : SY} (I : i_Rel k u v) (hk : k + 7 ≤ 3584) (v1 : Int32) (v2 : Int32) : wpX_call (fun r u' => wpY_call (fun r' v' => r' = r ∧ i_Rel (k + 7) u' v') v v1 v2) u v1 v2 := by
  unfold i_Rel at I
  obtain ⟨w, C, rfl, rfl, hw, g⟩ := I
  obtain ⟨r, C', g', X, Y⟩ := rk_hand (cl := 1) (Or.inr rfl) (by omega) g v1 v2
  unfold wpX_call
  refine X _ ?_
  unfold wpY_call
  refine Y _ ?_
  exact ⟨rfl, rk_rel (by omega) (by omega) g'⟩
theorem i_vc_receive {k : Nat} {u : SX} {v : SY} (I : i_Rel k u v) (hk : k + 7 ≤ 3584) (v1 : Int32) (v2 : Int32) : wpX_receive (fun r u' => wpY_receive (fun r' v' => r' = r ∧ i_Rel (k + 7) u' v') v v1 (lw_bz v2)) u v1 (lw_bz v2) := by
  unfold i_Rel at I
  obtain ⟨w, C, rfl, rfl, hw, g⟩ := I
  obtain ⟨r, C', g', X, Y⟩ := rk_receive (by omega) g v1 (lw_bz v2)
  exact X _ (Y _ ⟨rfl, rk_rel (by omega) (by omega) g'⟩)
theorem i_vc_note {k : Nat} {u : SX} {v : SY} (I : i_Rel k u v) (hk : k + 7 ≤ 3584) (v1 : Int32) : wpX_note (fun r u' => wpY_note (fun r' v' => r' = r ∧ i_Rel (k + 7) u' v') v v1) u v1 := by
  unfold i_Rel at I
  obtain ⟨w, C, rfl, rfl, hw, g⟩ := I
  obtain ⟨r, C', g', X, Y⟩ := rk_note (by omega) g v1
  exact X _ (Y _ ⟨rfl, rk_rel (by omega) (by omega) g'⟩)
theorem i_vc_post {k : Nat} {u : SX} {v : SY} (I : i_Rel k u v) (hk : k + 7 ≤ 3584) (v1 : Int32) (v2 : Int32) : wpX_post (fun r u' => wpY_post (fun r' v' => r' = r ∧ i_Rel (k + 7) u' v') v v1 v2) u v1 v2 := by
  unfold i_Rel at I
  obtain ⟨w, C, rfl, rfl, hw, g⟩ := I
  obtain ⟨r, C', g', X, Y⟩ := rk_post (by omega) g v1 v2
  exact X _ (Y _ ⟨rfl, rk_rel (by omega) (by omega) g'⟩)
theorem i_vc_lend {k : Nat} {u : SX} {v : SY} (I : i_Rel k u v) (hk : k + 7 ≤ 3584) (v1 : Int32) (v2 : Int32) (v3 : Int32) (v4 : Int32) (v5 : Int32) : wpX_lend (fun r u' => wpY_lend (fun r' v' => r' = r ∧ i_Rel (k + 7) u' v') v v1 v2 v3 v4 v5) u v1 v2 v3 v4 v5 := by
  unfold i_Rel at I
  obtain ⟨w, C, rfl, rfl, hw, g⟩ := I
  obtain ⟨r, C', g', X, Y⟩ := rk_lend (by omega) g v1 v2 v3 v4 v5
  exact X _ (Y _ ⟨rfl, rk_rel (by omega) (by omega) g'⟩)
theorem i_vc_pass {k : Nat} {u : SX} {v : SY} (I : i_Rel k u v) (hk : k + 7 ≤ 3584) (v1 : Int32) (v2 : Int32) (v3 : Int32) (v4 : Int32) : wpX_pass (fun r u' => wpY_pass (fun r' v' => r' = r ∧ i_Rel (k + 7) u' v') v v1 v2 v3 v4) u v1 v2 v3 v4 := by
  unfold i_Rel at I
  obtain ⟨w, C, rfl, rfl, hw, g⟩ := I
  obtain ⟨r, C', g', X, Y⟩ := rk_pass (by omega) g v1 v2 v3 v4
  exact X _ (Y _ ⟨rfl, rk_rel (by omega) (by omega) g'⟩)
theorem i_vc_revoke {k : Nat} {u : SX} {v : SY} (I : i_Rel k u v) (hk : k + 7 ≤ 3584) (v1 : Int32) : wpX_revoke (fun r u' => wpY_revoke (fun r' v' => r' = r ∧ i_Rel (k + 7) u' v') v v1) u v1 := by
  unfold i_Rel at I
  obtain ⟨w, C, rfl, rfl, hw, g⟩ := I
  obtain ⟨r, C', g', X, Y⟩ := rk_revoke g v1
  exact X _ (Y _ ⟨rfl, rk_rel (by omega) (by omega) g'⟩)
theorem i_vc_copy {k : Nat} {u : SX} {v : SY} (I : i_Rel k u v) (hk : k + 7 ≤ 3584) (v1 : Int32) (v2 : Int32) (v3 : Int32) (v4 : Int32) (v5 : Int32) (v6 : Int32) : wpX_copy (fun r u' => wpY_copy (fun r' v' => r' = r ∧ i_Rel (k + 7) u' v') v v1 v2 v3 v4 v5 (lw_bz v6)) u v1 v2 v3 v4 v5 (lw_bz v6) := by
  unfold i_Rel at I
  obtain ⟨w, C, rfl, rfl, hw, g⟩ := I
  obtain ⟨r, C', g', X, Y⟩ := rk_copy (by omega) g v1 v2 v3 v4 v5 (lw_bz v6)
  exact X _ (Y _ ⟨rfl, rk_rel (by omega) (by omega) g'⟩)
theorem i_vc_alarm {k : Nat} {u : SX} {v : SY} (I : i_Rel k u v) (hk : k + 7 ≤ 3584) (v1 : Int32) : wpX_alarm (fun r u' => wpY_alarm (fun r' v' => r' = r ∧ i_Rel (k + 7) u' v') v v1) u v1 := by
  unfold i_Rel at I
  obtain ⟨w, C, rfl, rfl, hw, g⟩ := I
  obtain ⟨r, C', g', X, Y⟩ := rk_alarm (by omega) g v1
  exact X _ (Y _ ⟨rfl, rk_rel (by omega) (by omega) g'⟩)
theorem i_vc_beat {k : Nat} {u : SX} {v : SY} (I : i_Rel k u v) (hk : k + 7 ≤ 3584) : wpX_beat (fun r u' => wpY_beat (fun r' v' => r' = r ∧ i_Rel (k + 7) u' v') v) u := by
  unfold i_Rel at I
  obtain ⟨w, C, rfl, rfl, hw, g⟩ := I
  obtain ⟨r, C', g', X, Y⟩ := rk_beat (by omega) g
  exact X _ (Y _ ⟨rfl, rk_rel (by omega) (by omega) g'⟩)
theorem i_vc_watch {k : Nat} {u : SX} {v : SY} (I : i_Rel k u v) (hk : k + 7 ≤ 3584) (v1 : Int32) : wpX_watch (fun r u' => wpY_watch (fun r' v' => r' = r ∧ i_Rel (k + 7) u' v') v v1) u v1 := by
  unfold i_Rel at I
  obtain ⟨w, C, rfl, rfl, hw, g⟩ := I
  obtain ⟨r, C', g', X, Y⟩ := rk_watch g v1
  exact X _ (Y _ ⟨rfl, rk_rel (by omega) (by omega) g'⟩)
theorem i_vc_serve {k : Nat} {u : SX} {v : SY} (I : i_Rel k u v) (hk : k + 7 ≤ 3584) (v1 : Int32) (v2 : Int32) (v3 : Int32) : wpX_serve (fun r u' => wpY_serve (fun r' v' => r' = r ∧ i_Rel (k + 7) u' v') v v1 v2 v3) u v1 v2 v3 := by
  unfold i_Rel at I
  obtain ⟨w, C, rfl, rfl, hw, g⟩ := I
  obtain ⟨r, C', g', X, Y⟩ := rk_serve g v1 v2 v3
  exact X _ (Y _ ⟨rfl, rk_rel (by omega) (by omega) g'⟩)
theorem i_vc_close {k : Nat} {u : SX} {v : SY} (I : i_Rel k u v) (hk : k + 7 ≤ 3584) (v1 : Int32) : wpX_close (fun r u' => wpY_close (fun r' v' => r' = r ∧ i_Rel (k + 7) u' v') v v1) u v1 := by
  unfold i_Rel at I
  obtain ⟨w, C, rfl, rfl, hw, g⟩ := I
  obtain ⟨r, C', g', X, Y⟩ := rk_close g v1
  exact X _ (Y _ ⟨rfl, rk_rel (by omega) (by omega) g'⟩)
theorem i_vc_tick {k : Nat} {u : SX} {v : SY} (I : i_Rel k u v) (hk : k + 7 ≤ 3584) (v1 : Int32) : wpX_tick (fun r u' => wpY_tick (fun r' v' => r' = r ∧ i_Rel (k + 7) u' v') v v1) u v1 := by
  unfold i_Rel at I
  obtain ⟨w, C, rfl, rfl, hw, g⟩ := I
  obtain ⟨r, w', C', hw', g', X, Y⟩ := rk_tick (by omega) (by omega) g v1
  exact X _ (Y _ ⟨rfl, rk_rel (by omega) (by omega) g'⟩)
theorem i_vc_poke {k : Nat} {u : SX} {v : SY} (I : i_Rel k u v) (hk : k + 7 ≤ 3584) (v1 : Int32) (v2 : Int32) (v3 : Int32) : wpX_poke (fun r u' => wpY_poke (fun r' v' => r' = r ∧ i_Rel (k + 7) u' v') v v1 v2 v3) u v1 v2 v3 := by
  unfold i_Rel at I
  obtain ⟨w, C, rfl, rfl, hw, g⟩ := I
  obtain ⟨r, C', g', X, Y⟩ := rk_poke g v1 v2 v3
  exact X _ (Y _ ⟨rfl, rk_rel (by omega) (by omega) g'⟩)
theorem i_vc_memory {k : Nat} {u : SX} {v : SY} (I : i_Rel k u v) (hk : k + 7 ≤ 3584) (v1 : Int32) (v2 : Int32) : wpX_memory (fun r => wpY_memory (fun r' => r' = r ∧ i_Rel (k + 7) u v) v v1 v2) u v1 v2 := by
  unfold i_Rel at I
  obtain ⟨w, C, rfl, rfl, hw, g⟩ := I
  obtain ⟨r, X, Y⟩ := rk_memory g v1 v2
  exact X _ (Y _ ⟨rfl, rk_rel (by omega) (by omega) g⟩)
theorem i_vc_running {k : Nat} {u : SX} {v : SY} (I : i_Rel k u v) (hk : k + 7 ≤ 3584) : wpX_running (fun r => wpY_running (fun r' => r' = r ∧ i_Rel (k + 7) u v) v) u := by
  unfold i_Rel at I
  obtain ⟨w, C, rfl, rfl, hw, g⟩ := I
  obtain ⟨r, X, Y⟩ := rk_running g
  exact X _ (Y _ ⟨rfl, rk_rel (by omega) (by omega) g⟩)
theorem i_vc_at {k : Nat} {u : SX} {v : SY} (I : i_Rel k u v) (hk : k + 7 ≤ 3584) (v1 : Int32) (v2 : Int32) : wpX_at (fun r => wpY_at (fun r' => r' = r ∧ i_Rel (k + 7) u v) v v1 v2) u v1 v2 := by
  unfold i_Rel at I
  obtain ⟨w, C, rfl, rfl, hw, g⟩ := I
  obtain ⟨r, X, Y⟩ := rk_at (by omega) g v1 v2
  exact X _ (Y _ ⟨rfl, rk_rel (by omega) (by omega) g⟩)
theorem i_vc_service {k : Nat} {u : SX} {v : SY} (I : i_Rel k u v) (hk : k + 7 ≤ 3584) (v1 : Int32) (v2 : Int32) : wpX_service (fun r => wpY_service (fun r' => r' = r ∧ i_Rel (k + 7) u v) v v1 v2) u v1 v2 := by
  unfold i_Rel at I
  obtain ⟨w, C, rfl, rfl, hw, g⟩ := I
  obtain ⟨r, X, Y⟩ := rk_service g v1 v2
  exact X _ (Y _ ⟨rfl, rk_rel (by omega) (by omega) g⟩)
theorem i_vc_total {k : Nat} {u : SX} {v : SY} (I : i_Rel k u v) (hk : k + 7 ≤ 3584) (v1 : Int32) : wpX_total (fun r => wpY_total (fun r' => r' = r ∧ i_Rel (k + 7) u v) v v1) u v1 := by
  unfold i_Rel at I
  obtain ⟨w, C, rfl, rfl, hw, g⟩ := I
  obtain ⟨r, X, Y⟩ := rk_total g v1
  exact X _ (Y _ ⟨rfl, rk_rel (by omega) (by omega) g⟩)
end
