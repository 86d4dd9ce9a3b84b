section
/-! pure rows to paste: stores, nI and lN arithmetic, masks, shifts, narrowing, branches by naturals (pk_le, pk_lt, pk_eq), loops (lp1 .. lp16: the measure of the state; rp1 ..: recursion), negatives. Take what you need -/
theorem pk_us {f : Nat → Int32} {k : Nat} {x : Int32} : upd f k x k = x := if_pos rfl
theorem pk_un {f : Nat → Int32} {k j : Nat} {x : Int32} (h : j ≠ k) : upd f k x j = f j := if_neg h
theorem pk_uLs {f : Nat → Int64} {k : Nat} {x : Int64} : vp_updL f k x k = x := if_pos rfl
theorem pk_uLn {f : Nat → Int64} {k j : Nat} {x : Int64} (h : j ≠ k) : vp_updL f k x j = f j := if_neg h
theorem pk_sub {a b : Nat} (h : b ≤ a) : nI a - nI b = nI (a - b) := by
  obtain ⟨c, rfl⟩ : ∃ c, a = c + b := ⟨a - b, by omega⟩
  rw [← nI_add, Int32.add_sub_cancel, Nat.add_sub_cancel]
theorem pk_m1 (n : Nat) : nI (n + 1) + (-1) = nI n := by
  rw [← nI_1, Int32.add_assoc, show (1 : Int32) + (-1) = 0 from rfl, Int32.add_zero]
theorem pk_mul (a b : Nat) : nI a * nI b = nI (a * b) := (Int32.ofNat_mul a b).symm
theorem pk_div {a d : Nat} (ha : a < 2 ^ 31) (h0 : 0 < d) (hd : d < 2 ^ 31) : nI a / nI d = nI (a / d) := by
  apply Int32.toInt_inj.mp
  rw [lg_idiv_nonneg (by rw [nI_toInt ha]; omega) (by rw [nI_toInt hd]; omega), nI_toInt ha, nI_toInt hd, nI_toInt (Nat.lt_of_le_of_lt (Nat.div_le_self a d) ha)]
  first | rfl | exact (Int.natCast_ediv _ _).symm
theorem pk_rem {a d : Nat} (ha : a < 2 ^ 31) (h0 : 0 < d) (hd : d < 2 ^ 31) : nI a - nI a / nI d * nI d = nI (a % d) := by
  rw [pk_div ha h0 hd, pk_mul, pk_sub (Nat.div_mul_le_self a d)]
  exact congrArg nI (by have := Nat.div_add_mod' a d; omega)
theorem pk_sub_toInt {a b : Nat} (ha : a < 2 ^ 30) (hb : b < 2 ^ 30) : (nI a - nI b).toInt = (a : Int) - b := by
  rw [Int32.toInt_sub, nI_toInt (by omega), nI_toInt (by omega)]
  exact Int.bmod_eq_of_le (by omega) (by omega)
theorem pk_sneg {a b : Nat} (hb : b < 2 ^ 30) (h : a < b) : nI a - nI b < 0 := by
  rw [Int32.lt_iff_toInt_lt, pk_sub_toInt (by omega) hb, show (0 : Int32).toInt = 0 from by decide]
  omega
theorem pk_ix (x : Int32) {n : Nat} (hn : n < 2 ^ 31) : x < 0 ∨ nI n ≤ x ∨ ∃ j : Nat, j < n ∧ x = nI j := by
  by_cases h : x < 0
  · exact Or.inl h
  · obtain ⟨j, hj, rfl⟩ := nI_of h
    by_cases h2 : j < n
    · exact Or.inr (Or.inr ⟨j, h2, rfl⟩)
    · exact Or.inr (Or.inl (nI_le (by omega) hj))
theorem pk_le {x y : Int32} {A B : Prop} (a b : Nat) (f : a ≤ b → A) (g : b < a → B) (hx : x = nI a := by rfl) (hy : y = nI b := by rfl) (ha : a < 2 ^ 31 := by omega) (hb : b < 2 ^ 31 := by omega) : (x ≤ y → A) ∧ (¬ x ≤ y → B) := by
  subst hx hy
  rw [nI_leI ha hb]
  exact ⟨f, fun z => g (by omega)⟩
theorem pk_lt {x y : Int32} {A B : Prop} (a b : Nat) (f : a < b → A) (g : b ≤ a → B) (hx : x = nI a := by rfl) (hy : y = nI b := by rfl) (ha : a < 2 ^ 31 := by omega) (hb : b < 2 ^ 31 := by omega) : (x < y → A) ∧ (¬ x < y → B) := by
  subst hx hy
  rw [nI_ltI ha hb]
  exact ⟨f, fun z => g (by omega)⟩
theorem pk_eq {x y : Int32} {A B : Prop} (a b : Nat) (f : a = b → A) (g : a ≠ b → B) (hx : x = nI a := by rfl) (hy : y = nI b := by rfl) (ha : a < 2 ^ 31 := by omega) (hb : b < 2 ^ 31 := by omega) : (x = y → A) ∧ (¬ x = y → B) := by
  subst hx hy
  rw [nI_eq ha hb]
  exact ⟨f, g⟩
theorem pk_in {x : Int32} (n N : Nat) (h : n < N) (hx : x = nI n := by rfl) (hN : N < 2 ^ 31 := by omega) : vp_in x N := by
  subst hx
  exact vp_in_nI h hN
theorem pk_cl {x : Int32} (n : Nat) (hx : x = nI n := by rfl) (h : n < 2 ^ 31 := by omega) : x.toNatClampNeg = n := by
  subst hx
  exact nI_clamp h
theorem pk_tn {n : Nat} (h : n < 2 ^ 32) : (nI n).toBitVec.toNat = n := Nat.mod_eq_of_lt h
theorem pk_and (x : Int32) {m : Int32} (k : Nat) (hm : m.toBitVec.toNat = 2 ^ k - 1) : x &&& m = nI (x.toBitVec.toNat % 2 ^ k) := by
  apply Int32.toBitVec_inj.mp
  apply BitVec.eq_of_toNat_eq
  rw [Int32.toBitVec_and, BitVec.toNat_and, hm, Nat.and_two_pow_sub_one_eq_mod]
  show _ = (BitVec.ofNat 32 _).toNat
  rw [BitVec.toNat_ofNat]
  exact (Nat.mod_eq_of_lt (Nat.lt_of_le_of_lt (Nat.mod_le _ _) x.toBitVec.isLt)).symm
theorem pk_andN {n : Nat} (h : n < 2 ^ 32) {m : Int32} (k : Nat) (hm : m.toBitVec.toNat = 2 ^ k - 1) : nI n &&& m = nI (n % 2 ^ k) := by
  rw [pk_and _ k hm, pk_tn h]
theorem pk_andE (x : Int32) {m : Int32} (k : Nat) (hm : m.toBitVec.toNat = 2 ^ k - 1) : ∃ j : Nat, j < 2 ^ k ∧ x &&& m = nI j := ⟨_, Nat.mod_lt _ (Nat.two_pow_pos k), pk_and x k hm⟩
theorem pk_andIn (x : Int32) {m : Int32} (k : Nat) (hm : m.toBitVec.toNat = 2 ^ k - 1) (hk : k ≤ 30) : vp_in (x &&& m) (2 ^ k) := by
  obtain ⟨j, hj, e⟩ := pk_andE x k hm
  rw [e]
  exact vp_in_nI hj (Nat.lt_of_le_of_lt (Nat.pow_le_pow_right (by decide) hk) (by decide))
theorem pk_shl (a s : Int32) (k : Nat) (hs : (s.toBitVec.smod 32).toNat = k) : (a <<< s).toBitVec.toNat = a.toBitVec.toNat * 2 ^ k % 2 ^ 32 := by
  show (a.toBitVec <<< (s.toBitVec.smod 32).toNat).toNat = _
  rw [hs, BitVec.toNat_shiftLeft, Nat.shiftLeft_eq]
theorem pk_shlN {n : Nat} (s : Int32) (k : Nat) (hs : (s.toBitVec.smod 32).toNat = k) (h : n * 2 ^ k < 2 ^ 32) : nI n <<< s = nI (n * 2 ^ k) := by
  apply Int32.toBitVec_inj.mp
  apply BitVec.eq_of_toNat_eq
  have hn : n < 2 ^ 32 := Nat.lt_of_le_of_lt (Nat.le_mul_of_pos_right n (Nat.two_pow_pos k)) h
  rw [pk_shl _ _ k hs, pk_tn hn, pk_tn h, Nat.mod_eq_of_lt h]
theorem pk_shr (a s : Int32) (k : Nat) (hs : (s.toBitVec.smod 32).toNat = k) : (a >>> s).toInt = a.toInt >>> k := by
  show (a.toBitVec.sshiftRight (s.toBitVec.smod 32).toNat).toInt = _
  rw [hs, BitVec.toInt_sshiftRight]
  rfl
theorem pk_shrN {n : Nat} (h : n < 2 ^ 31) (s : Int32) (k : Nat) (hs : (s.toBitVec.smod 32).toNat = k) : nI n >>> s = nI (n / 2 ^ k) := by
  apply Int32.toInt_inj.mp
  have h2 : n / 2 ^ k ≤ n := Nat.div_le_self _ _
  rw [pk_shr _ _ k hs, nI_toInt h, nI_toInt (by omega), Int.shiftRight_eq_div_pow]
  rfl
theorem pk_ushr (x s : Int32) (k : Nat) (hs : ((s.toUInt32 &&& Int32.toUInt32 31).toBitVec % 32).toNat = k) : (x.toUInt32 >>> (s.toUInt32 &&& Int32.toUInt32 31)).toInt32.toBitVec.toNat = x.toBitVec.toNat / 2 ^ k := by
  have e : (x.toUInt32 >>> (s.toUInt32 &&& Int32.toUInt32 31)).toInt32.toBitVec = x.toBitVec >>> k := by
    rw [← hs]
    exact UInt32.toBitVec_shiftRight _ _
  rw [e, BitVec.toNat_ushiftRight, Nat.shiftRight_eq_div_pow]
theorem pk_ushrN {n : Nat} (hn : n < 2 ^ 32) (s : Int32) (k : Nat) (hs : ((s.toUInt32 &&& Int32.toUInt32 31).toBitVec % 32).toNat = k) : ((nI n).toUInt32 >>> (s.toUInt32 &&& Int32.toUInt32 31)).toInt32 = nI (n / 2 ^ k) := by
  apply Int32.toBitVec_inj.mp
  apply BitVec.eq_of_toNat_eq
  rw [pk_ushr _ s k hs, pk_tn hn, pk_tn (Nat.lt_of_le_of_lt (Nat.div_le_self _ _) hn)]
theorem pk_nb (z : Int32) : narrow .byte (.int z.toInt8.toInt32) = .int z.toInt8.toInt32 := congrArg Value.int (by simp)
theorem pk_ns (z : Int32) : narrow .short (.int z.toInt16.toInt32) = .int z.toInt16.toInt32 := congrArg Value.int (by simp)
theorem pk_fb (r : Int32) : fits .byte (.int r.toInt8.toInt32) = true := by
  have ⟨a, b⟩ := lg_i2b_range r
  have h1 : (-128 : Int32).toInt = -128 := by decide
  have h2 : (127 : Int32).toInt = 127 := by decide
  simp only [fits, Bool.and_eq_true, decide_eq_true_eq, Int32.le_iff_toInt_le, h1, h2]
  omega
theorem pk_fs (r : Int32) : fits .short (.int r.toInt16.toInt32) = true := by
  have ⟨a, b⟩ := lg_i2s_range r
  have h1 : (-32768 : Int32).toInt = -32768 := by decide
  have h2 : (32767 : Int32).toInt = 32767 := by decide
  simp only [fits, Bool.and_eq_true, decide_eq_true_eq, Int32.le_iff_toInt_le, h1, h2]
  omega
theorem pk_charN {q : Nat} (hq : q < 65536) : narrow .char (.int (nI q)) = .int (nI q) ∧ fits .char (.int (nI q)) = true := by
  constructor
  · have e : (nI q).toUInt32.toUInt16.toUInt32.toInt32 = nI q := by
      apply Int32.toBitVec_inj.mp
      apply BitVec.eq_of_toNat_eq
      show (nI q).toUInt32.toUInt16.toUInt32.toNat = q % 2 ^ 32
      rw [UInt16.toNat_toUInt32, UInt32.toNat_toUInt16, show (nI q).toUInt32.toNat = q % 2 ^ 32 from rfl]
      omega
    exact congrArg Value.int e
  · have a : (0 : Int32) ≤ nI q := nI_pos' (by omega)
    have b : nI q ≤ 65535 := nI_le (b := 65535) (by omega) (by decide)
    show (decide ((0 : Int32) ≤ nI q) && decide (nI q ≤ 65535)) = true
    rw [decide_eq_true a, decide_eq_true b]
    rfl
theorem pk_char (x : Int32) : (x.toUInt32 % 65536).toInt32 = nI (x.toBitVec.toNat % 65536) := by
  apply Int32.toBitVec_inj.mp
  apply BitVec.eq_of_toNat_eq
  rw [pk_tn (by omega)]
  show (x.toUInt32 % 65536).toNat = _
  rw [UInt32.toNat_mod]
  rfl
theorem pk_nc (x : Int32) : narrow .char (.int (x.toUInt32 % 65536).toInt32) = .int (x.toUInt32 % 65536).toInt32 := by
  rw [pk_char]
  exact (pk_charN (Nat.mod_lt _ (by decide))).1
theorem pk_fc (x : Int32) : fits .char (.int (x.toUInt32 % 65536).toInt32) = true := by
  rw [pk_char]
  exact (pk_charN (Nat.mod_lt _ (by decide))).2
theorem pk_vb (z : Int32) : vp_nar .byte z.toInt8.toInt32 = z.toInt8.toInt32 := by rw [vp_nar_byte]; simp
theorem pk_vs (z : Int32) : vp_nar .short z.toInt16.toInt32 = z.toInt16.toInt32 := by rw [vp_nar_short]; simp
theorem pk_vc (z : Int32) : vp_nar .char (z.toUInt32 % 65536).toInt32 = (z.toUInt32 % 65536).toInt32 := Value.int.inj (pk_nc z)
theorem pk_loop {σ : Type} (W : Nat → Nat → σ → Prop) (I : Nat → σ → Prop) (e i0 : Nat) (s : σ) (hi : i0 ≤ e) (h0 : I i0 s) (hx : ∀ n s, I e s → W (n + 1) e s)
    (hs : ∀ n i s, i < e → I i s → (∀ s', I (i + 1) s' → W n (i + 1) s') → W (n + 1) i s) : ∃ n, W n i0 s :=
  ⟨e + 1, loop_i W I e hx hs (e + 1) i0 s hi (by omega) h0⟩
theorem pk_loopD {σ : Type} (W : Nat → Nat → σ → Prop) (I : Nat → σ → Prop) (hx : ∀ n s, I 0 s → W (n + 1) 0 s)
    (hs : ∀ n i s, I (i + 1) s → (∀ s', I i s' → W n i s') → W (n + 1) (i + 1) s) : ∀ (e : Nat) (s : σ), I e s → W (e + 1) e s := by
  intro e
  induction e with
  | zero => exact fun s h => hx 0 s h
  | succ e ih => exact fun s h => hs (e + 1) e s h (fun s' h' => ih s' h')
theorem pk_least (P : Nat → Prop) (h : ∃ k, P k) : ∃ k, P k ∧ ∀ j, j < k → ¬ P j := by
  obtain ⟨k, hk⟩ := h
  induction k using Nat.strongRecOn with
  | ind k ih =>
    by_cases e : ∃ j, j < k ∧ P j
    · obtain ⟨j, hj, pj⟩ := e
      exact ih j hj pj
    · exact ⟨k, hk, fun j hj pj => e ⟨j, hj, pj⟩⟩
/-! ===== Int32 by its bits: bt x i ===== -/
def bt (x : Int32) (i : Nat) : Bool := x.toBitVec.getLsbD i
theorem b_ext {x y : Int32} (h : ∀ i, i < 32 → bt x i = bt y i) : x = y := Int32.toBitVec_inj.mp (BitVec.eq_of_getLsbD_eq (fun i hi => h i hi))
theorem b_or (x y : Int32) (i : Nat) : bt (x ||| y) i = (bt x i || bt y i) := by unfold bt; rw [Int32.toBitVec_or, BitVec.getLsbD_or]
theorem b_and (x y : Int32) (i : Nat) : bt (x &&& y) i = (bt x i && bt y i) := by unfold bt; rw [Int32.toBitVec_and, BitVec.getLsbD_and]
theorem b_xor (x y : Int32) (i : Nat) : bt (x ^^^ y) i = (bt x i ^^ bt y i) := by unfold bt; rw [Int32.toBitVec_xor, BitVec.getLsbD_xor]
theorem b_big {x : Int32} {i : Nat} (h : 32 ≤ i) : bt x i = false := BitVec.getLsbD_of_ge _ _ h
theorem b_255 (i : Nat) : bt 255 i = decide (i < 8) := by
  rcases Nat.lt_or_ge i 32 with h | h
  · exact (by decide +kernel : ∀ i, i < 32 → bt 255 i = decide (i < 8)) i h
  · rw [b_big h, decide_eq_false (by omega)]
theorem b_65535 (i : Nat) : bt 65535 i = decide (i < 16) := by
  rcases Nat.lt_or_ge i 32 with h | h
  · exact (by decide +kernel : ∀ i, i < 32 → bt 65535 i = decide (i < 16)) i h
  · rw [b_big h, decide_eq_false (by omega)]
theorem b_m1 : ∀ i, i < 32 → bt (-1) i = true := by decide +kernel
theorem b_0 (i : Nat) : bt 0 i = false := BitVec.getLsbD_zero
theorem s_l : ∀ n, n < 32 → ((nI n &&& 31).toBitVec.smod 32).toNat = n := by decide +kernel
theorem s_u : ∀ n, n < 32 → (((nI n).toUInt32 &&& Int32.toUInt32 31).toBitVec % 32).toNat = n := by decide +kernel
theorem b_shl (n : Nat) (hn : n < 32) (x : Int32) {i : Nat} (hi : i < 32) : bt (x <<< (nI n &&& 31)) i = (decide (n ≤ i) && bt x (i - n)) := by
  unfold bt
  rw [Int32.toBitVec_shiftLeft]
  show (x.toBitVec <<< ((nI n &&& 31).toBitVec.smod 32).toNat).getLsbD i = _
  rw [s_l n hn, BitVec.getLsbD_shiftLeft]
  rcases Nat.lt_or_ge i n with h | h
  · simp [h, Nat.not_le.mpr h]
  · simp [hi, h, Nat.not_lt.mpr h]
theorem b_ushr (n : Nat) (hn : n < 32) (x : Int32) (i : Nat) : bt ((x.toUInt32 >>> ((nI n).toUInt32 &&& Int32.toUInt32 31)).toInt32) i = bt x (n + i) := by
  show (x.toUInt32 >>> ((nI n).toUInt32 &&& Int32.toUInt32 31)).toBitVec.getLsbD i = x.toUInt32.toBitVec.getLsbD (n + i)
  rw [UInt32.toBitVec_shiftRight]
  show (x.toUInt32.toBitVec >>> (((nI n).toUInt32 &&& Int32.toUInt32 31).toBitVec % 32).toNat).getLsbD i = _
  rw [s_u n hn, BitVec.getLsbD_ushiftRight]
theorem b_sshr (n : Nat) (hn : n < 32) (x : Int32) {i : Nat} (hi : i < 32) : bt (x >>> (nI n &&& 31)) i = if n + i < 32 then bt x (n + i) else bt x 31 := by
  unfold bt
  rw [Int32.toBitVec_shiftRight]
  show (x.toBitVec.sshiftRight ((nI n &&& 31).toBitVec.smod 32).toNat).getLsbD i = _
  rw [s_l n hn, BitVec.getLsbD_sshiftRight, BitVec.msb_eq_getLsbD_last]
  simp [hi]
theorem b_shl8 (x : Int32) {i : Nat} (hi : i < 32) : bt (x <<< ((8 : Int32) &&& 31)) i = (decide (8 ≤ i) && bt x (i - 8)) := b_shl 8 (by omega) x hi
theorem b_shl16 (x : Int32) {i : Nat} (hi : i < 32) : bt (x <<< ((16 : Int32) &&& 31)) i = (decide (16 ≤ i) && bt x (i - 16)) := b_shl 16 (by omega) x hi
theorem b_shl24 (x : Int32) {i : Nat} (hi : i < 32) : bt (x <<< ((24 : Int32) &&& 31)) i = (decide (24 ≤ i) && bt x (i - 24)) := b_shl 24 (by omega) x hi
theorem b_sshr8 (x : Int32) {i : Nat} (hi : i < 32) : bt (x >>> ((8 : Int32) &&& 31)) i = if 8 + i < 32 then bt x (8 + i) else bt x 31 := b_sshr 8 (by omega) x hi
/-! ===== nI under and, xor, >>>, one bit, 65535 ===== -/
theorem nx_and (a b : Nat) : nI a &&& nI b = nI (a &&& b) := by
  apply Int32.toBitVec_inj.1
  show BitVec.ofNat 32 a &&& BitVec.ofNat 32 b = BitVec.ofNat 32 (a &&& b)
  apply BitVec.eq_of_getLsbD_eq
  intro i hi
  simp [hi]
theorem nx_xor (a b : Nat) : nI a ^^^ nI b = nI (a ^^^ b) := by
  apply Int32.toBitVec_inj.1
  show BitVec.ofNat 32 a ^^^ BitVec.ofNat 32 b = BitVec.ofNat 32 (a ^^^ b)
  apply BitVec.eq_of_getLsbD_eq
  intro i hi
  simp [hi]
end
section
/-! ===== pure: walks over free cells, least costs, canonical last steps ===== -/
def jp_c (a b : Int) : Nat := if a = 0 ∨ b = 0 then 10 else 14
def jp_u (a b : Int) : Prop := -1 ≤ a ∧ a ≤ 1 ∧ -1 ≤ b ∧ b ≤ 1 ∧ ¬ (a = 0 ∧ b = 0)
theorem jp_c10 {a b : Int} (h : a = 0 ∨ b = 0) : jp_c a b = 10 := if_pos h
theorem jp_c14 {a b : Int} (ha : a ≠ 0) (hb : b ≠ 0) : jp_c a b = 14 := if_neg (fun h => h.elim ha hb)
theorem jp_c_in (a b : Int) : jp_c a b = 10 ∨ jp_c a b = 14 := by
  by_cases h : a = 0 ∨ b = 0
  · exact Or.inl (if_pos h)
  · exact Or.inr (if_neg h)
theorem jp_c_neg (a b : Int) : jp_c (-a) (-b) = jp_c a b := by
  unfold jp_c
  by_cases h : a = 0 ∨ b = 0
  · rw [if_pos h, if_pos (by omega)]
  · rw [if_neg h, if_neg (by omega)]
theorem jp_u_neg {a b : Int} (h : jp_u a b) : jp_u (-a) (-b) := by
  unfold jp_u at *
  omega
/-- a walk of k steps and cost n from (sx, sy) to (x, y), all cells behind the first one free -/
def jp_w (F : Int → Int → Prop) (sx sy : Int) : Nat → Nat → Int → Int → Prop
  | 0 => fun n x y => n = 0 ∧ x = sx ∧ y = sy
  | k + 1 => fun n x y => F x y ∧ ∃ (a b : Int) (m : Nat), jp_u a b ∧ jp_w F sx sy k m (x - a) (y - b) ∧ n = m + jp_c a b
def jp_R (F : Int → Int → Prop) (sx sy : Int) (n : Nat) (x y : Int) : Prop := ∃ k, jp_w F sx sy k n x y
/-- the least cost -/
def jp_D (F : Int → Int → Prop) (sx sy : Int) (n : Nat) (x y : Int) : Prop := jp_R F sx sy n x y ∧ ∀ m, jp_R F sx sy m x y → n ≤ m
section
variable {F : Int → Int → Prop} {sx sy : Int}
theorem jp_eq2 {P : Int → Int → Prop} {x y x' y' : Int} (h : P x y) (ex : x = x') (ey : y = y') : P x' y' := by
  subst ex ey
  exact h
theorem jp_R0 : jp_R F sx sy 0 sx sy := ⟨0, rfl, rfl, rfl⟩
theorem jp_ws {k n : Nat} {x y a b : Int} (h : jp_w F sx sy k n x y) (hu : jp_u a b) (hf : F (x + a) (y + b)) : jp_w F sx sy (k + 1) (n + jp_c a b) (x + a) (y + b) := by
  refine ⟨hf, a, b, n, hu, ?_, rfl⟩
  exact jp_eq2 (P := fun x y => jp_w F sx sy k n x y) h (by omega) (by omega)
theorem jp_Rs {n : Nat} {x y a b : Int} (h : jp_R F sx sy n x y) (hu : jp_u a b) (hf : F (x + a) (y + b)) : jp_R F sx sy (n + jp_c a b) (x + a) (y + b) := by
  obtain ⟨k, hk⟩ := h
  exact ⟨k + 1, jp_ws hk hu hf⟩
theorem jp_RF {n : Nat} {x y : Int} (hs : F sx sy) (h : jp_R F sx sy n x y) : F x y := by
  obtain ⟨k, hk⟩ := h
  cases k with
  | zero =>
    obtain ⟨_, ex, ey⟩ := hk
    subst ex ey
    exact hs
  | succ k => exact hk.1
theorem jp_Dex {n : Nat} {x y : Int} (h : jp_R F sx sy n x y) : ∃ m, jp_D F sx sy m x y ∧ m ≤ n := by
  obtain ⟨m, hm, hl⟩ := pk_least (fun m => jp_R F sx sy m x y) ⟨n, h⟩
  have hle : ∀ j, jp_R F sx sy j x y → m ≤ j := fun j hj => Nat.le_of_not_lt (fun hlt => hl j hlt hj)
  exact ⟨m, ⟨hm, hle⟩, hle n h⟩
theorem jp_Du {n m : Nat} {x y : Int} (h : jp_D F sx sy n x y) (h' : jp_D F sx sy m x y) : n = m :=
  Nat.le_antisymm (h.2 m h'.1) (h'.2 n h.1)
theorem jp_D0 : jp_D F sx sy 0 sx sy := ⟨jp_R0, fun _ _ => Nat.zero_le _⟩
theorem jp_Ds {n : Nat} {x y a b : Int} (h : jp_D F sx sy n x y) (hu : jp_u a b) (hf : F (x + a) (y + b)) : ∃ m, jp_D F sx sy m (x + a) (y + b) ∧ m ≤ n + jp_c a b :=
  jp_Dex (jp_Rs h.1 hu hf)
theorem jp_Dp {n : Nat} {x y : Int} (h : jp_D F sx sy n x y) : (x = sx ∧ y = sy ∧ n = 0) ∨ (F x y ∧ ∃ (a b : Int) (m : Nat), jp_u a b ∧ jp_D F sx sy m (x - a) (y - b) ∧ n = m + jp_c a b) := by
  obtain ⟨⟨k, hk⟩, hmin⟩ := h
  cases k with
  | zero => exact Or.inl ⟨hk.2.1, hk.2.2, hk.1⟩
  | succ k =>
    obtain ⟨hF, a, b, m, hu, hw, e⟩ := hk
    obtain ⟨m', hD, hle⟩ := jp_Dex (F := F) (sx := sx) (sy := sy) ⟨k, hw⟩
    have h1 : jp_R F sx sy (m' + jp_c a b) x y := by
      have h2 := jp_Rs hD.1 hu (jp_eq2 (P := F) hF (x' := x - a + a) (y' := y - b + b) (by omega) (by omega))
      exact jp_eq2 (P := fun x y => jp_R F sx sy (m' + jp_c a b) x y) h2 (by omega) (by omega)
    have h3 := hmin _ h1
    have h4 : m' = m := by omega
    subst h4
    exact Or.inr ⟨hF, a, b, m', hu, hD, e⟩
/-- the last step (a, b) into (x, y) of a canonical optimal way: a straight one wherever there is one -/
def jp_K (F : Int → Int → Prop) (sx sy : Int) (a b : Int) (n : Nat) (x y : Int) : Prop :=
  jp_u a b ∧ F x y ∧ jp_D F sx sy n x y ∧ (∃ m, jp_D F sx sy m (x - a) (y - b) ∧ n = m + jp_c a b) ∧
  (a ≠ 0 → b ≠ 0 → ∀ (e f : Int) (m : Nat), jp_u e f → (e = 0 ∨ f = 0) → jp_D F sx sy m (x - e) (y - f) → n ≠ m + 10)
theorem jp_Kex {n : Nat} {x y : Int} (h : jp_D F sx sy n x y) : (x = sx ∧ y = sy ∧ n = 0) ∨ ∃ a b, jp_K F sx sy a b n x y := by
  rcases jp_Dp h with h0 | ⟨hF, a, b, m, hu, hD, e⟩
  · exact Or.inl h0
  · right
    by_cases hs : ∃ (e f : Int) (m : Nat), jp_u e f ∧ (e = 0 ∨ f = 0) ∧ jp_D F sx sy m (x - e) (y - f) ∧ n = m + 10
    · obtain ⟨e', f', m', hu', h0', hD', en⟩ := hs
      refine ⟨e', f', hu', hF, h, ⟨m', hD', by rw [jp_c10 h0']; exact en⟩, ?_⟩
      intro h1 h2
      exact absurd h0' (fun z => z.elim h1 h2)
    · refine ⟨a, b, hu, hF, h, ⟨m, hD, e⟩, ?_⟩
      intro _ _ e' f' m' hu' h0' hD' en
      exact hs ⟨e', f', m', hu', h0', hD', en⟩
/-- the forced directions at (x, y), come to by (a, b) -/
def jp_fo (F : Int → Int → Prop) (x y a b e f : Int) : Prop :=
  (a ≠ 0 ∧ b ≠ 0 ∧ ((e = -a ∧ f = b ∧ ¬ F (x - a) y ∧ F (x - a) (y + b)) ∨ (e = a ∧ f = -b ∧ ¬ F x (y - b) ∧ F (x + a) (y - b)))) ∨
  (a = 0 ∧ b ≠ 0 ∧ f = b ∧ (e = -1 ∨ e = 1) ∧ ¬ F (x + e) y ∧ F (x + e) (y + b)) ∨
  (a ≠ 0 ∧ b = 0 ∧ e = a ∧ (f = -1 ∨ f = 1) ∧ ¬ F x (y + f) ∧ F (x + a) (y + f))
/-- natural or forced -/
def jp_nf (F : Int → Int → Prop) (x y a b e f : Int) : Prop :=
  (e = a ∧ f = b) ∨ (a ≠ 0 ∧ b ≠ 0 ∧ ((e = a ∧ f = 0) ∨ (e = 0 ∧ f = b))) ∨ jp_fo F x y a b e f
theorem jp_le1 {p m : Nat} {x y x' y' a b : Int} (h : jp_D F sx sy p x y) (hu : jp_u a b) (hf : F x' y') (h' : jp_D F sx sy m x' y') (ex : x + a = x') (ey : y + b = y') : m ≤ p + jp_c a b := by
  subst ex ey
  obtain ⟨q, hq, hle⟩ := jp_Ds h hu hf
  rw [jp_Du h' hq]
  exact hle
theorem jp_Dat {p : Nat} {x y x' y' a b : Int} (h : jp_D F sx sy p x y) (hu : jp_u a b) (hf : F x' y') (ex : x + a = x') (ey : y + b = y') : ∃ q, jp_D F sx sy q x' y' ∧ q ≤ p + jp_c a b := by
  subst ex ey
  exact jp_Ds h hu hf
theorem jp_next {n m : Nat} {x y a b e f : Int} (K1 : jp_K F sx sy a b n x y) (K2 : jp_K F sx sy e f m (x + e) (y + f)) : jp_nf F x y a b e f := by
  obtain ⟨hu1, hF1, hD1, ⟨p, hDp, en⟩, -⟩ := K1
  obtain ⟨hu2, hF2, hD2, ⟨m0, hDm, em⟩, hK2⟩ := K2
  have hm0 : m0 = n := jp_Du (jp_eq2 (P := fun x y => jp_D F sx sy m0 x y) hDm (by omega) (by omega)) hD1
  subst hm0
  have c1 := jp_c_in a b
  have c2 := jp_c_in e f
  have hu1' := hu1
  have hu2' := hu2
  unfold jp_u at hu1' hu2'
  by_cases hz : a + e = 0 ∧ b + f = 0
  · exfalso
    have := jp_Du (jp_eq2 (P := fun x y => jp_D F sx sy p x y) hDp (x' := x + e) (y' := y + f) (by omega) (by omega)) hD2
    omega
  by_cases hs : (-1 ≤ a + e ∧ a + e ≤ 1) ∧ (-1 ≤ b + f ∧ b + f ≤ 1)
  · exfalso
    have hu3 : jp_u (a + e) (b + f) := ⟨hs.1.1, hs.1.2, hs.2.1, hs.2.2, hz⟩
    have c3 := jp_c_in (a + e) (b + f)
    have := jp_le1 hDp hu3 hF2 hD2 (by omega) (by omega)
    omega
  by_cases hfb : e = a ∧ f = b
  · exact Or.inl hfb
  by_cases hea : e = a ∧ a ≠ 0
  · obtain ⟨rfl, ha⟩ := hea
    by_cases hb : b = 0
    · subst hb
      have hf0 : f ≠ 0 := fun z => hfb ⟨rfl, z⟩
      by_cases hw : F x (y + f)
      · exfalso
        obtain ⟨q, hq, hle⟩ := jp_Dat hDp (a := e) (b := f) (by unfold jp_u; omega) hw (by omega) (by omega)
        have h2 := jp_le1 hq (a := e) (b := 0) (by unfold jp_u; omega) hF2 hD2 (by omega) (by omega)
        rw [jp_c14 ha hf0] at hle em
        rw [jp_c10 (Or.inr rfl)] at h2 en
        refine hK2 ha hf0 e 0 q (by unfold jp_u; omega) (Or.inr rfl) (jp_eq2 (P := fun x y => jp_D F sx sy q x y) hq (by omega) (by omega)) (by omega)
      · exact Or.inr (Or.inr (Or.inr (Or.inr ⟨ha, rfl, rfl, by omega, hw, hF2⟩)))
    · by_cases hf0 : f = 0
      · exact Or.inr (Or.inl ⟨ha, hb, Or.inl ⟨rfl, hf0⟩⟩)
      · have hfm : f = -b := by omega
        subst hfm
        have hF2' : F (x + e) (y - b) := jp_eq2 (P := F) hF2 rfl (by omega)
        by_cases hw : F x (y - b)
        · exfalso
          obtain ⟨q, hq, hle⟩ := jp_Dat hDp (a := e) (b := 0) (by unfold jp_u; omega) hw (by omega) (by omega)
          have h2 := jp_le1 hq (a := e) (b := 0) (by unfold jp_u; omega) hF2 hD2 (by omega) (by omega)
          rw [jp_c14 ha hf0] at em
          rw [jp_c14 ha hb] at en
          rw [jp_c10 (Or.inr rfl)] at h2 hle
          omega
        · exact Or.inr (Or.inr (Or.inl ⟨ha, hb, Or.inr ⟨rfl, rfl, hw, hF2'⟩⟩))
  · have hfe : f = b ∧ b ≠ 0 := by omega
    obtain ⟨rfl, hb⟩ := hfe
    by_cases ha : a = 0
    · subst ha
      have he0 : e ≠ 0 := fun z => hfb ⟨z, rfl⟩
      by_cases hw : F (x + e) y
      · exfalso
        obtain ⟨q, hq, hle⟩ := jp_Dat hDp (a := e) (b := f) (by unfold jp_u; omega) hw (by omega) (by omega)
        have h2 := jp_le1 hq (a := 0) (b := f) (by unfold jp_u; omega) hF2 hD2 (by omega) (by omega)
        rw [jp_c14 he0 hb] at hle em
        rw [jp_c10 (Or.inl rfl)] at h2 en
        refine hK2 he0 hb 0 f q (by unfold jp_u; omega) (Or.inl rfl) (jp_eq2 (P := fun x y => jp_D F sx sy q x y) hq (by omega) (by omega)) (by omega)
      · exact Or.inr (Or.inr (Or.inr (Or.inl ⟨rfl, hb, rfl, by omega, hw, hF2⟩)))
    · by_cases he0 : e = 0
      · exact Or.inr (Or.inl ⟨ha, hb, Or.inr ⟨he0, rfl⟩⟩)
      · have hem : e = -a := by omega
        subst hem
        have hF2' : F (x - a) (y + f) := jp_eq2 (P := F) hF2 (by omega) rfl
        by_cases hw : F (x - a) y
        · exfalso
          obtain ⟨q, hq, hle⟩ := jp_Dat hDp (a := 0) (b := f) (by unfold jp_u; omega) hw (by omega) (by omega)
          have h2 := jp_le1 hq (a := 0) (b := f) (by unfold jp_u; omega) hF2 hD2 (by omega) (by omega)
          rw [jp_c14 he0 hb] at em
          rw [jp_c14 ha hb] at en
          rw [jp_c10 (Or.inl rfl)] at h2 hle
          omega
        · exact Or.inr (Or.inr (Or.inl ⟨ha, hb, Or.inl ⟨rfl, rfl, hw, hF2'⟩⟩))
end
end
section
/-! ===== pure: the canonical way, jumps along it, and the waiting cell on it ===== -/
def jp_P (F : Int → Int → Prop) (sx sy : Int) (k : Nat) (X Y A B : Nat → Int) : Prop :=
  X 0 = sx ∧ Y 0 = sy ∧ ∀ i, i < k → X (i + 1) = X i + A i ∧ Y (i + 1) = Y i + B i ∧ ∃ n, jp_K F sx sy (A i) (B i) n (X (i + 1)) (Y (i + 1))
/-- the first stop of a jump from (x, y) by (a, b): after k steps -/
def jp_J (F : Int → Int → Prop) (St : Int → Int → Prop) (x y a b : Int) (k : Nat) : Prop :=
  0 < k ∧ (∀ i : Nat, 0 < i → i ≤ k → F (x + i * a) (y + i * b)) ∧ (∀ i : Nat, 0 < i → i < k → ¬ St (x + i * a) (y + i * b)) ∧ St (x + k * a) (y + k * b)
def jp_S (F : Int → Int → Prop) (gx gy a b x y : Int) : Prop := (x = gx ∧ y = gy) ∨ ∃ e f, jp_u e f ∧ jp_fo F x y a b e f
def jp_T (F : Int → Int → Prop) (gx gy a b x y : Int) : Prop := jp_S F gx gy a b x y ∨
  (a ≠ 0 ∧ b ≠ 0 ∧ ((∃ k, jp_J F (jp_S F gx gy a 0) x y a 0 k) ∨ ∃ k, jp_J F (jp_S F gx gy 0 b) x y 0 b k))
/-- the octile distance -/
def jp_h (gx gy x y : Int) : Nat := if (x - gx).natAbs < (y - gy).natAbs then 4 * (x - gx).natAbs + 10 * (y - gy).natAbs else 4 * (y - gy).natAbs + 10 * (x - gx).natAbs
theorem jp_h0 (x y : Int) : jp_h x y x y = 0 := by
  unfold jp_h
  rw [Int.sub_self, Int.sub_self]
  rfl
theorem jp_hs {gx gy x y a b : Int} (hu : jp_u a b) : jp_h gx gy x y ≤ jp_c a b + jp_h gx gy (x + a) (y + b) := by
  unfold jp_h jp_c jp_u at *
  split <;> split <;> split <;> omega
section
variable {F : Int → Int → Prop} {sx sy : Int}
theorem jp_first {St : Int → Int → Prop} {x y a b : Int} {m : Nat} (h0 : 0 < m) (hF : ∀ i : Nat, 0 < i → i ≤ m → F (x + i * a) (y + i * b)) (hS : St (x + m * a) (y + m * b)) :
    ∃ t : Nat, 0 < t ∧ t ≤ m ∧ jp_J F St x y a b t := by
  obtain ⟨t, ⟨ht, hSt⟩, hl⟩ := pk_least (fun t => 0 < t ∧ St (x + (t : Int) * a) (y + (t : Int) * b)) ⟨m, h0, hS⟩
  have htm : t ≤ m := Nat.le_of_not_lt (fun hlt => hl m hlt ⟨h0, hS⟩)
  exact ⟨t, ht, htm, ht, fun i hi hit => hF i hi (by omega), fun i hi hit hs => hl i hit ⟨hi, hs⟩, hSt⟩
theorem jp_path : ∀ (n : Nat) (x y : Int), jp_D F sx sy n x y → ∃ (k : Nat) (X Y A B : Nat → Int), jp_P F sx sy k X Y A B ∧ X k = x ∧ Y k = y := by
  intro n
  induction n using Nat.strongRecOn with
  | ind n ih =>
    intro x y hD
    rcases jp_Kex hD with ⟨ex, ey, _⟩ | ⟨a, b, hK⟩
    · exact ⟨0, fun _ => x, fun _ => y, fun _ => 0, fun _ => 0, ⟨ex, ey, fun i hi => absurd hi (Nat.not_lt_zero i)⟩, rfl, rfl⟩
    · obtain ⟨hu, hF, _, ⟨m, hDm, en⟩, _⟩ := id hK
      have hc := jp_c_in a b
      obtain ⟨k, X, Y, A, B, ⟨hX0, hY0, hst⟩, hXk, hYk⟩ := ih m (by omega) _ _ hDm
      refine ⟨k + 1, fun i => if i ≤ k then X i else x, fun i => if i ≤ k then Y i else y, fun i => if i < k then A i else a, fun i => if i < k then B i else b, ⟨?_, ?_, ?_⟩, ?_, ?_⟩
      · show (if 0 ≤ k then X 0 else x) = sx
        rw [if_pos (Nat.zero_le k)]
        exact hX0
      · show (if 0 ≤ k then Y 0 else y) = sy
        rw [if_pos (Nat.zero_le k)]
        exact hY0
      · intro i hi
        show (if i + 1 ≤ k then X (i + 1) else x) = (if i ≤ k then X i else x) + (if i < k then A i else a) ∧ (if i + 1 ≤ k then Y (i + 1) else y) = (if i ≤ k then Y i else y) + (if i < k then B i else b) ∧ ∃ n, jp_K F sx sy (if i < k then A i else a) (if i < k then B i else b) n (if i + 1 ≤ k then X (i + 1) else x) (if i + 1 ≤ k then Y (i + 1) else y)
        by_cases hik : i < k
        · rw [if_pos (show i + 1 ≤ k by omega), if_pos (show i ≤ k by omega), if_pos hik, if_pos (show i + 1 ≤ k by omega), if_pos (show i ≤ k by omega), if_pos hik]
          exact hst i hik
        · have e : i = k := by omega
          subst e
          rw [if_neg (show ¬ i + 1 ≤ i by omega), if_pos (show i ≤ i by omega), if_neg hik, if_neg (show ¬ i + 1 ≤ i by omega), if_pos (show i ≤ i by omega), if_neg hik]
          exact ⟨by omega, by omega, n, hK⟩
      · show (if k + 1 ≤ k then X (k + 1) else x) = x
        rw [if_neg (by omega)]
      · show (if k + 1 ≤ k then Y (k + 1) else y) = y
        rw [if_neg (by omega)]
section
variable {k : Nat} {X Y A B : Nat → Int}
theorem jp_PD (hP : jp_P F sx sy k X Y A B) : ∀ i, i ≤ k → ∃ n, jp_D F sx sy n (X i) (Y i) := by
  intro i hi
  cases i with
  | zero => exact ⟨0, by rw [hP.1, hP.2.1]; exact jp_D0⟩
  | succ i =>
    obtain ⟨_, _, n, hK⟩ := hP.2.2 i (by omega)
    exact ⟨n, hK.2.2.1⟩
theorem jp_Pstep (hP : jp_P F sx sy k X Y A B) {i n : Nat} (hi : i < k) (hD : jp_D F sx sy n (X i) (Y i)) : jp_D F sx sy (n + jp_c (A i) (B i)) (X (i + 1)) (Y (i + 1)) := by
  obtain ⟨eX, eY, n', hK⟩ := hP.2.2 i hi
  obtain ⟨_, _, hD', ⟨m, hDm, en⟩, _⟩ := hK
  have : m = n := jp_Du (jp_eq2 (P := fun x y => jp_D F sx sy m x y) hDm (by omega) (by omega)) hD
  subst this
  rw [← en]
  exact hD'
theorem jp_Pu (hP : jp_P F sx sy k X Y A B) {i : Nat} (hi : i < k) : jp_u (A i) (B i) := by
  obtain ⟨_, _, _, hK⟩ := hP.2.2 i hi
  exact hK.1
theorem jp_PF (hP : jp_P F sx sy k X Y A B) {i : Nat} (hi : i < k) : F (X (i + 1)) (Y (i + 1)) := by
  obtain ⟨_, _, _, hK⟩ := hP.2.2 i hi
  exact hK.2.1
theorem jp_Pnf (hP : jp_P F sx sy k X Y A B) {i : Nat} (hi : i + 1 < k) : jp_nf F (X (i + 1)) (Y (i + 1)) (A i) (B i) (A (i + 1)) (B (i + 1)) := by
  obtain ⟨_, _, _, K1⟩ := hP.2.2 i (by omega)
  obtain ⟨eX, eY, m, K2⟩ := hP.2.2 (i + 1) hi
  rw [eX, eY] at K2
  exact jp_next K1 K2
/-- while the direction stays -/
theorem jp_Prun (hP : jp_P F sx sy k X Y A B) {i : Nat} : ∀ t : Nat, i + t ≤ k → (∀ s, i ≤ s → s < i + t → A s = A i ∧ B s = B i) → X (i + t) = X i + t * A i ∧ Y (i + t) = Y i + t * B i := by
  intro t
  induction t with
  | zero =>
    intro _ _
    constructor
    · show X i = X i + ((0 : Nat) : Int) * A i
      rw [Int.natCast_zero, Int.zero_mul, Int.add_zero]
    · show Y i = Y i + ((0 : Nat) : Int) * B i
      rw [Int.natCast_zero, Int.zero_mul, Int.add_zero]
  | succ t ih =>
    intro hk hs
    obtain ⟨h1, h2⟩ := ih (by omega) (fun s h h' => hs s h (by omega))
    obtain ⟨e1, e2, _⟩ := hP.2.2 (i + t) (by omega)
    obtain ⟨a1, a2⟩ := hs (i + t) (by omega) (by omega)
    rw [a1] at e1
    rw [a2] at e2
    have c1 : ((t + 1 : Nat) : Int) * A i = t * A i + A i := by
      rw [Int.natCast_add, Int.add_mul, Int.natCast_one, Int.one_mul]
    have c2 : ((t + 1 : Nat) : Int) * B i = t * B i + B i := by
      rw [Int.natCast_add, Int.add_mul, Int.natCast_one, Int.one_mul]
    constructor
    · show X (i + t + 1) = _
      rw [e1, h1, c1, Int.add_assoc]
    · show Y (i + t + 1) = _
      rw [e2, h2, c2, Int.add_assoc]
theorem jp_run (hP : jp_P F sx sy k X Y A B) {i : Nat} (hi : i < k) (St : Int → Int → Prop)
    (hst : ∀ j, i < j → j ≤ k → A (j - 1) = A i → B (j - 1) = B i → (j = k ∨ ¬ (A j = A i ∧ B j = B i)) → St (X j) (Y j)) :
    ∃ t : Nat, 0 < t ∧ i + t ≤ k ∧ jp_J F St (X i) (Y i) (A i) (B i) t ∧ (∀ s, i ≤ s → s < i + t → A s = A i ∧ B s = B i) := by
  obtain ⟨j, ⟨hij, hj⟩, hl⟩ := pk_least (fun j => i < j ∧ (j = k ∨ ¬ (A j = A i ∧ B j = B i))) ⟨k, hi, Or.inl rfl⟩
  have hjk : j ≤ k := Nat.le_of_not_lt (fun hlt => hl k hlt ⟨hi, Or.inl rfl⟩)
  have hrun : ∀ s, i ≤ s → s < j → A s = A i ∧ B s = B i := by
    intro s h1 h2
    by_cases e : s = i
    · subst e
      exact ⟨rfl, rfl⟩
    · by_cases hc : A s = A i ∧ B s = B i
      · exact hc
      · exact absurd ⟨by omega, Or.inr hc⟩ (hl s h2)
  have hpos : ∀ t : Nat, i + t ≤ j → X (i + t) = X i + t * A i ∧ Y (i + t) = Y i + t * B i := fun t ht =>
    jp_Prun hP t (by omega) (fun s h1 h2 => hrun s h1 (by omega))
  obtain ⟨m, hm⟩ : ∃ m, j = i + m := ⟨j - i, by omega⟩
  subst hm
  have hS : St (X i + (m : Int) * A i) (Y i + (m : Int) * B i) := by
    rw [← (hpos m (by omega)).1, ← (hpos m (by omega)).2]
    have hp := hrun (i + m - 1) (by omega) (by omega)
    exact hst (i + m) hij hjk hp.1 hp.2 hj
  have hFr : ∀ q : Nat, 0 < q → q ≤ m → F (X i + (q : Int) * A i) (Y i + (q : Int) * B i) := by
    intro q h1 h2
    rw [← (hpos q (by omega)).1, ← (hpos q (by omega)).2]
    have := jp_PF hP (i := i + q - 1) (by omega)
    rw [show i + q - 1 + 1 = i + q by omega] at this
    exact this
  obtain ⟨t, ht, htm, hJ⟩ := jp_first (F := F) (by omega) hFr hS
  exact ⟨t, ht, by omega, hJ, fun s h1 h2 => hrun s h1 (by omega)⟩
theorem jp_turn (hP : jp_P F sx sy k X Y A B) {i j : Nat} (hij : i < j) (hjk : j < k) (hA : A (j - 1) = A i) (hB : B (j - 1) = B i) : jp_nf F (X j) (Y j) (A i) (B i) (A j) (B j) := by
  have := jp_Pnf hP (i := j - 1) (by omega)
  rw [show j - 1 + 1 = j by omega, hA, hB] at this
  exact this
theorem jp_land_s (hP : jp_P F sx sy k X Y A B) {i : Nat} (hi : i < k) (h0 : A i = 0 ∨ B i = 0) :
    ∃ t : Nat, jp_J F (jp_S F (X k) (Y k) (A i) (B i)) (X i) (Y i) (A i) (B i) t := by
  obtain ⟨t, _, _, hJ, _⟩ := jp_run hP hi (jp_S F (X k) (Y k) (A i) (B i)) (by
    intro j hij hjk hA hB hj
    by_cases e : j = k
    · subst e
      exact Or.inl ⟨rfl, rfl⟩
    · have hn := jp_turn hP hij (by omega) hA hB
      rcases hn with hn | hn | hn
      · rcases hj with hj | hj
        · exact absurd hj e
        · exact absurd hn hj
      · exact absurd h0 (fun z => z.elim hn.1 hn.2.1)
      · exact Or.inr ⟨_, _, jp_Pu hP (by omega), hn⟩)
  exact ⟨t, hJ⟩
theorem jp_land (hP : jp_P F sx sy k X Y A B) {i : Nat} (hi : i < k) :
    ∃ t : Nat, 0 < t ∧ i + t ≤ k ∧ jp_J F (jp_T F (X k) (Y k) (A i) (B i)) (X i) (Y i) (A i) (B i) t ∧ (∀ s, i ≤ s → s < i + t → A s = A i ∧ B s = B i) := by
  refine jp_run hP hi _ ?_
  intro j hij hjk hA hB hj
  by_cases e : j = k
  · subst e
    exact Or.inl (Or.inl ⟨rfl, rfl⟩)
  · have hn := jp_turn hP hij (by omega) hA hB
    rcases hn with hn | ⟨ha, hb, hn⟩ | hn
    · rcases hj with hj | hj
      · exact absurd hj e
      · exact absurd hn hj
    · refine Or.inr ⟨ha, hb, ?_⟩
      rcases hn with ⟨ea, eb⟩ | ⟨ea, eb⟩
      · have := jp_land_s hP (i := j) (by omega) (Or.inr eb)
        rw [ea, eb] at this
        exact Or.inl this
      · have := jp_land_s hP (i := j) (by omega) (Or.inl ea)
        rw [ea, eb] at this
        exact Or.inr this
    · exact Or.inl (Or.inr ⟨_, _, jp_Pu hP (by omega), hn⟩)
theorem jp_Prund (hP : jp_P F sx sy k X Y A B) {i n : Nat} (hD : jp_D F sx sy n (X i) (Y i)) : ∀ t : Nat, i + t ≤ k → (∀ s, i ≤ s → s < i + t → A s = A i ∧ B s = B i) → jp_D F sx sy (n + t * jp_c (A i) (B i)) (X (i + t)) (Y (i + t)) := by
  intro t
  induction t with
  | zero =>
    intro _ _
    rw [Nat.zero_mul, Nat.add_zero, Nat.add_zero]
    exact hD
  | succ t ih =>
    intro hk hs
    have h1 := jp_Pstep hP (i := i + t) (by omega) (ih (by omega) (fun s h h' => hs s h (by omega)))
    obtain ⟨a1, a2⟩ := hs (i + t) (by omega) (by omega)
    rw [a1, a2] at h1
    rw [Nat.succ_mul, ← Nat.add_assoc]
    exact h1
theorem jp_Ph (hP : jp_P F sx sy k X Y A B) : ∀ (d i n m : Nat), i + d = k → jp_D F sx sy n (X i) (Y i) → jp_D F sx sy m (X k) (Y k) → n + jp_h (X k) (Y k) (X i) (Y i) ≤ m := by
  intro d
  induction d with
  | zero =>
    intro i n m e h1 h2
    have e' : i = k := by omega
    subst e'
    rw [jp_h0, jp_Du h1 h2]
    exact Nat.le_refl _
  | succ d ih =>
    intro i n m e h1 h2
    have h3 := jp_Pstep hP (i := i) (by omega) h1
    have h4 := ih (i + 1) _ m (by omega) h3 h2
    obtain ⟨e1, e2, _⟩ := hP.2.2 i (by omega)
    rw [e1, e2] at h4
    have h5 := jp_hs (gx := X k) (gy := Y k) (x := X i) (y := Y i) (jp_Pu hP (i := i) (by omega))
    omega
end
/-- what the search keeps, over cells by their two numbers -/
theorem jp_key {gx gy : Int} {M L : Int → Int → Nat} {P : Int → Int → Int → Int → Prop} {n : Nat} (hF : F sx sy) (hD : jp_D F sx sy n gx gy)
    (hs : M sx sy ≠ 0) (hs0 : L sx sy = 0) (hsP : ∀ a b, jp_u a b → P sx sy a b)
    (hS : ∀ x y, F x y → M x y ≠ 0 → jp_R F sx sy (L x y) x y)
    (hM : ∀ x y, F x y → M x y = 0 ∨ M x y = 1 ∨ M x y = 2)
    (hDom : ∀ (x y a b : Int) (k : Nat), F x y → M x y = 2 → jp_u a b → P x y a b → jp_J F (jp_T F gx gy a b) x y a b k →
      M (x + k * a) (y + k * b) ≠ 0 ∧ (L (x + k * a) (y + k * b) < L x y + k * jp_c a b ∨ (L (x + k * a) (y + k * b) = L x y + k * jp_c a b ∧ ∀ e f, jp_u e f → jp_nf F (x + k * a) (y + k * b) a b e f → P (x + k * a) (y + k * b) e f)))
    (hg : M gx gy ≠ 2) : ∃ x y, F x y ∧ M x y = 1 ∧ L x y + jp_h gx gy x y ≤ n := by
  obtain ⟨k, X, Y, A, B, hP, hXk, hYk⟩ := jp_path n gx gy hD
  subst hXk hYk
  have main : ∀ (d i : Nat), i + d = k → F (X i) (Y i) → M (X i) (Y i) ≠ 0 → jp_D F sx sy (L (X i) (Y i)) (X i) (Y i) → (i < k → P (X i) (Y i) (A i) (B i)) → ∃ x y, F x y ∧ M x y = 1 ∧ L x y + jp_h (X k) (Y k) x y ≤ n := by
    intro d
    induction d using Nat.strongRecOn with
    | ind d ih =>
      intro i e hFi hMi hDi hPi
      rcases hM _ _ hFi with h | h | h
      · exact absurd h hMi
      · exact ⟨X i, Y i, hFi, h, jp_Ph hP d i _ n e hDi hD⟩
      · have hik : i < k := by
          by_cases e' : i = k
          · subst e'
            exact absurd h hg
          · omega
        obtain ⟨t, ht, htk, hJ, hrun⟩ := jp_land hP hik
        have hu := jp_Pu hP hik
        obtain ⟨hM', hL'⟩ := hDom _ _ _ _ t hFi h hu (hPi hik) hJ
        obtain ⟨eX, eY⟩ := jp_Prun hP t htk hrun
        have hDt := jp_Prund hP hDi t htk hrun
        have hFt := hJ.2.1 t ht (Nat.le_refl t)
        rw [← eX, ← eY] at hM' hL' hFt
        have hRt := hDt.2 _ (hS _ _ hFt hM')
        have hL2 : L (X (i + t)) (Y (i + t)) = L (X i) (Y i) + t * jp_c (A i) (B i) ∧ ∀ e f, jp_u e f → jp_nf F (X (i + t)) (Y (i + t)) (A i) (B i) e f → P (X (i + t)) (Y (i + t)) e f := by
          rcases hL' with hlt | hq
          · omega
          · exact hq
        refine ih (d - t) (by omega) (i + t) (by omega) hFt hM' ?_ ?_
        · rw [hL2.1]
          exact hDt
        · intro hlt
          have hp := hrun (i + t - 1) (by omega) (by omega)
          exact hL2.2 _ _ (jp_Pu hP hlt) (jp_turn hP (by omega) hlt hp.1 hp.2)
  have hX0 := hP.1
  have hY0 := hP.2.1
  refine main k 0 (by omega) ?_ ?_ ?_ ?_
  · rw [hX0, hY0]; exact hF
  · rw [hX0, hY0]; exact hs
  · rw [hX0, hY0, hs0]; exact jp_D0
  · intro h0
    rw [hX0, hY0]
    exact hsP _ _ (jp_Pu hP h0)
end
end
section
/-! ===== cells by numbers, free cells, counting ===== -/
def jc_x (c : Nat) : Int := ((c % 12 : Nat) : Int)
def jc_y (c : Nat) : Int := ((c / 12 : Nat) : Int)
def jc_i (x y : Int) : Nat := (12 * y + x).toNat
def jc_F (w : Nat → Int32) (x y : Int) : Prop := 0 ≤ x ∧ x < 12 ∧ 0 ≤ y ∧ y < 12 ∧ w (jc_i x y) = 0
theorem jc_in {c : Nat} (h : c < 144) : 0 ≤ jc_x c ∧ jc_x c < 12 ∧ 0 ≤ jc_y c ∧ jc_y c < 12 := by
  unfold jc_x jc_y
  omega
theorem jc_ic {c : Nat} (h : c < 144) : jc_i (jc_x c) (jc_y c) = c := by
  unfold jc_x jc_y jc_i
  omega
theorem jc_il {x y : Int} (h0 : 0 ≤ x) (h1 : x < 12) (h2 : 0 ≤ y) (h3 : y < 12) : jc_i x y < 144 := by
  unfold jc_i
  omega
theorem jc_xi {x y : Int} (h0 : 0 ≤ x) (h1 : x < 12) (h2 : 0 ≤ y) (h3 : y < 12) : jc_x (jc_i x y) = x := by
  unfold jc_x jc_i
  omega
theorem jc_yi {x y : Int} (h0 : 0 ≤ x) (h1 : x < 12) (h2 : 0 ≤ y) (h3 : y < 12) : jc_y (jc_i x y) = y := by
  unfold jc_y jc_i
  omega
theorem jc_Fl {w : Nat → Int32} {x y : Int} (h : jc_F w x y) : jc_i x y < 144 := jc_il h.1 h.2.1 h.2.2.1 h.2.2.2.1
theorem jc_Fx {w : Nat → Int32} {x y : Int} (h : jc_F w x y) : jc_x (jc_i x y) = x := jc_xi h.1 h.2.1 h.2.2.1 h.2.2.2.1
theorem jc_Fy {w : Nat → Int32} {x y : Int} (h : jc_F w x y) : jc_y (jc_i x y) = y := jc_yi h.1 h.2.1 h.2.2.1 h.2.2.2.1
theorem jc_Fc {w : Nat → Int32} {c : Nat} (h : c < 144) : jc_F w (jc_x c) (jc_y c) ↔ w c = 0 := by
  unfold jc_F
  rw [jc_ic h]
  have := jc_in h
  constructor
  · exact fun z => z.2.2.2.2
  · exact fun z => ⟨this.1, this.2.1, this.2.2.1, this.2.2.2, z⟩
/-- n different numbers below m: n is at most m -/
theorem jc_pig : ∀ (m n : Nat) (f : Nat → Nat), (∀ i, i < n → f i < m) → (∀ i j, i < j → j < n → f i ≠ f j) → n ≤ m := by
  intro m
  induction m with
  | zero =>
    intro n f h _
    cases n with
    | zero => exact Nat.le_refl 0
    | succ n => exact absurd (h 0 (by omega)) (Nat.not_lt_zero _)
  | succ m ih =>
    intro n f h hi
    cases n with
    | zero => exact Nat.zero_le _
    | succ n =>
      by_cases hq : ∃ q, q < n + 1 ∧ f q = m
      · obtain ⟨q, hq, eq⟩ := hq
        have hne : ∀ i, i < n + 1 → i ≠ q → f i ≠ m := by
          intro i h1 h2 h3
          rcases Nat.lt_or_gt_of_ne h2 with h4 | h4
          · exact hi i q h4 hq (h3.trans eq.symm)
          · exact hi q i h4 h1 (eq.trans h3.symm)
        have := ih n (fun i => if i < q then f i else f (i + 1)) (by
          intro i h1
          show (if i < q then f i else f (i + 1)) < m
          by_cases h2 : i < q
          · rw [if_pos h2]
            have h3 := h i (by omega)
            have h4 := hne i (by omega) (by omega)
            omega
          · rw [if_neg h2]
            have h3 := h (i + 1) (by omega)
            have h4 := hne (i + 1) (by omega) (by omega)
            omega) (by
          intro i j h1 h2
          show (if i < q then f i else f (i + 1)) ≠ (if j < q then f j else f (j + 1))
          by_cases h3 : i < q
          · by_cases h4 : j < q
            · rw [if_pos h3, if_pos h4]
              exact hi i j h1 (by omega)
            · rw [if_pos h3, if_neg h4]
              exact hi i (j + 1) (by omega) (by omega)
          · rw [if_neg h3, if_neg (show ¬ j < q by omega)]
            exact hi (i + 1) (j + 1) (by omega) (by omega))
        omega
      · have := ih (n + 1) f (by
          intro i h1
          have h2 := h i h1
          have h3 : f i ≠ m := fun z => hq ⟨i, h1, z⟩
          omega) hi
        omega
/-- an optimal way of at most 143 steps -/
theorem jc_short {w : Nat → Int32} {sx sy x y : Int} {n : Nat} (hs : jc_F w sx sy) (hD : jp_D (jc_F w) sx sy n x y) : ∃ k, k ≤ 143 ∧ jp_w (jc_F w) sx sy k n x y := by
  obtain ⟨k, X, Y, A, B, hP, hXk, hYk⟩ := jp_path n x y hD
  subst hXk hYk
  have hF : ∀ i, i ≤ k → jc_F w (X i) (Y i) := by
    intro i hi
    obtain ⟨m, hm⟩ := jp_PD hP i hi
    exact jp_RF hs hm.1
  have hinc : ∀ (d i : Nat) (p q : Nat), i + d ≤ k → jp_D (jc_F w) sx sy p (X i) (Y i) → jp_D (jc_F w) sx sy q (X (i + d)) (Y (i + d)) → p + d ≤ q := by
    intro d
    induction d with
    | zero =>
      intro i p q _ h1 h2
      rw [jp_Du h1 h2]
      exact Nat.le_refl _
    | succ d ih =>
      intro i p q hk h1 h2
      have h3 := jp_Pstep hP (i := i) (by omega) h1
      have hc := jp_c_in (A i) (B i)
      have h4 := ih (i + 1) _ q (by omega) h3 (by rw [show i + 1 + d = i + (d + 1) by omega]; exact h2)
      omega
  have hk : k + 1 ≤ 144 := by
    refine jc_pig 144 (k + 1) (fun i => jc_i (X i) (Y i)) (fun i hi => jc_Fl (hF i (by omega))) ?_
    intro i j hij hj e
    have e : jc_i (X i) (Y i) = jc_i (X j) (Y j) := e
    have hFi := hF i (by omega)
    have hFj := hF j (by omega)
    have eX : X i = X j := by rw [← jc_Fx hFi, ← jc_Fx hFj, e]
    have eY : Y i = Y j := by rw [← jc_Fy hFi, ← jc_Fy hFj, e]
    obtain ⟨p, hp⟩ := jp_PD hP i (by omega)
    have h1 := hp
    rw [eX, eY] at h1
    have h2 := hinc (j - i) i p p (by omega) hp (by rw [show i + (j - i) = j by omega]; exact h1)
    omega
  have hw : ∀ i, i ≤ k → ∃ m, jp_w (jc_F w) sx sy i m (X i) (Y i) ∧ jp_D (jc_F w) sx sy m (X i) (Y i) := by
    intro i
    induction i with
    | zero =>
      intro _
      refine ⟨0, ⟨rfl, hP.1, hP.2.1⟩, ?_⟩
      rw [hP.1, hP.2.1]
      exact jp_D0
    | succ i ih =>
      intro hi
      obtain ⟨m, h1, h2⟩ := ih (by omega)
      refine ⟨m + jp_c (A i) (B i), ?_, jp_Pstep hP (by omega) h2⟩
      obtain ⟨e1, e2, _⟩ := hP.2.2 i (by omega)
      have h3 := jp_PF hP (i := i) (by omega)
      rw [e1, e2] at h3 ⊢
      exact jp_ws h1 (jp_Pu hP (by omega)) h3
  obtain ⟨m, h1, h2⟩ := hw k (Nat.le_refl k)
  rw [jp_Du hD h2]
  exact ⟨k, by omega, h1⟩
/-- the answer that both sides meet: the least cost, or -1 -/
noncomputable def jc_A (w : Nat → Int32) (f c : Nat) : Int32 :=
  @dite Int32 (∃ n, jp_D (jc_F w) (jc_x f) (jc_y f) n (jc_x c) (jc_y c)) (Classical.propDecidable _) (fun h => nI h.choose) (fun _ => -1)
theorem jc_A1 {w : Nat → Int32} {f c n : Nat} (h : jp_D (jc_F w) (jc_x f) (jc_y f) n (jc_x c) (jc_y c)) : jc_A w f c = nI n := by
  have he : ∃ n, jp_D (jc_F w) (jc_x f) (jc_y f) n (jc_x c) (jc_y c) := ⟨n, h⟩
  unfold jc_A
  rw [dif_pos he]
  rw [jp_Du h he.choose_spec]
theorem jc_A0 {w : Nat → Int32} {f c : Nat} (h : ¬ ∃ n, jp_R (jc_F w) (jc_x f) (jc_y f) n (jc_x c) (jc_y c)) : jc_A w f c = -1 := by
  have he : ¬ ∃ n, jp_D (jc_F w) (jc_x f) (jc_y f) n (jc_x c) (jc_y c) := fun ⟨n, hn⟩ => h ⟨n, hn.1⟩
  unfold jc_A
  rw [dif_neg he]
end
section
/-! ===== comparisons by toInt ===== -/
theorem jt_lt {x y : Int32} {A B : Prop} (v z : Int) (hx : x.toInt = v) (hy : y.toInt = z) (f : v < z → A) (g : z ≤ v → B) : (x < y → A) ∧ (¬ x < y → B) := by
  rw [Int32.lt_iff_toInt_lt, hx, hy]
  exact ⟨f, fun h => g (by omega)⟩
theorem jt_le {x y : Int32} {A B : Prop} (v z : Int) (hx : x.toInt = v) (hy : y.toInt = z) (f : v ≤ z → A) (g : z < v → B) : (x ≤ y → A) ∧ (¬ x ≤ y → B) := by
  rw [Int32.le_iff_toInt_le, hx, hy]
  exact ⟨f, fun h => g (by omega)⟩
theorem jt_eq {x y : Int32} {A B : Prop} (v z : Int) (hx : x.toInt = v) (hy : y.toInt = z) (f : v = z → A) (g : v ≠ z → B) : (x = y → A) ∧ (¬ x = y → B) := by
  rw [← Int32.toInt_inj, hx, hy]
  exact ⟨f, g⟩
theorem jt_of {x : Int32} {n : Nat} (h : x.toInt = (n : Int)) (hn : n < 2 ^ 31) : x = nI n := Int32.toInt_inj.mp (by rw [h, nI_toInt hn])
theorem jt_12 {c : Nat} (h : c < 144) : (nI c - nI c / 12 * 12).toInt = jc_x c := by
  have e : nI c - nI c / 12 * 12 = nI (c % 12) := pk_rem (d := 12) (by omega) (by decide) (by decide)
  rw [e, nI_toInt (by omega)]
  rfl
theorem jt_d12 {c : Nat} (h : c < 144) : (nI c / 12).toInt = jc_y c := by
  have e : nI c / 12 = nI (c / 12) := pk_div (d := 12) (by omega) (by decide) (by decide)
  rw [e, nI_toInt (by omega)]
  rfl
theorem jt_add {x y : Int32} (v z : Int) (hx : x.toInt = v) (hy : y.toInt = z) (h1 : -1000000000 ≤ v) (h2 : v ≤ 1000000000) (h3 : -1000000000 ≤ z) (h4 : z ≤ 1000000000) : (x + y).toInt = v + z := by
  subst hx hy
  exact Jvm.Kit.i32_add (by omega) (by omega)
theorem jt_sub {x y : Int32} (v z : Int) (hx : x.toInt = v) (hy : y.toInt = z) (h1 : -1000000000 ≤ v) (h2 : v ≤ 1000000000) (h3 : -1000000000 ≤ z) (h4 : z ≤ 1000000000) : (x - y).toInt = v - z := by
  subst hx hy
  exact Jvm.Kit.i32_sub (by omega) (by omega)
theorem jt_ix {x4 x5 : Int32} {v4 v5 : Int} (h4 : x4.toInt = v4) (h5 : x5.toInt = v5) (a0 : 0 ≤ v4) (a1 : v4 < 12) (b0 : 0 ≤ v5) (b1 : v5 < 12) : 12 * x5 + x4 = nI (jc_i v4 v5) := by
  have e4 : x4 = nI v4.toNat := jt_of (by omega) (by omega)
  have e5 : x5 = nI v5.toNat := jt_of (by omega) (by omega)
  have e12 : (12 : Int32) = nI 12 := rfl
  rw [e4, e5, e12, pk_mul, nI_add]
  exact congrArg nI (by unfold jc_i; omega)
theorem jt_0 : (0 : Int32).toInt = 0 := by decide
theorem jt_1 : (1 : Int32).toInt = 1 := by decide
theorem jt_2 : (2 : Int32).toInt = 2 := by decide
theorem jt_11 : (11 : Int32).toInt = 11 := by decide
theorem jt_l12 : (12 : Int32).toInt = 12 := by decide
theorem jt_m1 : (-1 : Int32).toInt = -1 := by decide
theorem jt_m2 : (-2 : Int32).toInt = -2 := by decide
theorem jt_n {n : Nat} (h : n < 2 ^ 31) : (nI n).toInt = (n : Int) := nI_toInt h
theorem jt_neg {x : Int32} (v : Int) (hx : x.toInt = v) (h1 : -1000000000 ≤ v) (h2 : v ≤ 1000000000) : (-x).toInt = -v := by
  have e : -x = 0 - x := by rw [Int32.zero_sub]
  rw [e, jt_sub 0 v jt_0 hx (by decide) (by decide) h1 h2]
  omega
end
section
/-! ===== the reference: lowering one cell ===== -/
def jy_le (v : Int32) (n : Nat) : Prop := 0 ≤ v.toInt ∧ v.toInt ≤ (n : Int)
def jc_G (x y : Int) : Prop := 0 ≤ x ∧ x < 12 ∧ 0 ≤ y ∧ y < 12
def jy_V (w : Nat → Int32) (sx sy : Int) (B : Nat) (v : Int32) (c : Nat) : Prop := v.toInt = -1 ∨ ∃ n : Nat, v.toInt = (n : Int) ∧ n ≤ B ∧ jp_R (jc_F w) sx sy n (jc_x c) (jc_y c)
def jy_S (w : Nat → Int32) (sx sy : Int) (B : Nat) (far : Nat → Int32) : Prop := ∀ c, c < 144 → jy_V w sx sy B (far c) c
def jy_ok (far0 far : Nat → Int32) (c k : Nat) : Prop := ∀ (a b : Int) (m : Nat), jp_u a b → 3 * (b + 1) + (a + 1) < (k : Int) → jc_G (jc_x c + a) (jc_y c + b) → jy_le (far0 (jc_i (jc_x c + a) (jc_y c + b))) m → jy_le (far c) (m + jp_c a b)
def jy_Q (w far : Nat → Int32) (sx sy : Int) (c B k : Nat) (x2 : Int32) (fk : Nat → Int32) : Prop :=
  (∀ j, j ≠ c → fk j = far j) ∧ ((x2 = 0 ∧ fk = far) ∨ x2 = 1) ∧ jy_V w sx sy (B + 14) (fk c) c ∧ (∀ n : Nat, jy_le (far c) n → jy_le (fk c) n) ∧ jy_ok far fk c k
theorem jy_V_mono {w : Nat → Int32} {sx sy : Int} {B B' : Nat} {v : Int32} {c : Nat} (h : jy_V w sx sy B v c) (hB : B ≤ B') : jy_V w sx sy B' v c := by
  rcases h with h | ⟨n, h1, h2, h3⟩
  · exact Or.inl h
  · exact Or.inr ⟨n, h1, by omega, h3⟩
section
variable {w far : Nat → Int32} {sx sy : Int} {c B : Nat}
theorem jy_skip {k : Nat} {x2 : Int32} {fk : Nat → Int32} (h : jy_Q w far sx sy c B k x2 fk)
    (hk : ∀ (a b : Int) (m : Nat), jp_u a b → 3 * (b + 1) + (a + 1) = (k : Int) → jc_G (jc_x c + a) (jc_y c + b) → jy_le (far (jc_i (jc_x c + a) (jc_y c + b))) m → jy_le (fk c) (m + jp_c a b)) :
    jy_Q w far sx sy c B (k + 1) x2 fk := by
  obtain ⟨h1, h2, h3, h4, h5⟩ := h
  refine ⟨h1, h2, h3, h4, ?_⟩
  intro a b m hu hlt hg hle
  by_cases e : 3 * (b + 1) + (a + 1) = (k : Int)
  · exact hk a b m hu e hg hle
  · exact h5 a b m hu (by omega) hg hle
theorem jy_store {k : Nat} {x2 : Int32} {fk : Nat → Int32} {x7 : Int32} (h : jy_Q w far sx sy c B k x2 fk) (hV : jy_V w sx sy (B + 14) x7 c)
    (hlt : ∀ n : Nat, jy_le (fk c) n → jy_le x7 n)
    (hk : ∀ (a b : Int) (m : Nat), jp_u a b → 3 * (b + 1) + (a + 1) = (k : Int) → jc_G (jc_x c + a) (jc_y c + b) → jy_le (far (jc_i (jc_x c + a) (jc_y c + b))) m → jy_le x7 (m + jp_c a b)) :
    jy_Q w far sx sy c B (k + 1) 1 (upd fk c x7) := by
  obtain ⟨h1, h2, h3, h4, h5⟩ := h
  have e : upd fk c x7 c = x7 := pk_us
  refine ⟨fun j hj => (pk_un hj).trans (h1 j hj), Or.inr rfl, by rw [e]; exact hV, ?_, ?_⟩
  · intro n hn
    rw [e]
    exact hlt n (h4 n hn)
  · intro a b m hu hl hg hle
    show jy_le (upd fk c x7 c) _
    rw [e]
    by_cases e' : 3 * (b + 1) + (a + 1) = (k : Int)
    · exact hk a b m hu e' hg hle
    · exact hlt _ (h5 a b m hu (by omega) hg hle)
theorem jy_104 {post : Int32 → SY → Prop} {J : Int32 → Int32 → (Nat → Int32) → (Nat → Int32) → Prop} {k : Nat} {x2 x6 z0 : Int32} {fk : Nat → Int32} {a b : Int}
    (hc : c < 144) (hw : w c = 0) (hS : jy_S w sx sy B far) (hB : B + 14 < 1000000000) (hQ : jy_Q w far sx sy c B k x2 fk)
    (hu : jp_u a b) (hab : 3 * (b + 1) + (a + 1) = (k : Int)) (hG : jc_G (jc_x c + a) (jc_y c + b)) (hx6 : x6 = far (jc_i (jc_x c + a) (jc_y c + b))) (hz : z0.toInt = (jp_c a b : Int))
    (hJ : ∀ x2' fk', jy_Q w far sx sy c B (k + 1) x2' fk' → J x2' (nI (k + 1)) w fk') : wY_lower_104 post J (nI c) x2 (nI k) x6 z0 x6 w fk := by
  have hci := jp_c_in a b
  have hin : vp_in (nI c) 144 := vp_in_nI hc (by decide)
  have hcl : (nI c).toNatClampNeg = c := nI_clamp (by omega)
  have huniq : ∀ a' b' : Int, jp_u a' b' → 3 * (b' + 1) + (a' + 1) = (k : Int) → a' = a ∧ b' = b := by
    intro a' b' h h'
    unfold jp_u at h hu
    omega
  have hq := hS (jc_i (jc_x c + a) (jc_y c + b)) (jc_il hG.1 hG.2.1 hG.2.2.1 hG.2.2.2)
  rw [← hx6] at hq
  intro x7 e7
  rcases hq with hq | ⟨nq, hq, hle, hR⟩
  · refine jt_lt _ _ hq jt_0 (fun _ => ?_) (fun h => absurd h (by decide))
    refine nm_r (nI_1 k) (hJ _ _ (jy_skip hQ ?_))
    intro a' b' m hu' hk' hg' hle'
    obtain ⟨rfl, rfl⟩ := huniq a' b' hu' hk'
    rw [← hx6] at hle'
    unfold jy_le at hle'
    omega
  · refine jt_lt _ _ hq jt_0 (fun h => absurd h (by omega)) (fun _ => ?_)
    have h7 : x7.toInt = (nq : Int) + (jp_c a b : Int) := by
      rw [e7]
      exact jt_add _ _ hq hz (by omega) (by omega) (by omega) (by omega)
    have hR7 : jp_R (jc_F w) sx sy (nq + jp_c a b) (jc_x c) (jc_y c) := by
      rw [jc_xi hG.1 hG.2.1 hG.2.2.1 hG.2.2.2, jc_yi hG.1 hG.2.1 hG.2.2.1 hG.2.2.2] at hR
      have hFc : jc_F w (jc_x c) (jc_y c) := (jc_Fc hc).mpr hw
      have := jp_Rs hR (jp_u_neg hu) (jp_eq2 (P := jc_F w) hFc (by omega) (by omega))
      rw [jp_c_neg] at this
      exact jp_eq2 (P := fun x y => jp_R (jc_F w) sx sy (nq + jp_c a b) x y) this (by omega) (by omega)
    have hcur : ∀ (a' b' : Int) (m : Nat), jp_u a' b' → 3 * (b' + 1) + (a' + 1) = (k : Int) → jc_G (jc_x c + a') (jc_y c + b') → jy_le (far (jc_i (jc_x c + a') (jc_y c + b'))) m → jy_le x7 (m + jp_c a' b') := by
      intro a' b' m hu' hk' hg' hle'
      obtain ⟨rfl, rfl⟩ := huniq a' b' hu' hk'
      rw [← hx6] at hle'
      unfold jy_le at hle' ⊢
      omega
    have hV7 : jy_V w sx sy (B + 14) x7 c := Or.inr ⟨nq + jp_c a b, by omega, by omega, hR7⟩
    have hst : (∀ n : Nat, jy_le (fk c) n → jy_le x7 n) → wY_lower_132 post J (nI c) (nI k) x7 w fk := by
      intro hlt
      refine ⟨hin, ?_⟩
      rw [hcl]
      refine nm_e (nm_r (nI_1 k) ?_)
      exact hJ _ _ (jy_store hQ hV7 hlt hcur)
    refine ⟨hin, ?_⟩
    rw [hcl]
    refine jt_lt (fk c).toInt 0 rfl jt_0 (fun h => hst ?_) (fun h => ?_)
    · intro n hn
      unfold jy_le at hn
      omega
    · refine ⟨hin, jt_le (fk c).toInt _ rfl h7 (fun h2 => ?_) (fun h2 => hst ?_)⟩
      · refine nm_r (nI_1 k) (hJ _ _ (jy_skip hQ ?_))
        intro a' b' m hu' hk' hg' hle'
        have := hcur a' b' m hu' hk' hg' hle'
        unfold jy_le at this ⊢
        omega
      · intro n hn
        unfold jy_le at hn ⊢
        omega
theorem jy_15 {post : Int32 → SY → Prop} (hc : c < 144) (hw : w c = 0) (hS : jy_S w sx sy B far) (hB : B + 14 < 1000000000)
    (hpost : ∀ r f', jy_Q w far sx sy c B 9 r f' → post r (w, f')) :
    ∀ (d k : Nat) (x2 : Int32) (fk : Nat → Int32), k + d = 9 → jy_Q w far sx sy c B k x2 fk → wY_lower_15 post (nI c) (d + 1) x2 (nI k) w fk := by
  intro d
  induction d with
  | zero =>
    intro k x2 fk e hQ
    have e : k = 9 := by omega
    subst e
    refine br_t (show (9 : Int32) ≤ nI 9 by decide) ⟨?_, hpost _ _ hQ⟩
    rcases hQ.2.1 with ⟨h, _⟩ | h
    · rw [h]; exact narrow_b0
    · rw [h]; exact narrow_b1
  | succ d ih =>
    intro k x2 fk e hQ
    have h9 : ¬ (9 : Int32) ≤ nI k := nI_ge (b := 9) (by omega) (by decide)
    have hcx := jc_in hc
    refine br_f h9 ⟨by decide, by decide, fun x4 e4 => ⟨by decide, by decide, fun x5 e5 => ?_⟩⟩
    have e3 : nI k - nI k / 3 * 3 = nI (k % 3) := pk_rem (d := 3) (by omega) (by decide) (by decide)
    have e3' : nI k / 3 = nI (k / 3) := pk_div (d := 3) (by omega) (by decide) (by decide)
    obtain ⟨a, ha⟩ : ∃ a : Int, a = ((k % 3 : Nat) : Int) - 1 := ⟨_, rfl⟩
    obtain ⟨b, hb⟩ : ∃ b : Int, b = ((k / 3 : Nat) : Int) - 1 := ⟨_, rfl⟩
    have hab : 3 * (b + 1) + (a + 1) = (k : Int) := by omega
    have h4 : x4.toInt = jc_x c + a := by
      rw [e4, jt_sub (jc_x c + ((k % 3 : Nat) : Int)) 1 ?_ jt_1 (by omega) (by omega) (by omega) (by omega)]
      · omega
      · rw [e3]
        exact jt_add _ _ (jt_12 hc) (jt_n (by omega)) (by omega) (by omega) (by omega) (by omega)
    have h5 : x5.toInt = jc_y c + b := by
      rw [e5, jt_sub (jc_y c + ((k / 3 : Nat) : Int)) 1 ?_ jt_1 (by omega) (by omega) (by omega) (by omega)]
      · omega
      · rw [e3']
        exact jt_add _ _ (jt_d12 hc) (jt_n (by omega)) (by omega) (by omega) (by omega) (by omega)
    have huniq : ∀ a' b' : Int, jp_u a' b' → 3 * (b' + 1) + (a' + 1) = (k : Int) → a' = a ∧ b' = b := by
      intro a' b' h h'
      unfold jp_u at h
      omega
    have hno : ¬ (k ≠ 4 ∧ jc_G (jc_x c + a) (jc_y c + b)) → ∀ x3 : Int32, x3 = nI k + 1 → wY_lower_15 post (nI c) (d + 1) x2 x3 w fk := by
      intro hn
      refine nm_r (nI_1 k) (ih (k + 1) x2 fk (by omega) (jy_skip hQ ?_))
      intro a' b' m hu' hk' hg' _
      obtain ⟨rfl, rfl⟩ := huniq a' b' hu' hk'
      refine absurd ⟨?_, hg'⟩ hn
      unfold jp_u at hu'
      omega
    refine pk_eq k 4 (fun h => hno (fun z => z.1 h)) (fun hk4 => ?_)
    refine jt_lt _ _ h4 jt_0 (fun h => hno (fun z => by have := z.2.1; omega)) (fun g1 => ?_)
    refine jt_lt _ _ jt_11 h4 (fun h => hno (fun z => by have := z.2.2.1; omega)) (fun g2 => ?_)
    refine jt_lt _ _ h5 jt_0 (fun h => hno (fun z => by have := z.2.2.2.1; omega)) (fun g3 => ?_)
    refine jt_lt _ _ jt_11 h5 (fun h => hno (fun z => by have := z.2.2.2.2; omega)) (fun g4 => ?_)
    have hG : jc_G (jc_x c + a) (jc_y c + b) := ⟨g1, by omega, g3, by omega⟩
    have hl := jc_il hG.1 hG.2.1 hG.2.2.1 hG.2.2.2
    have hu : jp_u a b := by
      unfold jp_u
      omega
    have hix := jt_ix h4 h5 hG.1 hG.2.1 hG.2.2.1 hG.2.2.2
    have hne : jc_i (jc_x c + a) (jc_y c + b) ≠ c := by
      intro hq
      have e1 := jc_xi hG.1 hG.2.1 hG.2.2.1 hG.2.2.2
      have e2 := jc_yi hG.1 hG.2.1 hG.2.2.1 hG.2.2.2
      rw [hq] at e1 e2
      unfold jp_u at hu
      omega
    rw [hix, nI_clamp (show jc_i (jc_x c + a) (jc_y c + b) < 2 ^ 31 by omega)]
    refine ⟨vp_in_nI hl (by decide), fun x6 e6 => ⟨by decide, ?_⟩⟩
    have e6 : x6 = far (jc_i (jc_x c + a) (jc_y c + b)) := e6.trans (hQ.1 _ hne)
    have e2 : nI k - nI k / 2 * 2 = nI (k % 2) := pk_rem (d := 2) (by omega) (by decide) (by decide)
    rw [e2]
    refine pk_eq (k % 2) 0 (fun hk2 => ?_) (fun hk2 => ?_)
    · refine jy_104 hc hw hS hB hQ hu hab hG e6 ?_ (fun x2' fk' hQ' => ih (k + 1) x2' fk' (by omega) hQ')
      rw [jp_c14 (by omega) (by omega)]
      decide
    · refine jy_104 hc hw hS hB hQ hu hab hG e6 ?_ (fun x2' fk' hQ' => ih (k + 1) x2' fk' (by omega) hQ')
      rw [jp_c10 (by omega)]
      decide
theorem jy_lower {post : Int32 → SY → Prop} (hc : c < 144) (hS : jy_S w sx sy B far) (hB : B + 14 < 1000000000)
    (hpost : w c = 0 → ∀ r f', jy_Q w far sx sy c B 9 r f' → post r (w, f')) (hwall : w c ≠ 0 → post 0 (w, far)) : wpY_lower post (w, far) (nI c) := by
  have hcl : (nI c).toNatClampNeg = c := nI_clamp (by omega)
  refine ⟨vp_in_nI hc (by decide), ?_⟩
  rw [hcl]
  refine br_c (fun hw => ?_) (fun hw => hwall hw)
  refine ⟨10, jy_15 hc hw hS hB (hpost hw) 9 0 0 far rfl ⟨fun _ _ => rfl, Or.inl ⟨rfl, rfl⟩, jy_V_mono (hS c hc) (by omega), fun _ h => h, ?_⟩⟩
  intro a b m hu hlt
  exfalso
  unfold jp_u at hu
  omega
end
end
section
/-! ===== the reference: passes and rounds ===== -/
def jy_U (w : Nat → Int32) (sx sy : Int) (far0 : Nat → Int32) (B i : Nat) (x2 : Int32) (far : Nat → Int32) : Prop :=
  (x2 = 0 ∨ x2 = 1) ∧ jy_S w sx sy B far ∧ (∀ c n, jy_le (far0 c) n → jy_le (far c) n) ∧ (x2 = 0 → far = far0) ∧ (∀ c, c < i → w c = 0 → jy_ok far0 far c 9)
def jy_st (w far : Nat → Int32) : Prop := ∀ c, c < 144 → w c = 0 → jy_ok far far c 9
section
variable {w far far0 : Nat → Int32} {sx sy : Int}
theorem jy_S_mono {B B' : Nat} (h : jy_S w sx sy B far) (hB : B ≤ B') : jy_S w sx sy B' far := fun c hc => jy_V_mono (h c hc) hB
theorem jy_Ustep {B i c : Nat} {x2 r : Int32} {f' : Nat → Int32} (hU : jy_U w sx sy far0 B i x2 far) (hQ : jy_Q w far sx sy c B 9 r f') :
    (r = 0 → jy_U w sx sy far0 (B + 14) i x2 f') ∧ (r ≠ 0 → jy_U w sx sy far0 (B + 14) i 1 f') ∧ jy_ok far0 f' c 9 := by
  obtain ⟨u1, u2, u3, u4, u5⟩ := hU
  obtain ⟨q1, q2, q3, q4, q5⟩ := hQ
  have hmono : ∀ j n, jy_le (far j) n → jy_le (f' j) n := by
    intro j n h
    by_cases e : j = c
    · subst e
      exact q4 n h
    · rw [q1 j e]
      exact h
  have hS : jy_S w sx sy (B + 14) f' := by
    intro j hj
    by_cases e : j = c
    · subst e
      exact q3
    · rw [q1 j e]
      exact jy_V_mono (u2 j hj) (by omega)
  have hok : ∀ j, j < i → w j = 0 → jy_ok far0 f' j 9 := fun j hj hw a b m h1 h2 h3 h4 => hmono _ _ (u5 j hj hw a b m h1 h2 h3 h4)
  refine ⟨fun hr => ⟨u1, hS, fun j n h => hmono j n (u3 j n h), ?_, hok⟩, fun _ => ⟨Or.inr rfl, hS, fun j n h => hmono j n (u3 j n h), fun h => absurd h (by decide), hok⟩, ?_⟩
  · intro h2
    rcases q2 with ⟨_, e⟩ | e
    · rw [e]
      exact u4 h2
    · rw [hr] at e
      exact absurd e (by decide)
  · intro a b m h1 h2 h3 h4
    exact q5 a b m h1 h2 h3 (u3 _ _ h4)
theorem jy_Unext {B i : Nat} {x2 : Int32} {f' : Nat → Int32} (hU : jy_U w sx sy far0 B i x2 f') (h : w i = 0 → jy_ok far0 f' i 9) : jy_U w sx sy far0 B (i + 1) x2 f' := by
  obtain ⟨u1, u2, u3, u4, u5⟩ := hU
  refine ⟨u1, u2, u3, u4, ?_⟩
  intro c hc hw
  by_cases e : c = i
  · subst e
    exact h hw
  · exact u5 c (by omega) hw
theorem jy_Uw {B i : Nat} {x2 : Int32} {f' : Nat → Int32} (hU : jy_U w sx sy far0 B i x2 f') : jy_U w sx sy far0 (B + 14) i x2 f' := by
  obtain ⟨u1, u2, u3, u4, u5⟩ := hU
  exact ⟨u1, jy_S_mono u2 (by omega), u3, u4, u5⟩
theorem jy_79 {post : SY → Prop} {J : Int32 → Int32 → (Nat → Int32) → (Nat → Int32) → Prop} {x3 : Int32} {B0 : Nat} (hB : B0 + 14 * 288 + 14 < 1000000000)
    (hJ : ∀ x2 far, jy_U w sx sy far0 (B0 + 14 * 288) 144 x2 far → J x2 (x3 + 1) w far) :
    ∀ (i : Nat) (x2 : Int32) (far : Nat → Int32), i ≤ 144 → jy_U w sx sy far0 (B0 + 14 * (288 - i)) 144 x2 far → wY_search_79 post J x3 (i + 1) x2 (nI i + (-1)) w far := by
  intro i
  induction i with
  | zero =>
    intro x2 far _ hU
    exact br_t (by decide) (nm_e (hJ _ _ hU))
  | succ i ih =>
    intro x2 far hi hU
    rw [pk_m1]
    refine br_f (nI_pos (by omega)) ?_
    have hb : B0 + 14 * (288 - (i + 1)) + 14 = B0 + 14 * (288 - i) := by omega
    refine jy_lower (B := B0 + 14 * (288 - (i + 1))) (by omega) hU.2.1 (by omega) (fun hw r f' hQ => ?_) (fun hw => ?_)
    · obtain ⟨h1, h2, _⟩ := jy_Ustep hU hQ
      rw [hb] at h1 h2
      exact br_c (fun hr => nm_e (ih _ _ (by omega) (h1 hr))) (fun hr => nm_e (ih _ _ (by omega) (h2 hr)))
    · have := jy_Uw hU
      rw [hb] at this
      exact br_t rfl (nm_e (ih _ _ (by omega) this))
theorem jy_49 {post : SY → Prop} {J : Int32 → Int32 → (Nat → Int32) → (Nat → Int32) → Prop} {x3 : Int32} {B0 : Nat} (hB : B0 + 14 * 288 + 14 < 1000000000)
    (hJ : ∀ x2 far, jy_U w sx sy far0 (B0 + 14 * 288) 144 x2 far → J x2 (x3 + 1) w far) :
    ∀ (d i : Nat) (x2 : Int32) (far : Nat → Int32), i + d = 144 → jy_U w sx sy far0 (B0 + 14 * i) i x2 far → wY_search_49 post J x3 (d + 1) x2 (nI i) w far := by
  intro d
  induction d with
  | zero =>
    intro i x2 far e hU
    have e : i = 144 := by omega
    subst e
    refine br_t (by decide) ⟨145, ?_⟩
    exact jy_79 hB hJ 144 x2 far (by omega) hU
  | succ d ih =>
    intro i x2 far e hU
    refine br_f (nI_ge (b := 144) (by omega) (by decide)) ?_
    have hb : B0 + 14 * i + 14 = B0 + 14 * (i + 1) := by omega
    refine jy_lower (B := B0 + 14 * i) (by omega) hU.2.1 (by omega) (fun hw r f' hQ => ?_) (fun hw => ?_)
    · obtain ⟨h1, h2, h3⟩ := jy_Ustep hU hQ
      rw [hb] at h1 h2
      exact br_c (fun hr => nm_r (nI_1 i) (ih _ _ _ (by omega) (jy_Unext (h1 hr) (fun _ => h3)))) (fun hr => nm_r (nI_1 i) (ih _ _ _ (by omega) (jy_Unext (h2 hr) (fun _ => h3))))
    · have := jy_Uw hU
      rw [hb] at this
      exact br_t rfl (nm_r (nI_1 i) (ih _ _ _ (by omega) (jy_Unext this (fun h => absurd h hw))))
end
/-- right for all walks of at most k steps -/
def jy_C (w : Nat → Int32) (sx sy : Int) (k : Nat) (far : Nat → Int32) : Prop := ∀ c, c < 144 → ∀ j, j ≤ k → ∀ n, jp_w (jc_F w) sx sy j n (jc_x c) (jc_y c) → jy_le (far c) n
def jy_W (w : Nat → Int32) (sx sy : Int) (r : Nat) (x2 : Int32) (far : Nat → Int32) : Prop :=
  (x2 = 0 ∨ x2 = 1) ∧ jy_S w sx sy (14 * 288 * r) far ∧ jy_C w sx sy r far ∧ (x2 = 0 → jy_st w far)
section
variable {w far far0 : Nat → Int32} {sx sy : Int}
theorem jy_Cstep {k : Nat} (hs : jc_F w sx sy) (h : jy_C w sx sy k far0) (hm : ∀ c n, jy_le (far0 c) n → jy_le (far c) n) (hok : ∀ c, c < 144 → w c = 0 → jy_ok far0 far c 9) : jy_C w sx sy (k + 1) far := by
  intro c hc j hj n hw
  cases j with
  | zero => exact hm _ _ (h c hc 0 (by omega) n hw)
  | succ j =>
    obtain ⟨hF, a, b, m, hu, hw', e⟩ := hw
    have hFp : jc_F w (jc_x c - a) (jc_y c - b) := jp_RF hs ⟨j, hw'⟩
    have hi := jc_Fl hFp
    have hx := jc_Fx hFp
    have hy := jc_Fy hFp
    have h1 := h _ hi j (by omega) m (by rw [hx, hy]; exact hw')
    have h2 := hok c hc ((jc_Fc hc).mp hF) (-a) (-b) m (jp_u_neg hu) (by unfold jp_u at hu; omega) ⟨by have := hFp.1; omega, by have := hFp.2.1; omega, by have := hFp.2.2.1; omega, by have := hFp.2.2.2.1; omega⟩ h1
    rw [jp_c_neg, ← e] at h2
    exact h2
theorem jy_Call (hs : jc_F w sx sy) {k0 : Nat} (h0 : jy_C w sx sy k0 far) (hst : jy_st w far) : ∀ k, jy_C w sx sy (k0 + k) far := by
  intro k
  induction k with
  | zero => exact h0
  | succ k ih => exact jy_Cstep hs ih (fun _ _ h => h) hst
theorem jy_33 {post : SY → Prop} (hs : jc_F w sx sy) (hpost : ∀ r x2 far, jy_W w sx sy r x2 far → (x2 = 0 ∨ r = 145) → post (w, far)) :
    ∀ (d r : Nat) (x2 : Int32) (far : Nat → Int32), r + d = 145 → jy_W w sx sy r x2 far → wY_search_33 post (d + 1) x2 (nI r) w far := by
  intro d
  induction d with
  | zero =>
    intro r x2 far e hW
    have e : r = 145 := by omega
    subst e
    exact br_t (by decide) (hpost _ _ _ hW (Or.inr rfl))
  | succ d ih =>
    intro r x2 far e hW
    refine br_f (nI_ge (b := 145) (by omega) (by decide)) (br_c (fun h => hpost _ _ _ hW (Or.inl h)) (fun _ => ?_))
    refine ⟨145, ?_⟩
    have hU : jy_U w sx sy far (14 * 288 * r + 14 * 0) 0 0 far := ⟨Or.inl rfl, hW.2.1, fun _ _ h => h, fun _ => rfl, fun c hc => absurd hc (Nat.not_lt_zero c)⟩
    refine jy_49 (B0 := 14 * 288 * r) (by omega) ?_ 144 0 0 far rfl hU
    intro x2' far' hU'
    rw [nI_1]
    refine ih (r + 1) x2' far' (by omega) ⟨hU'.1, ?_, jy_Cstep hs hW.2.2.1 hU'.2.2.1 hU'.2.2.2.2, ?_⟩
    · have := hU'.2.1
      rw [show 14 * 288 * (r + 1) = 14 * 288 * r + 14 * 288 by omega]
      exact this
    · intro h
      have e' := hU'.2.2.2.1 h
      have := hU'.2.2.2.2
      rw [← e'] at this
      exact this
end
theorem jy_fin {w far : Nat → Int32} {f r : Nat} {x2 : Int32} (hf : f < 144) (hw : w f = 0) (hW : jy_W w (jc_x f) (jc_y f) r x2 far) (h : x2 = 0 ∨ r = 145) : ∀ c, c < 144 → far c = jc_A w f c := by
  have hs : jc_F w (jc_x f) (jc_y f) := (jc_Fc hf).mpr hw
  have hC : ∀ c, c < 144 → ∀ n, jp_D (jc_F w) (jc_x f) (jc_y f) n (jc_x c) (jc_y c) → jy_le (far c) n := by
    intro c hc n hD
    obtain ⟨k, hk, hkw⟩ := jc_short hs hD
    rcases h with h | h
    · exact jy_Call hs hW.2.2.1 (hW.2.2.2 h) k c hc k (by omega) n hkw
    · subst h
      exact hW.2.2.1 c hc k (by omega) n hkw
  intro c hc
  rcases hW.2.1 c hc with hv | ⟨n, hv, _, hR⟩
  · rw [jc_A0]
    · exact Int32.toInt_inj.mp (hv.trans jt_m1.symm)
    · rintro ⟨n, hn⟩
      obtain ⟨m, hm, _⟩ := jp_Dex hn
      have := hC c hc m hm
      unfold jy_le at this
      omega
  · obtain ⟨m, hm, hle⟩ := jp_Dex hR
    have h1 := hC c hc m hm
    unfold jy_le at h1
    have e : m = n := by omega
    subst e
    rw [jc_A1 hm]
    have h2 := (far c).toInt_lt
    exact jt_of hv (by omega)
theorem jy_2 {post : SY → Prop} {w : Nat → Int32} {f : Nat} (hf : f < 144) (hw : w f = 0) (hpost : ∀ far, (∀ c, c < 144 → far c = jc_A w f c) → post (w, far)) :
    ∀ (d i : Nat) (far : Nat → Int32), i + d = 144 → (∀ c, c < i → far c = -1) → wY_search_2 post (nI f) (d + 1) (nI i) w far := by
  intro d
  induction d with
  | zero =>
    intro i far e hI
    have e : i = 144 := by omega
    subst e
    refine br_t (by decide) ⟨vp_in_nI hf (by decide), ?_⟩
    rw [nI_clamp (show f < 2 ^ 31 by omega)]
    refine nm_e ⟨146, ?_⟩
    refine jy_33 (sx := jc_x f) (sy := jc_y f) ((jc_Fc hf).mpr hw) (fun r x2 far hW h => hpost far (jy_fin hf hw hW h)) 145 0 1 (upd far f 0) rfl ⟨Or.inr rfl, ?_, ?_, fun h => absurd h (by decide)⟩
    · intro c hc
      by_cases e : c = f
      · subst e
        rw [pk_us]
        exact Or.inr ⟨0, by decide, by omega, jp_R0⟩
      · rw [pk_un e, hI c hc]
        exact Or.inl (by decide)
    · intro c hc j hj n hn
      have e : j = 0 := by omega
      subst e
      obtain ⟨en, ex, ey⟩ := hn
      have e : c = f := by
        rw [← jc_ic hc, ← jc_ic hf, ex, ey]
      subst e
      rw [pk_us, en]
      exact ⟨by decide, by decide⟩
  | succ d ih =>
    intro i far e hI
    refine br_f (nI_ge (b := 144) (by omega) (by decide)) ⟨vp_in_nI (by omega) (by decide), ?_⟩
    rw [nI_clamp (show i < 2 ^ 31 by omega)]
    refine nm_e (nm_r (nI_1 i) (ih (i + 1) _ (by omega) ?_))
    intro c hc
    by_cases e : c = i
    · subst e
      exact pk_us
    · rw [pk_un e]
      exact hI c (by omega)
theorem jy_search {post : SY → Prop} {w far : Nat → Int32} {f : Nat} (hf : f < 144) (hw : w f = 0) (hpost : ∀ far, (∀ c, c < 144 → far c = jc_A w f c) → post (w, far)) : wpY_search post (w, far) (nI f) :=
  ⟨145, jy_2 hf hw hpost 144 0 far rfl (fun c hc => absurd hc (Nat.not_lt_zero c))⟩
end
section
/-! ===== the component: free cells beside, direction sets, forced directions ===== -/
def jx_ib (a b : Int) : Nat := (3 * (b + 1) + (a + 1)).toNat
def jx_r (a : Int) : Prop := -1 ≤ a ∧ a ≤ 1
def jx_set (s : Nat) (Q : Int → Int → Prop) : Prop := (s < 512 ∧ s.testBit 4 = false) ∧ ∀ e f, jp_u e f → (s.testBit (jx_ib e f) = true ↔ Q e f)
theorem jx_or (a b : Nat) : nI a ||| nI b = nI (a ||| b) := by
  apply Int32.toBitVec_inj.1
  show BitVec.ofNat 32 a ||| BitVec.ofNat 32 b = BitVec.ofNat 32 (a ||| b)
  apply BitVec.eq_of_getLsbD_eq
  intro i hi
  simp [hi]
theorem jx_r3 {p : Int32} {a : Int} (h : p.toInt = a) (hr : jx_r a) : (p = -1 ∧ a = -1) ∨ (p = 0 ∧ a = 0) ∨ (p = 1 ∧ a = 1) := by
  unfold jx_r at hr
  have h3 : a = -1 ∨ a = 0 ∨ a = 1 := by omega
  rcases h3 with e | e | e
  · exact Or.inl ⟨Int32.toInt_inj.mp (by rw [h, e, jt_m1]), e⟩
  · exact Or.inr (Or.inl ⟨Int32.toInt_inj.mp (by rw [h, e, jt_0]), e⟩)
  · exact Or.inr (Or.inr ⟨Int32.toInt_inj.mp (by rw [h, e, jt_1]), e⟩)
theorem jx_bitv {p0 p1 : Int32} {a b : Int} (h1 : p0.toInt = a) (h2 : p1.toInt = b) (ha : jx_r a) (hb : jx_r b) : (1 : Int32) <<< ((((3 * (p1 + 1)) + p0) + 1) &&& 31) = nI (2 ^ jx_ib a b) := by
  rcases jx_r3 h1 ha with ⟨rfl, rfl⟩ | ⟨rfl, rfl⟩ | ⟨rfl, rfl⟩ <;> rcases jx_r3 h2 hb with ⟨rfl, rfl⟩ | ⟨rfl, rfl⟩ | ⟨rfl, rfl⟩ <;> decide
theorem jx_set0 : jx_set 0 (fun _ _ => False) := ⟨⟨by decide, by decide⟩, fun e f _ => by simp⟩
theorem jx_set1 {e0 f0 : Int} (hu0 : jp_u e0 f0) : jx_set (2 ^ jx_ib e0 f0) (fun e f => e = e0 ∧ f = f0) := by
  unfold jp_u at hu0
  have h9 : jx_ib e0 f0 < 9 := by
    unfold jx_ib
    omega
  refine ⟨⟨Nat.lt_of_lt_of_le (Nat.pow_lt_pow_right (by decide) h9) (by decide), ?_⟩, ?_⟩
  · rw [Nat.testBit_two_pow, decide_eq_false_iff_not]
    unfold jx_ib
    omega
  intro e f hu
  rw [Nat.testBit_two_pow, decide_eq_true_iff]
  unfold jx_ib
  unfold jp_u at hu
  omega
theorem jx_setor {s t : Nat} {Q R : Int → Int → Prop} (h : jx_set s Q) (h' : jx_set t R) : jx_set (s ||| t) (fun e f => Q e f ∨ R e f) := by
  refine ⟨⟨Nat.or_lt_two_pow (n := 9) h.1.1 h'.1.1, by rw [Nat.testBit_or, h.1.2, h'.1.2]; rfl⟩, ?_⟩
  intro e f hu
  rw [Nat.testBit_or, Bool.or_eq_true, h.2 e f hu, h'.2 e f hu]
theorem jx_setc {s : Nat} {Q R : Int → Int → Prop} (h : jx_set s Q) (e : ∀ e f, jp_u e f → (Q e f ↔ R e f)) : jx_set s R :=
  ⟨h.1, fun a b hu => (h.2 a b hu).trans (e a b hu)⟩
theorem jx_setT {s : Nat} {Q : Int → Int → Prop} {C : Prop} {e0 f0 : Int} (h : jx_set s Q) (hu0 : jp_u e0 f0) (hC : C) : jx_set (s ||| 2 ^ jx_ib e0 f0) (fun e f => Q e f ∨ (e = e0 ∧ f = f0 ∧ C)) :=
  jx_setc (jx_setor h (jx_set1 hu0)) (fun e f _ => ⟨fun z => z.elim Or.inl (fun q => Or.inr ⟨q.1, q.2, hC⟩), fun z => z.elim Or.inl (fun q => Or.inr ⟨q.1, q.2.1⟩)⟩)
theorem jx_setN {s : Nat} {Q : Int → Int → Prop} {C : Prop} {e0 f0 : Int} (h : jx_set s Q) (hC : ¬ C) : jx_set s (fun e f => Q e f ∨ (e = e0 ∧ f = f0 ∧ C)) :=
  jx_setc h (fun e f _ => ⟨Or.inl, fun z => z.elim id (fun q => absurd q.2.2 hC)⟩)
theorem jx_set_ne {s : Nat} {Q : Int → Int → Prop} (h : jx_set s Q) (h0 : s ≠ 0) : ∃ e f, jp_u e f ∧ Q e f := by
  apply Classical.byContradiction
  intro hn
  apply h0
  apply Nat.eq_of_testBit_eq
  intro i
  rw [Nat.zero_testBit]
  by_cases h9 : i < 9
  · by_cases h4 : i = 4
    · rw [h4]
      exact h.1.2
    · have hu : jp_u (((i % 3 : Nat) : Int) - 1) (((i / 3 : Nat) : Int) - 1) := by
        unfold jp_u
        omega
      have hi : jx_ib (((i % 3 : Nat) : Int) - 1) (((i / 3 : Nat) : Int) - 1) = i := by
        unfold jx_ib
        omega
      have := h.2 _ _ hu
      rw [hi] at this
      cases hb : s.testBit i with
      | false => rfl
      | true => exact absurd ⟨_, _, hu, this.mp hb⟩ hn
  · exact Nat.testBit_lt_two_pow (Nat.lt_of_lt_of_le h.1.1 (show 2 ^ 9 ≤ 2 ^ i from Nat.pow_le_pow_right (by decide) (by omega)))
section
variable {oc gl ld : Int32} {w len dir mk op : Nat → Int32} {c : Nat}
theorem jx_free {post : Int32 → Prop} {p1 p2 : Int32} {a b : Int} (hc : c < 144) (h1 : p1.toInt = a) (h2 : p2.toInt = b) (ha : jx_r a) (hb : jx_r b)
    (t : jc_F w (jc_x c + a) (jc_y c + b) → post 1) (f : ¬ jc_F w (jc_x c + a) (jc_y c + b) → post 0) : wpX_freeBeside post (oc, gl, ld, w, len, dir, mk, op) (nI c) p1 p2 := by
  unfold jx_r at ha hb
  have hcx := jc_in hc
  refine ⟨by decide, fun x4 e4 => ⟨by decide, fun x5 e5 => ?_⟩⟩
  have h4 : x4.toInt = jc_x c + a := by
    rw [e4]
    exact jt_add _ _ (jt_12 hc) h1 (by omega) (by omega) (by omega) (by omega)
  have h5 : x5.toInt = jc_y c + b := by
    rw [e5]
    exact jt_add _ _ (jt_d12 hc) h2 (by omega) (by omega) (by omega) (by omega)
  refine jt_lt _ _ h4 jt_0 (fun h => f (fun z => by have := z.1; omega)) (fun g1 => ?_)
  refine jt_le _ _ jt_l12 h4 (fun h => f (fun z => by have := z.2.1; omega)) (fun g2 => ?_)
  refine jt_lt _ _ h5 jt_0 (fun h => f (fun z => by have := z.2.2.1; omega)) (fun g3 => ?_)
  refine jt_le _ _ jt_l12 h5 (fun h => f (fun z => by have := z.2.2.2.1; omega)) (fun g4 => ?_)
  have hl := jc_il g1 g2 g3 g4
  rw [jt_ix h4 h5 g1 g2 g3 g4, nI_clamp (show jc_i (jc_x c + a) (jc_y c + b) < 2 ^ 31 by omega)]
  exact ⟨vp_in_nI hl (by decide), br_c (fun h => t ⟨g1, g2, g3, g4, h⟩) (fun h => f (fun z => h z.2.2.2.2))⟩
theorem jx_wall {post : Int32 → Prop} {p1 p2 : Int32} {a b : Int} (hc : c < 144) (h1 : p1.toInt = a) (h2 : p2.toInt = b) (ha : jx_r a) (hb : jx_r b)
    (t : jc_F w (jc_x c + a) (jc_y c + b) → post 0) (f : ¬ jc_F w (jc_x c + a) (jc_y c + b) → post 1) : wpX_wallBeside post (oc, gl, ld, w, len, dir, mk, op) (nI c) p1 p2 := by
  unfold wpX_wallBeside
  exact jx_free hc h1 h2 ha hb (fun h => br_f (by decide) (t h)) (fun h => br_t rfl (f h))
theorem jx_bit {post : Int32 → Prop} {p0 p1 : Int32} {a b : Int} (h1 : p0.toInt = a) (h2 : p1.toInt = b) (ha : jx_r a) (hb : jx_r b)
    (h : post (nI (2 ^ jx_ib a b))) : wpX_bitOf post (oc, gl, ld, w, len, dir, mk, op) p0 p1 := by
  unfold wpX_bitOf
  dsimp only
  rw [jx_bitv h1 h2 ha hb]
  exact h
theorem jx_113 {post : Int32 → Prop} {J : Int32 → Int32 → Prop} {p1 p2 x5 x6 z0 : Int32} {a b g h : Int} {s : Nat} {Q : Int → Int → Prop} (hc : c < 144) (h1 : p1.toInt = a) (h2 : p2.toInt = b) (ha : jx_r a) (hb : jx_r b)
    (h6 : x6.toInt = g) (h0 : z0.toInt = h) (hg : jx_r g) (hh : jx_r h) (huu : jp_u (a + g) (b + h)) (hs : jx_set s Q)
    (hJ : ∀ s', jx_set s' (fun e f => Q e f ∨ (e = a + g ∧ f = b + h ∧ (¬ jc_F w (jc_x c + g) (jc_y c + h) ∧ jc_F w (jc_x c + (a + g)) (jc_y c + (b + h))))) → J (nI s') (x5 + 2)) :
    wX_forced_113 post J (nI c) p1 p2 (nI s) x5 x6 z0 oc gl ld w len dir mk op := by
  unfold wX_forced_113
  have hag : jx_r (a + g) := ⟨huu.1, huu.2.1⟩
  have hbh : jx_r (b + h) := ⟨huu.2.2.1, huu.2.2.2.1⟩
  have h16 : (p1 + x6).toInt = a + g := by
    unfold jx_r at *
    exact jt_add _ _ h1 h6 (by omega) (by omega) (by omega) (by omega)
  have h20 : (p2 + z0).toInt = b + h := by
    unfold jx_r at *
    exact jt_add _ _ h2 h0 (by omega) (by omega) (by omega) (by omega)
  refine jx_wall hc h6 h0 hg hh (fun hF => br_t rfl (nm_e (hJ _ (jx_setN hs (fun z => z.1 hF))))) (fun hF => br_f (by decide) ?_)
  refine jx_free hc h16 h20 hag hbh (fun hF2 => br_f (by decide) ?_) (fun hF2 => br_t rfl (nm_e (hJ _ (jx_setN hs (fun z => hF2 z.2)))))
  refine jx_bit h16 h20 hag hbh ?_
  exact nm_r (jx_or _ _) (nm_e (hJ _ (jx_setT hs huu ⟨hF, hF2⟩)))
theorem jx_45 {post : Int32 → Prop} {p1 p2 : Int32} {a b : Int} {s : Nat} {Q : Int → Int → Prop} (hc : c < 144) (h1 : p1.toInt = a) (h2 : p2.toInt = b) (ha : jx_r a) (hb : jx_r b) (hab : jp_u a (-b)) (hs : jx_set s Q)
    (hJ : ∀ s', jx_set s' (fun e f => Q e f ∨ (e = a ∧ f = -b ∧ (¬ jc_F w (jc_x c + 0) (jc_y c + -b) ∧ jc_F w (jc_x c + a) (jc_y c + -b)))) → post (nI s')) :
    wX_forced_45 post (nI c) p1 p2 (nI s) oc gl ld w len dir mk op := by
  unfold wX_forced_45
  have hb' : jx_r (-b) := by
    unfold jx_r at *
    omega
  have h2' : (-p2).toInt = -b := by
    unfold jx_r at *
    exact jt_neg _ h2 (by omega) (by omega)
  have r0 : jx_r 0 := by
    unfold jx_r
    omega
  refine jx_wall hc jt_0 h2' r0 hb' (fun hF => br_t rfl (hJ _ (jx_setN hs (fun z => z.1 hF)))) (fun hF => br_f (by decide) ?_)
  refine jx_free hc h1 h2' ha hb' (fun hF2 => br_f (by decide) ?_) (fun hF2 => br_t rfl (hJ _ (jx_setN hs (fun z => hF2 z.2))))
  refine jx_bit h1 h2' ha hb' ?_
  exact nm_r (jx_or _ _) (hJ _ (jx_setT hs hab ⟨hF, hF2⟩))
theorem jx_85x {post : Int32 → Prop} {p1 p2 : Int32} {a b : Int} (hc : c < 144) (h1 : p1.toInt = a) (h2 : p2.toInt = b) (ha : a = 0) (hb : jx_r b) (hb0 : b ≠ 0)
    (hpost : ∀ s, jx_set s (jp_fo (jc_F w) (jc_x c) (jc_y c) a b) → post (nI s)) : ∃ n, wX_forced_85 post (nI c) p1 p2 oc gl ld w len dir mk op n 0 (-1) := by
  have r0 : jx_r 0 := by
    unfold jx_r
    omega
  have r1 : jx_r 1 := by
    unfold jx_r
    omega
  have rm : jx_r (-1) := by
    unfold jx_r
    omega
  have e1 : p1 = 0 := Int32.toInt_inj.mp (by rw [h1, ha, jt_0])
  have e2 : ¬ p2 = 0 := fun z => hb0 (by rw [← h2, z, jt_0])
  subst ha
  refine ⟨3, br_f (by decide) (br_t e1 (br_f e2 ?_))⟩
  refine jx_113 (a := 0) (b := b) (g := -1) (h := 0) hc h1 h2 r0 hb jt_m1 jt_0 rm r0 (by unfold jx_r at hb; unfold jp_u; omega) jx_set0 (fun s hs => ?_)
  rw [show (-1 : Int32) + 2 = 1 by decide]
  refine br_f (by decide) (br_t e1 (br_f e2 ?_))
  refine jx_113 (a := 0) (b := b) (g := 1) (h := 0) hc h1 h2 r0 hb jt_1 jt_0 r1 r0 (by unfold jx_r at hb; unfold jp_u; omega) hs (fun s hs => ?_)
  rw [show (1 : Int32) + 2 = 3 by decide]
  refine br_t (by decide) (hpost s (jx_setc hs ?_))
  intro e f _
  simp only [Int.zero_add, Int.add_zero]
  unfold jp_fo
  constructor
  · rintro ((h | ⟨rfl, rfl, h3, h4⟩) | ⟨rfl, rfl, h3, h4⟩)
    · exact h.elim
    · exact Or.inr (Or.inl ⟨rfl, hb0, rfl, Or.inl rfl, h3, h4⟩)
    · exact Or.inr (Or.inl ⟨rfl, hb0, rfl, Or.inr rfl, h3, h4⟩)
  · rintro (h | ⟨_, _, rfl, h5, h3, h4⟩ | h)
    · exact absurd rfl h.1
    · rcases h5 with rfl | rfl
      · exact Or.inl (Or.inr ⟨rfl, rfl, h3, h4⟩)
      · exact Or.inr ⟨rfl, rfl, h3, h4⟩
    · exact absurd rfl h.1
theorem jx_85y {post : Int32 → Prop} {p1 p2 : Int32} {a b : Int} (hc : c < 144) (h1 : p1.toInt = a) (h2 : p2.toInt = b) (hb : b = 0) (ha : jx_r a) (ha0 : a ≠ 0)
    (hpost : ∀ s, jx_set s (jp_fo (jc_F w) (jc_x c) (jc_y c) a b) → post (nI s)) : ∃ n, wX_forced_85 post (nI c) p1 p2 oc gl ld w len dir mk op n 0 (-1) := by
  have r0 : jx_r 0 := by
    unfold jx_r
    omega
  have r1 : jx_r 1 := by
    unfold jx_r
    omega
  have rm : jx_r (-1) := by
    unfold jx_r
    omega
  have e2 : p2 = 0 := Int32.toInt_inj.mp (by rw [h2, hb, jt_0])
  have e1 : ¬ p1 = 0 := fun z => ha0 (by rw [← h1, z, jt_0])
  subst hb
  refine ⟨3, br_f (by decide) (br_f e1 (br_t e2 ?_))⟩
  refine jx_113 (a := a) (b := 0) (g := 0) (h := -1) hc h1 h2 ha r0 jt_0 jt_m1 r0 rm (by unfold jx_r at ha; unfold jp_u; omega) jx_set0 (fun s hs => ?_)
  rw [show (-1 : Int32) + 2 = 1 by decide]
  refine br_f (by decide) (br_f e1 (br_t e2 ?_))
  refine jx_113 (a := a) (b := 0) (g := 0) (h := 1) hc h1 h2 ha r0 jt_0 jt_1 r0 r1 (by unfold jx_r at ha; unfold jp_u; omega) hs (fun s hs => ?_)
  rw [show (1 : Int32) + 2 = 3 by decide]
  refine br_t (by decide) (hpost s (jx_setc hs ?_))
  intro e f _
  simp only [Int.zero_add, Int.add_zero]
  unfold jp_fo
  constructor
  · rintro ((h | ⟨rfl, rfl, h3, h4⟩) | ⟨rfl, rfl, h3, h4⟩)
    · exact h.elim
    · exact Or.inr (Or.inr ⟨ha0, rfl, rfl, Or.inl rfl, h3, h4⟩)
    · exact Or.inr (Or.inr ⟨ha0, rfl, rfl, Or.inr rfl, h3, h4⟩)
  · rintro (h | h | ⟨_, _, rfl, h5, h3, h4⟩)
    · exact absurd rfl h.2.1
    · exact absurd rfl h.2.1
    · rcases h5 with rfl | rfl
      · exact Or.inl (Or.inr ⟨rfl, rfl, h3, h4⟩)
      · exact Or.inr ⟨rfl, rfl, h3, h4⟩
theorem jx_forced {post : Int32 → Prop} {p1 p2 : Int32} {a b : Int} (hc : c < 144) (h1 : p1.toInt = a) (h2 : p2.toInt = b) (hu : jp_u a b)
    (hpost : ∀ s, jx_set s (jp_fo (jc_F w) (jc_x c) (jc_y c) a b) → post (nI s)) : wpX_forced post (oc, gl, ld, w, len, dir, mk, op) (nI c) p1 p2 := by
  have r0 : jx_r 0 := by
    unfold jx_r
    omega
  have ha : jx_r a := ⟨hu.1, hu.2.1⟩
  have hb : jx_r b := ⟨hu.2.2.1, hu.2.2.2.1⟩
  have ha' : jx_r (-a) := by
    unfold jx_r at *
    omega
  have h1' : (-p1).toInt = -a := by
    unfold jx_r at *
    exact jt_neg _ h1 (by omega) (by omega)
  refine jt_eq _ _ h1 jt_0 (fun h => jx_85x hc h1 h2 h hb (fun z => hu.2.2.2.2 ⟨h, z⟩) hpost) (fun ha0 => ?_)
  refine jt_eq _ _ h2 jt_0 (fun h => jx_85y hc h1 h2 h ha ha0 hpost) (fun hb0 => ?_)
  have hfin : ∀ s, jx_set s (fun e f => False ∨ (e = -a ∧ f = b ∧ (¬ jc_F w (jc_x c + -a) (jc_y c + 0) ∧ jc_F w (jc_x c + -a) (jc_y c + b)))) → wX_forced_45 post (nI c) p1 p2 (nI s) oc gl ld w len dir mk op := by
    intro s hs
    refine jx_45 hc h1 h2 ha hb (by unfold jp_u at *; omega) hs (fun s' hs' => hpost s' (jx_setc hs' ?_))
    intro e f _
    simp only [Int.add_zero, Int.add_neg_eq_sub, false_or]
    unfold jp_fo
    constructor
    · rintro (⟨rfl, rfl, h3, h4⟩ | ⟨rfl, rfl, h3, h4⟩)
      · exact Or.inl ⟨ha0, hb0, Or.inl ⟨rfl, rfl, h3, h4⟩⟩
      · exact Or.inl ⟨ha0, hb0, Or.inr ⟨rfl, rfl, h3, h4⟩⟩
    · rintro (⟨_, _, h⟩ | h | h)
      · exact h
      · exact absurd h.1 ha0
      · exact absurd h.2.1 hb0
  refine jx_wall hc h1' jt_0 ha' r0 (fun hF => br_t rfl (hfin 0 (jx_setN jx_set0 (fun z => z.1 hF)))) (fun hF => br_f (by decide) ?_)
  refine jx_free hc h1' h2 ha' hb (fun hF2 => br_f (by decide) ?_) (fun hF2 => br_t rfl (hfin 0 (jx_setN jx_set0 (fun z => hF2 z.2))))
  refine jx_bit h1' h2 ha' hb ?_
  exact nm_r (jx_or 0 _) (hfin _ (jx_setT jx_set0 (by unfold jp_u at *; omega) ⟨hF, hF2⟩))
end
end
section
/-! ===== the component: jumps ===== -/
theorem jx_d12 {p1 p2 : Int32} {a b : Int} (h1 : p1.toInt = a) (h2 : p2.toInt = b) (ha : jx_r a) (hb : jx_r b) : (12 * p2 + p1).toInt = 12 * b + a := by
  rcases jx_r3 h1 ha with ⟨rfl, rfl⟩ | ⟨rfl, rfl⟩ | ⟨rfl, rfl⟩ <;> rcases jx_r3 h2 hb with ⟨rfl, rfl⟩ | ⟨rfl, rfl⟩ | ⟨rfl, rfl⟩ <;> decide
theorem jx_mv {p1 p2 : Int32} {a b X Y : Int} (h1 : p1.toInt = a) (h2 : p2.toInt = b) (ha : jx_r a) (hb : jx_r b) (hG : jc_G X Y) (hG' : jc_G (X + a) (Y + b)) :
    nI (jc_i X Y) + (12 * p2 + p1) = nI (jc_i (X + a) (Y + b)) := by
  have hd := jx_d12 h1 h2 ha hb
  unfold jc_G jx_r at *
  have hl : jc_i X Y < 144 := jc_il hG.1 hG.2.1 hG.2.2.1 hG.2.2.2
  have hl' : jc_i (X + a) (Y + b) < 144 := jc_il hG'.1 hG'.2.1 hG'.2.2.1 hG'.2.2.2
  refine jt_of ?_ (by omega)
  rw [jt_add _ _ (jt_n (show jc_i X Y < 2 ^ 31 by omega)) hd (by omega) (by omega) (by omega) (by omega)]
  unfold jc_i
  omega
theorem jx_sc (t : Nat) (a : Int) : (((t + 1 : Nat) : Int)) * a = (t : Int) * a + a := by
  rw [Int.natCast_add, Int.add_mul, Int.natCast_one, Int.one_mul]
theorem jx_ieq {x y : Int} {g : Nat} (hG : jc_G x y) (hg : g < 144) : jc_i x y = g ↔ (x = jc_x g ∧ y = jc_y g) := by
  constructor
  · intro e
    subst e
    exact ⟨(jc_xi hG.1 hG.2.1 hG.2.2.1 hG.2.2.2).symm, (jc_yi hG.1 hG.2.1 hG.2.2.1 hG.2.2.2).symm⟩
  · rintro ⟨rfl, rfl⟩
    exact jc_ic hg
/-- a ray of t steps that has not stopped -/
def jx_ray (F : Int → Int → Prop) (St : Int → Int → Prop) (x y a b : Int) (t : Nat) : Prop := ∀ i : Nat, 0 < i → i ≤ t → F (x + i * a) (y + i * b) ∧ ¬ St (x + i * a) (y + i * b)
section
variable {F St : Int → Int → Prop} {x y a b : Int} {t : Nat}
theorem jx_ray0 : jx_ray F St x y a b 0 := fun i h h' => absurd h (by omega)
theorem jx_rayS (h : jx_ray F St x y a b t) (hF : F (x + ((t + 1 : Nat) : Int) * a) (y + ((t + 1 : Nat) : Int) * b)) (hS : ¬ St (x + ((t + 1 : Nat) : Int) * a) (y + ((t + 1 : Nat) : Int) * b)) : jx_ray F St x y a b (t + 1) := by
  intro i h0 h1
  by_cases e : i = t + 1
  · subst e
    exact ⟨hF, hS⟩
  · exact h i h0 (by omega)
theorem jx_rayJ (h : jx_ray F St x y a b t) (hF : F (x + ((t + 1 : Nat) : Int) * a) (y + ((t + 1 : Nat) : Int) * b)) (hS : St (x + ((t + 1 : Nat) : Int) * a) (y + ((t + 1 : Nat) : Int) * b)) : jp_J F St x y a b (t + 1) := by
  refine ⟨by omega, ?_, fun i h0 h1 => (h i h0 (by omega)).2, hS⟩
  intro i h0 h1
  by_cases e : i = t + 1
  · subst e
    exact hF
  · exact (h i h0 (by omega)).1
theorem jx_rayN (h : jx_ray F St x y a b t) (hF : ¬ F (x + ((t + 1 : Nat) : Int) * a) (y + ((t + 1 : Nat) : Int) * b)) : ∀ k, ¬ jp_J F St x y a b k := by
  intro k hJ
  by_cases hk : k ≤ t
  · exact (h k hJ.1 hk).2 hJ.2.2.2
  · exact hF (hJ.2.1 (t + 1) (by omega) (by omega))
end
section
variable {oc ld : Int32} {w len dir mk op : Nat → Int32} {c g : Nat}
theorem jx_js11 {post : Int32 → SX → Prop} {p1 p2 : Int32} {a b : Int} (hc : c < 144) (hg : g < 144) (h1 : p1.toInt = a) (h2 : p2.toInt = b) (hu : jp_u a b)
    (hstop : ∀ k, k ≤ 12 → jp_J (jc_F w) (jp_S (jc_F w) (jc_x g) (jc_y g) a b) (jc_x c) (jc_y c) a b k → post (nI k) (oc, nI g, nI (jc_i (jc_x c + k * a) (jc_y c + k * b)), w, len, dir, mk, op))
    (hnone : (∀ k, ¬ jp_J (jc_F w) (jp_S (jc_F w) (jc_x g) (jc_y g) a b) (jc_x c) (jc_y c) a b k) → post 0 (oc, nI g, ld, w, len, dir, mk, op)) :
    ∀ (d t : Nat), t + d = 12 → jx_ray (jc_F w) (jp_S (jc_F w) (jc_x g) (jc_y g) a b) (jc_x c) (jc_y c) a b t → jc_G (jc_x c + t * a) (jc_y c + t * b) →
      wX_jumpStraight_11 post p1 p2 oc (nI g) ld w len dir mk op (d + 1) (nI (jc_i (jc_x c + t * a) (jc_y c + t * b))) (nI t) := by
  have ha : jx_r a := ⟨hu.1, hu.2.1⟩
  have hb : jx_r b := ⟨hu.2.2.1, hu.2.2.2.1⟩
  have hcx := jc_in hc
  intro d
  induction d with
  | zero =>
    intro t e _ hG
    exfalso
    have e : t = 12 := by omega
    subst e
    unfold jc_G at hG
    unfold jp_u at hu
    omega
  | succ d ih =>
    intro t e hR hG
    have hl := jc_il hG.1 hG.2.1 hG.2.2.1 hG.2.2.2
    have ex := jc_xi hG.1 hG.2.1 hG.2.2.1 hG.2.2.2
    have ey := jc_yi hG.1 hG.2.1 hG.2.2.1 hG.2.2.2
    have sx1 : jc_x c + (((t + 1 : Nat) : Int)) * a = jc_x c + t * a + a := by rw [jx_sc, Int.add_assoc]
    have sy1 : jc_y c + (((t + 1 : Nat) : Int)) * b = jc_y c + t * b + b := by rw [jx_sc, Int.add_assoc]
    unfold wX_jumpStraight_11
    refine jx_free hl h1 h2 ha hb (fun hF => br_f (by decide) ?_) (fun hF => br_t rfl (hnone (jx_rayN hR ?_)))
    · rw [ex, ey] at hF
      have hG' : jc_G (jc_x c + t * a + a) (jc_y c + t * b + b) := ⟨hF.1, hF.2.1, hF.2.2.1, hF.2.2.2.1⟩
      have hl' := jc_il hG'.1 hG'.2.1 hG'.2.2.1 hG'.2.2.2
      refine nm_r (jx_mv h1 h2 ha hb hG hG') (nm_r (nI_1 t) ?_)
      rw [← sx1, ← sy1] at hF hG' hl' ⊢
      refine pk_eq (jc_i (jc_x c + (((t + 1 : Nat) : Int)) * a) (jc_y c + (((t + 1 : Nat) : Int)) * b)) g (fun hgo => hstop (t + 1) (by omega) (jx_rayJ hR hF (Or.inl ((jx_ieq hG' hg).mp hgo)))) (fun hgo => ?_)
      refine jx_forced hl' h1 h2 hu (fun s hs => ?_)
      rw [jc_xi hG'.1 hG'.2.1 hG'.2.2.1 hG'.2.2.2, jc_yi hG'.1 hG'.2.1 hG'.2.2.1 hG'.2.2.2] at hs
      have hsl := hs.1.1
      refine pk_eq s 0 (fun h0 => ?_) (fun h0 => hstop (t + 1) (by omega) (jx_rayJ hR hF (Or.inr (jx_set_ne hs h0))))
      refine ih (t + 1) (by omega) (jx_rayS hR hF ?_) hG'
      rintro (h | ⟨e, f, hu', hfo⟩)
      · exact hgo ((jx_ieq hG' hg).mpr h)
      · have := (hs.2 e f hu').mpr hfo
        rw [h0, Nat.zero_testBit] at this
        exact absurd this (by decide)
    · rw [sx1, sy1]
      rw [ex, ey] at hF
      exact hF
theorem jx_js {post : Int32 → SX → Prop} {p1 p2 : Int32} {a b : Int} (hc : c < 144) (hg : g < 144) (h1 : p1.toInt = a) (h2 : p2.toInt = b) (hu : jp_u a b)
    (hstop : ∀ k, k ≤ 12 → jp_J (jc_F w) (jp_S (jc_F w) (jc_x g) (jc_y g) a b) (jc_x c) (jc_y c) a b k → post (nI k) (oc, nI g, nI (jc_i (jc_x c + k * a) (jc_y c + k * b)), w, len, dir, mk, op))
    (hnone : (∀ k, ¬ jp_J (jc_F w) (jp_S (jc_F w) (jc_x g) (jc_y g) a b) (jc_x c) (jc_y c) a b k) → post 0 (oc, nI g, -1, w, len, dir, mk, op)) :
    wpX_jumpStraight post (oc, nI g, ld, w, len, dir, mk, op) (nI c) p1 p2 := by
  have hcx := jc_in hc
  refine ⟨13, ?_⟩
  have e1 : jc_x c + ((0 : Nat) : Int) * a = jc_x c := by rw [Int.natCast_zero, Int.zero_mul, Int.add_zero]
  have e2 : jc_y c + ((0 : Nat) : Int) * b = jc_y c := by rw [Int.natCast_zero, Int.zero_mul, Int.add_zero]
  have := jx_js11 (ld := -1) hc hg h1 h2 hu hstop hnone 12 0 rfl jx_ray0 (by rw [e1, e2]; exact hcx)
  rw [e1, e2, jc_ic hc] at this
  exact this
theorem jx_jd6 {post : Int32 → SX → Prop} {p1 p2 : Int32} {a b : Int} (hc : c < 144) (hg : g < 144) (h1 : p1.toInt = a) (h2 : p2.toInt = b) (hu : jp_u a b) (ha0 : a ≠ 0) (hb0 : b ≠ 0)
    (hstop : ∀ k, k ≤ 12 → jp_J (jc_F w) (jp_T (jc_F w) (jc_x g) (jc_y g) a b) (jc_x c) (jc_y c) a b k → post (nI k) (oc, nI g, nI (jc_i (jc_x c + k * a) (jc_y c + k * b)), w, len, dir, mk, op))
    (hnone : (∀ k, ¬ jp_J (jc_F w) (jp_T (jc_F w) (jc_x g) (jc_y g) a b) (jc_x c) (jc_y c) a b k) → post 0 (oc, nI g, -1, w, len, dir, mk, op)) :
    ∀ (d t : Nat) (ld : Int32), t + d = 12 → jx_ray (jc_F w) (jp_T (jc_F w) (jc_x g) (jc_y g) a b) (jc_x c) (jc_y c) a b t → jc_G (jc_x c + t * a) (jc_y c + t * b) →
      wX_jumpDiagonal_6 post p1 p2 (d + 1) (nI (jc_i (jc_x c + t * a) (jc_y c + t * b))) (nI t) oc (nI g) ld w len dir mk op := by
  have ha : jx_r a := ⟨hu.1, hu.2.1⟩
  have hb : jx_r b := ⟨hu.2.2.1, hu.2.2.2.1⟩
  have hcx := jc_in hc
  have hua : jp_u a 0 := by
    unfold jp_u at *
    omega
  have hub : jp_u 0 b := by
    unfold jp_u at *
    omega
  intro d
  induction d with
  | zero =>
    intro t ld e _ hG
    exfalso
    have e : t = 12 := by omega
    subst e
    unfold jc_G at hG
    unfold jp_u at hu
    omega
  | succ d ih =>
    intro t ld e hR hG
    have hl := jc_il hG.1 hG.2.1 hG.2.2.1 hG.2.2.2
    have ex := jc_xi hG.1 hG.2.1 hG.2.2.1 hG.2.2.2
    have ey := jc_yi hG.1 hG.2.1 hG.2.2.1 hG.2.2.2
    have sx1 : jc_x c + (((t + 1 : Nat) : Int)) * a = jc_x c + t * a + a := by rw [jx_sc, Int.add_assoc]
    have sy1 : jc_y c + (((t + 1 : Nat) : Int)) * b = jc_y c + t * b + b := by rw [jx_sc, Int.add_assoc]
    unfold wX_jumpDiagonal_6
    refine jx_free hl h1 h2 ha hb (fun hF => br_f (by decide) ?_) (fun hF => br_t rfl (hnone (jx_rayN hR ?_)))
    · rw [ex, ey] at hF
      have hG' : jc_G (jc_x c + t * a + a) (jc_y c + t * b + b) := ⟨hF.1, hF.2.1, hF.2.2.1, hF.2.2.2.1⟩
      have hl' := jc_il hG'.1 hG'.2.1 hG'.2.2.1 hG'.2.2.2
      refine nm_r (jx_mv h1 h2 ha hb hG hG') (nm_r (nI_1 t) ?_)
      rw [← sx1, ← sy1] at hF hG' hl' ⊢
      have fx := jc_xi hG'.1 hG'.2.1 hG'.2.2.1 hG'.2.2.2
      have fy := jc_yi hG'.1 hG'.2.1 hG'.2.2.1 hG'.2.2.2
      have hT : jp_T (jc_F w) (jc_x g) (jc_y g) a b (jc_x c + (((t + 1 : Nat) : Int)) * a) (jc_y c + (((t + 1 : Nat) : Int)) * b) →
          post (nI (t + 1)) (oc, nI g, nI (jc_i (jc_x c + (((t + 1 : Nat) : Int)) * a) (jc_y c + (((t + 1 : Nat) : Int)) * b)), w, len, dir, mk, op) := fun h => hstop (t + 1) (by omega) (jx_rayJ hR hF h)
      refine pk_eq (jc_i (jc_x c + (((t + 1 : Nat) : Int)) * a) (jc_y c + (((t + 1 : Nat) : Int)) * b)) g (fun hgo => ?_) (fun hgo => ?_)
      · exact br_f (by decide) (br_f (by decide) (hT (Or.inl (Or.inl ((jx_ieq hG' hg).mp hgo)))))
      · refine jx_forced hl' h1 h2 hu (fun s hs => ?_)
        rw [fx, fy] at hs
        have hsl := hs.1.1
        refine pk_eq s 0 (fun h0 => ?_) (fun h0 => br_f (by decide) (br_f (by decide) (hT (Or.inl (Or.inr (jx_set_ne hs h0))))))
        have hnS : ¬ jp_S (jc_F w) (jc_x g) (jc_y g) a b (jc_x c + (((t + 1 : Nat) : Int)) * a) (jc_y c + (((t + 1 : Nat) : Int)) * b) := by
          rintro (h | ⟨e, f, hu', hfo⟩)
          · exact hgo ((jx_ieq hG' hg).mpr h)
          · have := (hs.2 e f hu').mpr hfo
            rw [h0, Nat.zero_testBit] at this
            exact absurd this (by decide)
        refine br_t rfl ?_
        refine jx_js hl' hg h1 jt_0 hua (fun k hk hJ => br_t (nI_lt (a := 0) (b := k) hJ.1 (by omega)) (br_f (by decide) (hT (Or.inr ⟨ha0, hb0, Or.inl ⟨k, ?_⟩⟩)))) (fun hn1 => br_f (by decide) ?_)
        · rw [fx, fy] at hJ
          exact hJ
        · refine jx_js hl' hg jt_0 h2 hub (fun k hk hJ => br_f (nI_nle hJ.1 (by omega)) (br_f (by decide) (hT (Or.inr ⟨ha0, hb0, Or.inr ⟨k, ?_⟩⟩)))) (fun hn2 => br_t (by decide) (br_t rfl ?_))
          · rw [fx, fy] at hJ
            exact hJ
          · rw [fx, fy] at hn1 hn2
            refine ih (t + 1) _ (by omega) (jx_rayS hR hF ?_) hG'
            rintro (h | ⟨_, _, ⟨k, hk⟩ | ⟨k, hk⟩⟩)
            · exact hnS h
            · exact hn1 k hk
            · exact hn2 k hk
    · rw [sx1, sy1]
      rw [ex, ey] at hF
      exact hF
theorem jx_jd {post : Int32 → SX → Prop} {p1 p2 : Int32} {a b : Int} (hc : c < 144) (hg : g < 144) (h1 : p1.toInt = a) (h2 : p2.toInt = b) (hu : jp_u a b) (ha0 : a ≠ 0) (hb0 : b ≠ 0)
    (hstop : ∀ k, k ≤ 12 → jp_J (jc_F w) (jp_T (jc_F w) (jc_x g) (jc_y g) a b) (jc_x c) (jc_y c) a b k → post (nI k) (oc, nI g, nI (jc_i (jc_x c + k * a) (jc_y c + k * b)), w, len, dir, mk, op))
    (hnone : (∀ k, ¬ jp_J (jc_F w) (jp_T (jc_F w) (jc_x g) (jc_y g) a b) (jc_x c) (jc_y c) a b k) → post 0 (oc, nI g, -1, w, len, dir, mk, op)) :
    wpX_jumpDiagonal post (oc, nI g, ld, w, len, dir, mk, op) (nI c) p1 p2 := by
  have hcx := jc_in hc
  refine ⟨13, ?_⟩
  have e1 : jc_x c + ((0 : Nat) : Int) * a = jc_x c := by rw [Int.natCast_zero, Int.zero_mul, Int.add_zero]
  have e2 : jc_y c + ((0 : Nat) : Int) * b = jc_y c := by rw [Int.natCast_zero, Int.zero_mul, Int.add_zero]
  have := jx_jd6 hc hg h1 h2 hu ha0 hb0 hstop hnone 12 0 ld rfl jx_ray0 (by rw [e1, e2]; exact hcx)
  rw [e1, e2, jc_ic hc] at this
  exact this
end
end
section
/-! ===== the component's search, abstractly: M mark, L length, P directions, O the list of waiting cells, m its length ===== -/
def js_u (f : Nat → Nat) (k v : Nat) : Nat → Nat := fun j => if j = k then v else f j
theorem js_us {f : Nat → Nat} {k v : Nat} : js_u f k v k = v := if_pos rfl
theorem js_un {f : Nat → Nat} {k v j : Nat} (h : j ≠ k) : js_u f k v j = f j := if_neg h
def js_s (f : Nat → Nat) : Nat → Nat
  | 0 => 0
  | n + 1 => js_s f n + f n
theorem js_s_eq {f f' : Nat → Nat} : ∀ {n : Nat}, (∀ j, j < n → f' j = f j) → js_s f' n = js_s f n := by
  intro n
  induction n with
  | zero => exact fun _ => rfl
  | succ n ih =>
    intro h
    show js_s f' n + f' n = js_s f n + f n
    rw [ih (fun j hj => h j (by omega)), h n (by omega)]
theorem js_s_upd {f f' : Nat → Nat} {k : Nat} : ∀ {n : Nat}, k < n → (∀ j, j < n → j ≠ k → f' j = f j) → js_s f' n + f k = js_s f n + f' k := by
  intro n
  induction n with
  | zero => exact fun h _ => absurd h (by omega)
  | succ n ih =>
    intro hk h
    show js_s f' n + f' n + f k = js_s f n + f n + f' k
    by_cases e : k = n
    · subst e
      rw [js_s_eq (fun j hj => h j (by omega) (by omega))]
      omega
    · have h1 := ih (by omega) (fun j hj hne => h j (by omega) hne)
      have h2 := h n (by omega) (fun z => e z.symm)
      omega
theorem js_s_le {f : Nat → Nat} {b : Nat} : ∀ {n : Nat}, (∀ j, j < n → f j ≤ b) → js_s f n ≤ b * n := by
  intro n
  induction n with
  | zero => exact fun _ => Nat.zero_le _
  | succ n ih =>
    intro h
    have h1 := ih (fun j hj => h j (by omega))
    have h2 := h n (by omega)
    show js_s f n + f n ≤ b * (n + 1)
    rw [Nat.mul_succ]
    omega
def js_one (M : Nat → Nat) (c : Nat) : Nat := if M c = 0 then 0 else 1
def js_cnt (M : Nat → Nat) : Nat := js_s (js_one M) 144
def js_phi (M L P : Nat → Nat) (c : Nat) : Nat := if M c = 0 then 16777216 else L c * 512 + (511 - P c)
def js_mu (M L P : Nat → Nat) (m : Nat) : Nat := 2 * js_s (js_phi M L P) 144 + m
theorem js_one0 {M : Nat → Nat} {c : Nat} (h : M c = 0) : js_one M c = 0 := if_pos h
theorem js_one1 {M : Nat → Nat} {c : Nat} (h : M c ≠ 0) : js_one M c = 1 := if_neg h
theorem js_phi0 {M L P : Nat → Nat} {c : Nat} (h : M c = 0) : js_phi M L P c = 16777216 := if_pos h
theorem js_phi1 {M L P : Nat → Nat} {c : Nat} (h : M c ≠ 0) : js_phi M L P c = L c * 512 + (511 - P c) := if_neg h
theorem js_cnt_le (M : Nat → Nat) : js_cnt M ≤ 144 := by
  have := js_s_le (f := js_one M) (b := 1) (n := 144) (fun j _ => by unfold js_one; split <;> omega)
  unfold js_cnt
  omega
/-- what the lists and numbers keep -/
def js_W (M L P O : Nat → Nat) (m : Nat) : Prop :=
  (∀ c, c < 144 → M c ≤ 2) ∧ (∀ c, c < 144 → M c ≠ 0 → L c + 154 ≤ 154 * js_cnt M ∧ P c < 512) ∧
  (∀ i, i < m → O i < 144 ∧ M (O i) = 1) ∧ (∀ i j, i < j → j < m → O i ≠ O j) ∧ (∀ c, c < 144 → M c = 1 → ∃ i, i < m ∧ O i = c)
def js_sub (d p : Nat) : Prop := ∀ i, d.testBit i = true → p.testBit i = true
/-- an offer: nothing, or the cell's new length and directions, and on the list -/
def js_O (c n d : Nat) (M L P O : Nat → Nat) (m : Nat) (M' L' P' O' : Nat → Nat) (m' : Nat) : Prop :=
  (M' = M ∧ L' = L ∧ P' = P ∧ O' = O ∧ m' = m ∧ M c ≠ 0 ∧ (L c < n ∨ (L c = n ∧ js_sub d (P c)))) ∨
  (∃ p, M' = js_u M c 1 ∧ L' = js_u L c n ∧ P' = js_u P c p ∧ (((M c = 0 ∨ n < L c) ∧ p = d) ∨ (M c ≠ 0 ∧ L c = n ∧ ¬ js_sub d (P c) ∧ p = P c ||| d)) ∧
    ((M c = 1 ∧ O' = O ∧ m' = m) ∨ (M c ≠ 1 ∧ O' = js_u O m c ∧ m' = m + 1)))
section
variable {M L P O : Nat → Nat} {m : Nat} {M' L' P' O' : Nat → Nat} {m' : Nat} {c n d : Nat}
theorem js_room (h : js_W M L P O m) (hc : c < 144) (h1 : M c ≠ 1) : m < 144 := by
  obtain ⟨_, _, w3, w4, _⟩ := h
  refine jc_pig 144 (m + 1) (fun i => if i < m then O i else c) ?_ ?_
  · intro i hi
    show (if i < m then O i else c) < 144
    by_cases e : i < m
    · rw [if_pos e]
      exact (w3 i e).1
    · rw [if_neg e]
      exact hc
  · intro i j hij hj
    show (if i < m then O i else c) ≠ (if j < m then O j else c)
    rw [if_pos (show i < m by omega)]
    by_cases e : j < m
    · rw [if_pos e]
      exact w4 i j hij e
    · rw [if_neg e]
      intro z
      exact h1 (by rw [← z]; exact (w3 i (by omega)).2)
theorem js_L (h : js_W M L P O m) (hc : c < 144) (h1 : M c ≠ 0) : L c < 32768 := by
  have h2 := (h.2.1 c hc h1).1
  have h3 := js_cnt_le M
  omega
theorem js_sub_refl (p : Nat) : js_sub p p := fun _ h => h
theorem js_sub_trans {p q r : Nat} (h : js_sub p q) (h' : js_sub q r) : js_sub p r := fun i hi => h' i (h i hi)
theorem js_sub_or1 (p d : Nat) : js_sub p (p ||| d) := fun i hi => by rw [Nat.testBit_or, hi]; rfl
theorem js_sub_or2 (p d : Nat) : js_sub d (p ||| d) := fun i hi => by rw [Nat.testBit_or, hi, Bool.or_true]
theorem js_or_lt {p d : Nat} (h : ¬ js_sub d p) : p < p ||| d := by
  have h1 : p ≤ p ||| d := Nat.left_le_or
  by_cases e : p = p ||| d
  · exact absurd (fun i hi => by rw [e]; exact js_sub_or2 p d i hi) h
  · omega
theorem js_dom (h : js_O c n d M L P O m M' L' P' O' m') : M' c ≠ 0 ∧ (L' c < n ∨ (L' c = n ∧ js_sub d (P' c))) := by
  rcases h with ⟨e1, e2, e3, _, _, h1, h2⟩ | ⟨p, e1, e2, e3, h1, _⟩
  · rw [e1, e2, e3]
    exact ⟨h1, h2⟩
  · rw [e1, e2, e3, js_us, js_us, js_us]
    refine ⟨by decide, Or.inr ⟨rfl, ?_⟩⟩
    rcases h1 with ⟨_, e⟩ | ⟨_, _, _, e⟩
    · rw [e]
      exact js_sub_refl d
    · rw [e]
      exact js_sub_or2 _ _
theorem js_mono (h : js_O c n d M L P O m M' L' P' O' m') (c' : Nat) (hM : M c' ≠ 0) : M' c' ≠ 0 ∧ (L' c' < L c' ∨ (L' c' = L c' ∧ js_sub (P c') (P' c'))) := by
  rcases h with ⟨e1, e2, e3, _, _, h1, h2⟩ | ⟨p, e1, e2, e3, h1, _⟩
  · rw [e1, e2, e3]
    exact ⟨hM, Or.inr ⟨rfl, js_sub_refl _⟩⟩
  · rw [e1, e2, e3]
    by_cases e : c' = c
    · subst e
      rw [js_us, js_us, js_us]
      refine ⟨by decide, ?_⟩
      rcases h1 with ⟨h1, _⟩ | ⟨_, h1, _, e⟩
      · rcases h1 with h1 | h1
        · exact absurd h1 hM
        · exact Or.inl h1
      · rw [e]
        exact Or.inr ⟨h1.symm, js_sub_or1 _ _⟩
    · rw [js_un e, js_un e, js_un e]
      exact ⟨hM, Or.inr ⟨rfl, js_sub_refl _⟩⟩
theorem js_done (h : js_O c n d M L P O m M' L' P' O' m') (c' : Nat) (hM : M' c' = 2) : M c' = 2 ∧ L' c' = L c' ∧ P' c' = P c' := by
  rcases h with ⟨e1, e2, e3, _, _, h1, h2⟩ | ⟨p, e1, e2, e3, h1, _⟩
  · rw [e1] at hM
    rw [e2, e3]
    exact ⟨hM, rfl, rfl⟩
  · rw [e1] at hM
    rw [e2, e3]
    by_cases e : c' = c
    · subst e
      rw [js_us] at hM
      exact absurd hM (by decide)
    · rw [js_un e] at hM
      rw [js_un e, js_un e]
      exact ⟨hM, rfl, rfl⟩
theorem js_keep (h : js_O c n d M L P O m M' L' P' O' m') (c0 : Nat) (hM : M c0 ≠ 0) (hl : c = c0 → L c0 < n) : M' c0 = M c0 ∧ L' c0 = L c0 ∧ P' c0 = P c0 := by
  rcases h with ⟨e1, e2, e3, _, _, h1, h2⟩ | ⟨p, e1, e2, e3, h1, _⟩
  · rw [e1, e2, e3]
    exact ⟨rfl, rfl, rfl⟩
  · rw [e1, e2, e3]
    by_cases e : c0 = c
    · exfalso
      have h2 := hl e.symm
      rw [e] at h2 hM
      rcases h1 with ⟨h1 | h1, _⟩ | ⟨_, h1, _⟩
      · exact hM h1
      · omega
      · omega
    · rw [js_un e, js_un e, js_un e]
      exact ⟨rfl, rfl, rfl⟩
theorem js_val (h : js_O c n d M L P O m M' L' P' O' m') (c' : Nat) (hM : M' c' ≠ 0) : (M c' ≠ 0 ∧ L' c' = L c') ∨ (c' = c ∧ L' c' = n) := by
  rcases h with ⟨e1, e2, e3, _, _, h1, h2⟩ | ⟨p, e1, e2, e3, h1, _⟩
  · rw [e1] at hM
    rw [e2]
    exact Or.inl ⟨hM, rfl⟩
  · rw [e1] at hM
    rw [e2]
    by_cases e : c' = c
    · subst e
      rw [js_us]
      exact Or.inr ⟨rfl, rfl⟩
    · rw [js_un e] at hM
      rw [js_un e]
      exact Or.inl ⟨hM, rfl⟩
theorem js_cnt_new {M : Nat → Nat} (hc : c < 144) (v : Nat) (hv : v ≠ 0) : js_cnt (js_u M c v) + js_one M c = js_cnt M + 1 := by
  have := js_s_upd (f := js_one M) (f' := js_one (js_u M c v)) (n := 144) hc (fun j _ hj => by unfold js_one; rw [js_un hj])
  rw [js_one1 (M := js_u M c v) (c := c) (by rw [js_us]; exact hv)] at this
  exact this
theorem js_OW (h : js_O c n d M L P O m M' L' P' O' m') (hW : js_W M L P O m) (hc : c < 144) (hn : n ≤ 154 * js_cnt M) (hd : d < 512) : js_W M' L' P' O' m' := by
  rcases h with ⟨e1, e2, e3, e4, e5, h1, h2⟩ | ⟨p, e1, e2, e3, h1, h2⟩
  · rw [e1, e2, e3, e4, e5]
    exact hW
  · have hcn := js_cnt_new (M := M) hc 1 (by decide)
    have hroom := js_room hW hc
    obtain ⟨w1, w2, w3, w4, w5⟩ := hW
    have hp : p < 512 := by
      rcases h1 with ⟨_, e⟩ | ⟨hm, _, _, e⟩
      · omega
      · rw [e]
        exact Nat.or_lt_two_pow (n := 9) (w2 c hc hm).2 hd
    have hcnt : js_cnt M ≤ js_cnt M' ∧ (M c = 0 → js_cnt M' = js_cnt M + 1) := by
      rw [e1]
      by_cases e : M c = 0
      · rw [js_one0 e] at hcn
        omega
      · rw [js_one1 e] at hcn
        exact ⟨by omega, fun z => absurd z e⟩
    refine ⟨?_, ?_, ?_, ?_, ?_⟩
    · intro c' hc'
      rw [e1]
      by_cases e : c' = c
      · subst e
        rw [js_us]
        decide
      · rw [js_un e]
        exact w1 c' hc'
    · intro c' hc' hM'
      rw [e2, e3]
      by_cases e : c' = c
      · subst e
        rw [js_us, js_us]
        refine ⟨?_, hp⟩
        by_cases e : M c' = 0
        · have := hcnt.2 e
          omega
        · have h3 := (w2 c' hc' e).1
          have h4 := hcnt.1
          rcases h1 with ⟨h1 | h1, _⟩ | ⟨_, h1, _⟩
          · exact absurd h1 e
          · omega
          · omega
      · rw [e1, js_un e] at hM'
        rw [js_un e, js_un e]
        have h3 := w2 c' hc' hM'
        exact ⟨by have := hcnt.1; omega, h3.2⟩
    · intro i hi
      rw [e1]
      rcases h2 with ⟨h2, e4, e5⟩ | ⟨h2, e4, e5⟩
      · rw [e5] at hi
        rw [e4]
        obtain ⟨a1, a2⟩ := w3 i hi
        refine ⟨a1, ?_⟩
        by_cases e : O i = c
        · rw [e, js_us]
        · rw [js_un e]
          exact a2
      · rw [e5] at hi
        rw [e4]
        by_cases e : i = m
        · subst e
          rw [js_us, js_us]
          exact ⟨hc, rfl⟩
        · rw [js_un e]
          obtain ⟨a1, a2⟩ := w3 i (by omega)
          refine ⟨a1, ?_⟩
          by_cases e : O i = c
          · rw [e, js_us]
          · rw [js_un e]
            exact a2
    · intro i j hij hj
      rcases h2 with ⟨h2, e4, e5⟩ | ⟨h2, e4, e5⟩
      · rw [e5] at hj
        rw [e4]
        exact w4 i j hij hj
      · rw [e5] at hj
        rw [e4, js_un (show i ≠ m by omega)]
        by_cases e : j = m
        · subst e
          rw [js_us]
          intro z
          exact h2 (by rw [← z]; exact (w3 i hij).2)
        · rw [js_un e]
          exact w4 i j hij (by omega)
    · intro c' hc' hM'
      rw [e1] at hM'
      rcases h2 with ⟨h2, e4, e5⟩ | ⟨h2, e4, e5⟩
      · rw [e4, e5]
        by_cases e : c' = c
        · subst e
          exact w5 c' hc' h2
        · rw [js_un e] at hM'
          exact w5 c' hc' hM'
      · rw [e4, e5]
        by_cases e : c' = c
        · subst e
          exact ⟨m, by omega, js_us⟩
        · rw [js_un e] at hM'
          obtain ⟨i, hi, ei⟩ := w5 c' hc' hM'
          exact ⟨i, by omega, by rw [js_un (show i ≠ m by omega)]; exact ei⟩
theorem js_Omu (h : js_O c n d M L P O m M' L' P' O' m') (hW : js_W M L P O m) (hc : c < 144) (hn : n ≤ 154 * js_cnt M) (hd : d < 512) : js_mu M' L' P' m' ≤ js_mu M L P m := by
  have hL := js_L hW hc
  have hc144 := js_cnt_le M
  rcases h with ⟨e1, e2, e3, e4, e5, h1, h2⟩ | ⟨p, e1, e2, e3, h1, h2⟩
  · rw [e1, e2, e3, e5]
    exact Nat.le_refl _
  · have hs := js_s_upd (f := js_phi M L P) (f' := js_phi M' L' P') (n := 144) hc (fun j _ hj => by
      unfold js_phi
      rw [e1, e2, e3, js_un hj, js_un hj, js_un hj])
    have hp' : js_phi M' L' P' c = n * 512 + (511 - p) := by
      rw [js_phi1 (by rw [e1, js_us]; decide), e2, e3, js_us, js_us]
    have hlt : js_phi M' L' P' c < js_phi M L P c := by
      rw [hp']
      by_cases e : M c = 0
      · rw [js_phi0 e]
        omega
      · rw [js_phi1 e]
        have h3 := (hW.2.1 c hc e).2
        rcases h1 with ⟨h1 | h1, _⟩ | ⟨_, h1, h4, e5⟩
        · exact absurd h1 e
        · omega
        · have h5 := js_or_lt h4
          have h6 : P c ||| d < 2 ^ 9 := Nat.or_lt_two_pow (n := 9) h3 hd
          rw [← e5] at h5 h6
          omega
    have hm : m' ≤ m + 1 := by
      rcases h2 with ⟨_, _, e⟩ | ⟨_, _, e⟩ <;> omega
    unfold js_mu
    omega
end
end
section
/-! ===== what the search keeps, under offers and takings ===== -/
def js_dm (w : Nat → Int32) (M L P : Nat → Nat) (x y a b : Int) (n : Nat) : Prop :=
  M (jc_i x y) ≠ 0 ∧ (L (jc_i x y) < n ∨ (L (jc_i x y) = n ∧ ∀ e f, jp_u e f → jp_nf (jc_F w) x y a b e f → (P (jc_i x y)).testBit (jx_ib e f) = true))
/-- c0, d0: the cell that goes on, and the first of its directions that isn't done -/
def js_I (w : Nat → Int32) (s g c0 d0 : Nat) (M L P O : Nat → Nat) (m : Nat) : Prop :=
  js_W M L P O m ∧ (∀ c, c < 144 → M c ≠ 0 → jp_R (jc_F w) (jc_x s) (jc_y s) (L c) (jc_x c) (jc_y c)) ∧
  (M s ≠ 0 ∧ L s = 0 ∧ ∀ i, i < 9 → (P s).testBit i = true) ∧ M g ≠ 2 ∧
  (∀ (c : Nat) (a b : Int) (k : Nat), c < 144 → M c = 2 → jp_u a b → (c = c0 → jx_ib a b < d0) → (P c).testBit (jx_ib a b) = true →
    jp_J (jc_F w) (jp_T (jc_F w) (jc_x g) (jc_y g) a b) (jc_x c) (jc_y c) a b k → js_dm w M L P (jc_x c + k * a) (jc_y c + k * b) a b (L c + k * jp_c a b))
theorem js_ib9 {a b : Int} (h : jp_u a b) : jx_ib a b < 9 ∧ jx_ib a b ≠ 4 := by
  unfold jp_u at h
  unfold jx_ib
  omega
theorem js_ibu {a b a' b' : Int} (h : jp_u a b) (h' : jp_u a' b') (e : jx_ib a b = jx_ib a' b') : a = a' ∧ b = b' := by
  unfold jp_u at h h'
  unfold jx_ib at e
  omega
theorem js_sub511 {d p : Nat} (hd : d < 512) (hp : ∀ i, i < 9 → p.testBit i = true) : js_sub d p := by
  intro i hi
  by_cases h9 : i < 9
  · exact hp i h9
  · have := Nat.testBit_lt_two_pow (Nat.lt_of_lt_of_le hd (show 2 ^ 9 ≤ 2 ^ i from Nat.pow_le_pow_right (by decide) (by omega)))
    rw [this] at hi
    exact absurd hi (by decide)
section
variable {w : Nat → Int32} {s g c0 d0 : Nat} {M L P O : Nat → Nat} {m : Nat} {M' L' P' O' : Nat → Nat} {m' : Nat} {c n d : Nat}
theorem js_OI (h : js_O c n d M L P O m M' L' P' O' m') (hI : js_I w s g c0 d0 M L P O m) (hc : c < 144) (hn : n ≤ 154 * js_cnt M) (hd : d < 512)
    (hR : jp_R (jc_F w) (jc_x s) (jc_y s) n (jc_x c) (jc_y c)) : js_I w s g c0 d0 M' L' P' O' m' := by
  obtain ⟨iW, iS, ⟨i1, i2, i3⟩, iG, iD⟩ := hI
  refine ⟨js_OW h iW hc hn hd, ?_, ?_, fun z => iG (js_done h g z).1, ?_⟩
  · intro c' hc' hM'
    rcases js_val h c' hM' with ⟨h1, e⟩ | ⟨e1, e⟩
    · rw [e]
      exact iS c' hc' h1
    · rw [e, e1]
      exact hR
  · obtain ⟨h1, h2⟩ := js_mono h s i1
    rcases h2 with h2 | ⟨h2, h3⟩
    · omega
    · exact ⟨h1, h2.trans i2, fun i hi => h3 i (i3 i hi)⟩
  · intro c' a b k hc' hM' hu he hP hJ
    obtain ⟨h1, h2, h3⟩ := js_done h c' hM'
    rw [h3] at hP
    rw [h2]
    obtain ⟨t1, t2⟩ := iD c' a b k hc' h1 hu he hP hJ
    obtain ⟨u1, u2⟩ := js_mono h _ t1
    refine ⟨u1, ?_⟩
    rcases t2 with t2 | ⟨t2, t3⟩
    · rcases u2 with u2 | ⟨u2, _⟩
      · exact Or.inl (by omega)
      · exact Or.inl (by omega)
    · rcases u2 with u2 | ⟨u2, u3⟩
      · exact Or.inl (by omega)
      · exact Or.inr ⟨by omega, fun e f hu' hn' => u3 _ (t3 e f hu' hn')⟩
theorem js_next (hI : js_I w s g c0 d0 M L P O m)
    (h : ∀ (a b : Int) (k : Nat), jp_u a b → jx_ib a b = d0 → (P c0).testBit (jx_ib a b) = true → jp_J (jc_F w) (jp_T (jc_F w) (jc_x g) (jc_y g) a b) (jc_x c0) (jc_y c0) a b k → js_dm w M L P (jc_x c0 + k * a) (jc_y c0 + k * b) a b (L c0 + k * jp_c a b)) :
    js_I w s g c0 (d0 + 1) M L P O m := by
  obtain ⟨iW, iS, iA, iG, iD⟩ := hI
  refine ⟨iW, iS, iA, iG, ?_⟩
  intro c a b k hc hM hu he hP hJ
  by_cases e : c = c0
  · subst e
    by_cases e' : jx_ib a b = d0
    · exact h a b k hu e' hP hJ
    · exact iD c a b k hc hM hu (fun _ => by have := he rfl; omega) hP hJ
  · exact iD c a b k hc hM hu (fun z => absurd z e) hP hJ
theorem js_m144 (hW : js_W M L P O m) : m ≤ 144 := jc_pig 144 m O (fun i hi => (hW.2.2.1 i hi).1) hW.2.2.2.1
theorem js_pop (hI : js_I w s g c0 9 M L P O m) {i : Nat} (hi : i < m) (hg : O i ≠ g) : js_I w s g (O i) 0 (js_u M (O i) 2) L P (js_u O i (O (m - 1))) (m - 1) := by
  obtain ⟨iW, iS, ⟨i1, i2, i3⟩, iG, iD⟩ := hI
  obtain ⟨w1, w2, w3, w4, w5⟩ := iW
  obtain ⟨hc, hc1⟩ := w3 i hi
  have hcnt : js_cnt (js_u M (O i) 2) = js_cnt M := by
    have := js_cnt_new (M := M) hc 2 (by decide)
    rw [js_one1 (by omega)] at this
    omega
  have hne : ∀ a b, a < m → b < m → a ≠ b → O a ≠ O b := by
    intro a b ha hb hab
    rcases Nat.lt_or_gt_of_ne hab with h | h
    · exact w4 a b h hb
    · exact fun z => w4 b a h ha z.symm
  have hM0 : ∀ c, js_u M (O i) 2 c ≠ 0 → M c ≠ 0 := by
    intro c h
    by_cases e : c = O i
    · rw [e]
      omega
    · rw [js_un e] at h
      exact h
  have hM0' : ∀ c, M c ≠ 0 → js_u M (O i) 2 c ≠ 0 := by
    intro c h
    by_cases e : c = O i
    · rw [e, js_us]
      decide
    · rw [js_un e]
      exact h
  refine ⟨⟨?_, ?_, ?_, ?_, ?_⟩, ?_, ⟨hM0' s i1, i2, i3⟩, ?_, ?_⟩
  · intro c hc'
    by_cases e : c = O i
    · rw [e, js_us]
      omega
    · rw [js_un e]
      exact w1 c hc'
  · intro c hc' h
    rw [hcnt]
    exact w2 c hc' (hM0 c h)
  · intro j hj
    by_cases e : j = i
    · subst e
      rw [js_us]
      obtain ⟨a1, a2⟩ := w3 (m - 1) (by omega)
      refine ⟨a1, ?_⟩
      rw [js_un (hne (m - 1) j (by omega) hi (by omega))]
      exact a2
    · rw [js_un e]
      obtain ⟨a1, a2⟩ := w3 j (by omega)
      refine ⟨a1, ?_⟩
      rw [js_un (hne j i (by omega) hi e)]
      exact a2
  · intro a b hab hb
    by_cases e : a = i
    · rw [e, js_us, js_un (show b ≠ i by omega)]
      exact hne _ _ (by omega) (by omega) (by omega)
    · by_cases e' : b = i
      · rw [e', js_us, js_un e]
        exact hne _ _ (by omega) (by omega) (by omega)
      · rw [js_un e, js_un e']
        exact hne _ _ (by omega) (by omega) (by omega)
  · intro c hc' h
    have hci : c ≠ O i := by
      intro e
      rw [e, js_us] at h
      omega
    rw [js_un hci] at h
    obtain ⟨j, hj, e⟩ := w5 c hc' h
    have hji : j ≠ i := fun z => hci (by rw [← e, z])
    by_cases e' : j = m - 1
    · exact ⟨i, by omega, by rw [js_us, ← e', e]⟩
    · exact ⟨j, by omega, by rw [js_un hji, e]⟩
  · intro c hc' h
    exact iS c hc' (hM0 c h)
  · rw [js_un (fun z => hg z.symm)]
    exact iG
  · intro c a b k hc' hM hu he hP hJ
    have hci : c ≠ O i := fun z => absurd (he z) (Nat.not_lt_zero _)
    rw [js_un hci] at hM
    obtain ⟨t1, t2⟩ := iD c a b k hc' hM hu (fun _ => (js_ib9 hu).1) hP hJ
    exact ⟨hM0' _ t1, t2⟩
theorem js_popmu (hW : js_W M L P O m) {i : Nat} (hi : i < m) : js_mu (js_u M (O i) 2) L P (m - 1) < js_mu M L P m := by
  have h1 := (hW.2.2.1 i hi).2
  have : js_s (js_phi (js_u M (O i) 2) L P) 144 = js_s (js_phi M L P) 144 := by
    refine js_s_eq (fun j _ => ?_)
    unfold js_phi
    by_cases e : j = O i
    · rw [e, js_us, if_neg (by decide), if_neg (by omega)]
    · rw [js_un e]
  unfold js_mu
  rw [this]
  omega
/-- a waiting cell on a best way -/
theorem js_best (hI : js_I w s g c0 9 M L P O m) (hs : s < 144) (hg : g < 144) (hw : w s = 0) (hD : jp_D (jc_F w) (jc_x s) (jc_y s) n (jc_x g) (jc_y g)) :
    ∃ c, c < 144 ∧ M c = 1 ∧ L c + jp_h (jc_x g) (jc_y g) (jc_x c) (jc_y c) ≤ n := by
  obtain ⟨iW, iS, ⟨i1, i2, i3⟩, iG, iD⟩ := hI
  have hF : jc_F w (jc_x s) (jc_y s) := (jc_Fc hs).mpr hw
  obtain ⟨x, y, hxy, h1, h2⟩ := jp_key (F := jc_F w) (M := fun x y => M (jc_i x y)) (L := fun x y => L (jc_i x y)) (P := fun x y a b => (P (jc_i x y)).testBit (jx_ib a b) = true) hF hD
    (by show M (jc_i (jc_x s) (jc_y s)) ≠ 0; rw [jc_ic hs]; exact i1)
    (by show L (jc_i (jc_x s) (jc_y s)) = 0; rw [jc_ic hs]; exact i2)
    (fun a b hu => by show (P (jc_i (jc_x s) (jc_y s))).testBit (jx_ib a b) = true; rw [jc_ic hs]; exact i3 _ (js_ib9 hu).1)
    (fun x y hxy hM => by
      have h3 := iS _ (jc_Fl hxy) hM
      rw [jc_Fx hxy, jc_Fy hxy] at h3
      exact h3)
    (fun x y hxy => by
      have h3 := iW.1 _ (jc_Fl hxy)
      show M (jc_i x y) = 0 ∨ M (jc_i x y) = 1 ∨ M (jc_i x y) = 2
      omega)
    (fun x y a b k hxy hM hu hP hJ => by
      have h3 := iD (jc_i x y) a b k (jc_Fl hxy) hM hu (fun _ => (js_ib9 hu).1) hP (by rw [jc_Fx hxy, jc_Fy hxy]; exact hJ)
      rw [jc_Fx hxy, jc_Fy hxy] at h3
      exact h3)
    (by show M (jc_i (jc_x g) (jc_y g)) ≠ 2; rw [jc_ic hg]; exact iG)
  refine ⟨jc_i x y, jc_Fl hxy, h1, ?_⟩
  rw [jc_Fx hxy, jc_Fy hxy]
  exact h2
end
theorem js_Ju {F St : Int → Int → Prop} {x y a b : Int} {k k' : Nat} (h : jp_J F St x y a b k) (h' : jp_J F St x y a b k') : k = k' := by
  rcases Nat.lt_trichotomy k k' with h1 | h1 | h1
  · exact absurd h.2.2.2 (h'.2.2.1 k h.1 h1)
  · exact h1
  · exact absurd h'.2.2.2 (h.2.2.1 k' h'.1 h1)
theorem js_Rk {F : Int → Int → Prop} {sx sy x y a b : Int} {n : Nat} (h : jp_R F sx sy n x y) (hu : jp_u a b) : ∀ k : Nat, (∀ i : Nat, 0 < i → i ≤ k → F (x + i * a) (y + i * b)) → jp_R F sx sy (n + k * jp_c a b) (x + k * a) (y + k * b) := by
  intro k
  induction k with
  | zero =>
    intro _
    rw [Int.natCast_zero, Int.zero_mul, Int.zero_mul, Int.add_zero, Int.add_zero, Nat.zero_mul, Nat.add_zero]
    exact h
  | succ k ih =>
    intro hF
    have h1 := ih (fun i h0 h1 => hF i h0 (by omega))
    have h2 := hF (k + 1) (by omega) (by omega)
    rw [jx_sc, jx_sc, ← Int.add_assoc, ← Int.add_assoc] at h2 ⊢
    have h3 := jp_Rs h1 hu h2
    rw [Nat.succ_mul, ← Nat.add_assoc]
    exact h3
theorem js_Jk {w : Nat → Int32} {St : Int → Int → Prop} {c : Nat} {a b : Int} {k : Nat} (hc : c < 144) (hu : jp_u a b) (h : jp_J (jc_F w) St (jc_x c) (jc_y c) a b k) : k ≤ 11 := by
  have h1 := h.2.1 k h.1 (Nat.le_refl k)
  have h2 := jc_in hc
  have hG : jc_G (jc_x c + k * a) (jc_y c + k * b) := ⟨h1.1, h1.2.1, h1.2.2.1, h1.2.2.2.1⟩
  unfold jc_G at hG
  unfold jp_u at hu
  have ha : a = -1 ∨ a = 0 ∨ a = 1 := by omega
  have hb : b = -1 ∨ b = 0 ∨ b = 1 := by omega
  rcases ha with rfl | rfl | rfl <;> rcases hb with rfl | rfl | rfl <;> omega
end
section
/-! ===== the component: offer, atLeast, takeBest ===== -/
def js_X (M L P O : Nat → Nat) (m : Nat) (oc : Int32) (len dir mk op : Nat → Int32) : Prop :=
  oc = nI m ∧ (∀ c, c < 144 → mk c = nI (M c)) ∧ (∀ c, c < 144 → M c ≠ 0 → len c = nI (L c) ∧ dir c = nI (P c)) ∧ (∀ i, i < m → op i = nI (O i))
theorem jx_sh {n : Nat} (h : n < 32768) : vp_nar .short (nI n).toInt16.toInt32 = nI n := by
  rw [pk_vs]
  exact lg_i2s_small (by rw [nI_toInt (by omega)]; omega) (by rw [nI_toInt (by omega)]; omega)
theorem jx_sh2 {n : Nat} (h : n < 32768) : vp_nar .short (nI n) = nI n := by
  rw [vp_nar_short]
  exact lg_i2s_small (by rw [nI_toInt (by omega)]; omega) (by rw [nI_toInt (by omega)]; omega)
theorem jx_b0 : vp_nar .byte 0 = 0 := by rw [vp_nar_byte]; decide
theorem jx_b1 : vp_nar .byte 1 = 1 := by rw [vp_nar_byte]; decide
theorem jx_b2 : vp_nar .byte 2 = 2 := by rw [vp_nar_byte]; decide
theorem jx_bt {n i : Nat} (hi : i < 32) : bt (nI n) i = n.testBit i := by
  show (BitVec.ofNat 32 n).getLsbD i = n.testBit i
  rw [BitVec.getLsbD_ofNat, decide_eq_true hi, Bool.true_and]
theorem jx_mask {d p : Nat} (hd : d < 512) : nI d &&& (nI p ^^^ (-1)) = 0 ↔ js_sub d p := by
  constructor
  · intro h i hi
    by_cases h32 : i < 32
    · have h1 : bt (nI d &&& (nI p ^^^ (-1))) i = false := by rw [h]; exact b_0 i
      rw [b_and, b_xor, b_m1 i h32, jx_bt h32, jx_bt h32, hi] at h1
      cases hp : p.testBit i with
      | true => rfl
      | false =>
        rw [hp] at h1
        exact absurd h1 (by decide)
    · have := Nat.testBit_lt_two_pow (Nat.lt_of_lt_of_le hd (show 2 ^ 9 ≤ 2 ^ i from Nat.pow_le_pow_right (by decide) (by omega)))
      rw [this] at hi
      exact absurd hi (by decide)
  · intro h
    apply b_ext
    intro i hi
    rw [b_and, b_xor, b_m1 i hi, jx_bt hi, jx_bt hi, b_0]
    cases hd' : d.testBit i with
    | false => rfl
    | true =>
      rw [h i hd']
      rfl
section
variable {gl ld : Int32} {w : Nat → Int32} {oc : Int32} {len dir mk op : Nat → Int32} {M L P O : Nat → Nat} {m c n d : Nat}
theorem jx_offer {post : SX → Prop} (hX : js_X M L P O m oc len dir mk op) (hW : js_W M L P O m) (hc : c < 144) (hn : n < 32768) (hd : d < 512)
    (hpost : ∀ (M' L' P' O' : Nat → Nat) (m' : Nat) (oc' : Int32) (len' dir' mk' op' : Nat → Int32), js_O c n d M L P O m M' L' P' O' m' → js_X M' L' P' O' m' oc' len' dir' mk' op' → post (oc', gl, ld, w, len', dir', mk', op')) :
    wpX_offer post (oc, gl, ld, w, len, dir, mk, op) (nI c) (nI n) (nI d) := by
  have hroom := js_room hW hc
  have hin : vp_in (nI c) 144 := vp_in_nI hc (by decide)
  have hcl : (nI c).toNatClampNeg = c := nI_clamp (by omega)
  obtain ⟨x1, x2, x3, x4⟩ := id hX
  have hmc := x2 c hc
  have hM2 := hW.1 c hc
  have hsame : M c ≠ 0 → (L c < n ∨ (L c = n ∧ js_sub d (P c))) → post (oc, gl, ld, w, len, dir, mk, op) := fun h1 h2 => hpost M L P O m oc len dir mk op (Or.inl ⟨rfl, rfl, rfl, rfl, rfl, h1, h2⟩) hX
  have hpush : ∀ (p : Nat) (len' dir' : Nat → Int32), (((M c = 0 ∨ n < L c) ∧ p = d) ∨ (M c ≠ 0 ∧ L c = n ∧ ¬ js_sub d (P c) ∧ p = P c ||| d)) →
      len' c = nI n → (∀ j, j ≠ c → len' j = len j) → dir' c = nI p → (∀ j, j ≠ c → dir' j = dir j) → wX_offer_83 post (nI c) oc gl ld w len' dir' mk op := by
    intro p len' dir' hp l1 l2 d1 d2
    have hLD : ∀ j, j < 144 → js_u M c 1 j ≠ 0 → len' j = nI (js_u L c n j) ∧ dir' j = nI (js_u P c p j) := by
      intro j hj hM
      by_cases e : j = c
      · rw [e, js_us, js_us]
        exact ⟨l1, d1⟩
      · rw [js_un e] at hM
        rw [js_un e, js_un e, l2 j e, d2 j e]
        exact x3 j hj hM
    refine ⟨hin, ?_⟩
    rw [hcl, hmc]
    refine pk_eq (M c) 1 (fun h1 => ?_) (fun h1 => ?_)
    · refine hpost (js_u M c 1) (js_u L c n) (js_u P c p) O m oc len' dir' mk op (Or.inr ⟨p, rfl, rfl, rfl, hp, Or.inl ⟨h1, rfl, rfl⟩⟩) ⟨x1, ?_, hLD, x4⟩
      intro j hj
      by_cases e : j = c
      · rw [e, js_us, hmc, h1]
      · rw [js_un e]
        exact x2 j hj
    · have hm := hroom h1
      refine ⟨hin, ?_⟩
      rw [jx_b1]
      refine nm_e ⟨by rw [x1]; exact vp_in_nI hm (by decide), ?_⟩
      rw [jx_sh (show c < 32768 by omega), x1, nI_clamp (show m < 2 ^ 31 by omega)]
      refine nm_e (nm_r (nI_1 m) ?_)
      refine hpost (js_u M c 1) (js_u L c n) (js_u P c p) (js_u O m c) (m + 1) _ len' dir' _ _ (Or.inr ⟨p, rfl, rfl, rfl, hp, Or.inr ⟨h1, rfl, rfl⟩⟩) ⟨rfl, ?_, hLD, ?_⟩
      · intro j hj
        by_cases e : j = c
        · rw [e, js_us, pk_us]
          rfl
        · rw [js_un e, pk_un e]
          exact x2 j hj
      · intro i hi
        by_cases e : i = m
        · rw [e, js_us, pk_us]
        · rw [js_un e, pk_un e]
          exact x4 i (by omega)
  have h67 : (M c = 0 ∨ n < L c) → wX_offer_67 post (nI c) (nI n) (nI d) oc gl ld w len dir mk op := by
    intro h
    refine ⟨hin, ?_⟩
    rw [hcl, jx_sh hn, jx_sh (show d < 32768 by omega)]
    refine nm_e ⟨hin, nm_e ?_⟩
    exact hpush d _ _ (Or.inl ⟨h, rfl⟩) pk_us (fun j hj => pk_un hj) pk_us (fun j hj => pk_un hj)
  have h20 : (M c ≠ 0 → n ≤ L c) → wX_offer_20 post (nI c) (nI n) (nI d) oc gl ld w len dir mk op := by
    intro h
    refine ⟨hin, ?_⟩
    rw [hcl, hmc]
    refine pk_eq (M c) 0 (fun h0 => h67 (Or.inl h0)) (fun h0 => ?_)
    obtain ⟨y1, y2⟩ := x3 c hc h0
    have hLc := js_L hW hc h0
    have hPc := (hW.2.1 c hc h0).2
    rw [y1, y2]
    refine ⟨hin, pk_eq (L c) n (fun h1 => ⟨hin, ?_⟩) (fun h1 => h67 (Or.inr (by have := h h0; omega)))⟩
    by_cases hs : js_sub d (P c)
    · exact br_t ((jx_mask hd).mpr hs) (hsame h0 (Or.inr ⟨h1, hs⟩))
    · refine br_f (fun z => hs ((jx_mask hd).mp z)) ⟨hin, hin, ?_⟩
      have hlt : P c ||| d < 2 ^ 9 := Nat.or_lt_two_pow (n := 9) hPc hd
      rw [jx_or, jx_sh (show P c ||| d < 32768 by omega)]
      exact nm_e (hpush (P c ||| d) _ _ (Or.inr ⟨h0, h1, hs, rfl⟩) (by rw [y1, h1]) (fun j _ => rfl) pk_us (fun j hj => pk_un hj))
  refine ⟨hin, ?_⟩
  rw [hcl, hmc]
  refine pk_eq (M c) 0 (fun h0 => h20 (fun z => absurd h0 z)) (fun h0 => ⟨hin, ?_⟩)
  have hLc := js_L hW hc h0
  rw [(x3 c hc h0).1]
  exact pk_le n (L c) (fun h1 => h20 (fun _ => h1)) (fun h1 => hsame h0 (Or.inl h1))
theorem jx_38 {post : Int32 → Prop} {u v : Nat} {x3 x4 : Int32} (e3 : x3 = nI u) (e4 : x4 = nI v) (hu : u < 100) (hv : v < 100) (h : post (nI (if u < v then 4 * u + 10 * v else 4 * v + 10 * u))) :
    wX_atLeast_38 post x3 x4 oc gl ld w len dir mk op := by
  subst e3 e4
  have e4 : (4 : Int32) = nI 4 := rfl
  have e10 : (10 : Int32) = nI 10 := rfl
  refine pk_le v u (fun h1 => ?_) (fun h1 => ?_)
  · rw [if_neg (by omega)] at h
    rw [e4, e10, pk_mul, pk_mul, nI_add]
    exact h
  · rw [if_pos h1] at h
    rw [e4, e10, pk_mul, pk_mul, nI_add]
    exact h
theorem jx_28 {post : Int32 → Prop} {u : Nat} {v : Int} {x3 x4 : Int32} (e3 : x3 = nI u) (e4 : x4.toInt = v) (hu : u < 100) (hv : -100 < v ∧ v < 100) (h : post (nI (if u < v.natAbs then 4 * u + 10 * v.natAbs else 4 * v.natAbs + 10 * u))) :
    wX_atLeast_28 post x3 x4 oc gl ld w len dir mk op := by
  refine jt_le _ _ jt_0 e4 (fun h1 => ?_) (fun h1 => nm_e ?_)
  · exact jx_38 e3 (jt_of (n := v.natAbs) (by omega) (by omega)) hu (by omega) h
  · have := jt_neg v e4 (by omega) (by omega)
    exact jx_38 e3 (jt_of (n := v.natAbs) (by omega) (by omega)) hu (by omega) h
theorem jx_atLeast {post : Int32 → Prop} {g : Nat} (hc : c < 144) (hg : g < 144) (h : post (nI (jp_h (jc_x g) (jc_y g) (jc_x c) (jc_y c)))) : wpX_atLeast post (oc, gl, ld, w, len, dir, mk, op) (nI c) (nI g) := by
  have hcx := jc_in hc
  have hgx := jc_in hg
  refine ⟨by decide, by decide, fun x3 e3 => ⟨by decide, by decide, fun x4 e4 => ?_⟩⟩
  have h3 : x3.toInt = jc_x c - jc_x g := by
    rw [e3]
    exact jt_sub _ _ (jt_12 hc) (jt_12 hg) (by omega) (by omega) (by omega) (by omega)
  have h4 : x4.toInt = jc_y c - jc_y g := by
    rw [e4]
    exact jt_sub _ _ (jt_d12 hc) (jt_d12 hg) (by omega) (by omega) (by omega) (by omega)
  refine jt_le _ _ jt_0 h3 (fun h1 => ?_) (fun h1 => nm_e ?_)
  · exact jx_28 (u := (jc_x c - jc_x g).natAbs) (jt_of (by omega) (by omega)) h4 (by omega) (by omega) h
  · have := jt_neg _ h3 (by omega) (by omega)
    exact jx_28 (u := (jc_x c - jc_x g).natAbs) (jt_of (by omega) (by omega)) h4 (by omega) (by omega) h
end
theorem js_h_le {g c : Nat} (hg : g < 144) (hc : c < 144) : jp_h (jc_x g) (jc_y g) (jc_x c) (jc_y c) ≤ 200 := by
  have hcx := jc_in hc
  have hgx := jc_in hg
  unfold jp_h
  split <;> omega
def js_f (L : Nat → Nat) (g c : Nat) : Nat := L c + jp_h (jc_x g) (jc_y g) (jc_x c) (jc_y c)
section
variable {ld : Int32} {w : Nat → Int32} {oc : Int32} {len dir mk op : Nat → Int32} {M L P O : Nat → Nat} {m g : Nat}
theorem jx_tb4 {post : Int32 → SX → Prop} (hX : js_X M L P O m oc len dir mk op) (hW : js_W M L P O m) (hg : g < 144)
    (hpost : ∀ (i : Nat) (oc' : Int32) (mk' op' : Nat → Int32), i < m → (∀ j, j < m → js_f L g (O i) ≤ js_f L g (O j)) → js_X (js_u M (O i) 2) L P (js_u O i (O (m - 1))) (m - 1) oc' len dir mk' op' → post (nI (O i)) (oc', nI g, ld, w, len, dir, mk', op')) :
    ∀ (d i k : Nat), k + d = m → i < k → (∀ j, j < k → js_f L g (O i) ≤ js_f L g (O j)) → wX_takeBest_4 post oc (nI g) ld w len dir mk op (d + 1) (nI i) (nI k) := by
  have hm := js_m144 hW
  obtain ⟨x1, x2, x3, x4⟩ := id hX
  obtain ⟨w1, w2, w3, w4, w5⟩ := id hW
  have hlen : ∀ i, i < m → len (O i) = nI (L (O i)) ∧ js_f L g (O i) < 32968 := by
    intro i hi
    obtain ⟨a1, a2⟩ := w3 i hi
    have h0 : M (O i) ≠ 0 := by omega
    have h1 := js_L hW a1 h0
    have h2 := js_h_le hg a1
    refine ⟨(x3 _ a1 h0).1, ?_⟩
    unfold js_f
    omega
  intro d
  induction d with
  | zero =>
    intro i k e hik hmin
    have e : k = m := by omega
    subst e
    obtain ⟨a1, a2⟩ := w3 i hik
    have hcl : (nI i).toNatClampNeg = i := nI_clamp (by omega)
    have hin : vp_in (nI i) 144 := vp_in_nI (by omega) (by decide)
    have hop := x4 i hik
    refine br_t (by rw [x1]; exact Int32.le_refl _) ⟨hin, ?_⟩
    rw [hcl, hop]
    refine nm_e ?_
    have e1 : oc - 1 = nI (k - 1) := by
      rw [x1]
      exact pk_sub (b := 1) (by omega)
    refine nm_r e1 ⟨vp_in_nI (by omega) (by decide), hin, ?_⟩
    rw [nI_clamp (show k - 1 < 2 ^ 31 by omega), x4 (k - 1) (by omega), jx_sh2 (by have := (w3 (k - 1) (by omega)).1; omega)]
    refine nm_e ⟨vp_in_nI a1 (by decide), ?_⟩
    rw [nI_clamp (show O i < 2 ^ 31 by omega), jx_b2]
    refine nm_e (hpost i _ _ _ hik hmin ⟨rfl, ?_, ?_, ?_⟩)
    · intro c hc
      by_cases e : c = O i
      · rw [e, js_us, pk_us]
        rfl
      · rw [js_un e, pk_un e]
        exact x2 c hc
    · intro c hc hM
      refine x3 c hc ?_
      by_cases e : c = O i
      · rw [e]
        omega
      · rw [js_un e] at hM
        exact hM
    · intro j hj
      by_cases e : j = i
      · rw [e, js_us, pk_us]
      · rw [js_un e, pk_un e]
        exact x4 j (by omega)
  | succ d ih =>
    intro i k e hik hmin
    have hkm : k < m := by omega
    have him : i < m := by omega
    obtain ⟨a1, a2⟩ := w3 k hkm
    obtain ⟨b1, b2⟩ := w3 i him
    have hclk : (nI k).toNatClampNeg = k := nI_clamp (by omega)
    have hcli : (nI i).toNatClampNeg = i := nI_clamp (by omega)
    have hink : vp_in (nI k) 144 := vp_in_nI (by omega) (by decide)
    have hini : vp_in (nI i) 144 := vp_in_nI (by omega) (by decide)
    refine br_f (by rw [x1]; exact nI_ge hkm (by omega)) ⟨hink, ?_⟩
    rw [hclk, hcli, x4 k hkm, x4 i him, nI_clamp (show O k < 2 ^ 31 by omega), nI_clamp (show O i < 2 ^ 31 by omega), (hlen k hkm).1, (hlen i him).1]
    refine ⟨vp_in_nI a1 (by decide), hink, ?_⟩
    refine jx_atLeast a1 hg ?_
    refine nm_r (nI_add _ _) ⟨hini, vp_in_nI b1 (by decide), hini, ?_⟩
    refine jx_atLeast b1 hg ?_
    refine nm_r (nI_add _ _) ?_
    have f1 := (hlen k hkm).2
    have f2 := (hlen i him).2
    refine pk_le (js_f L g (O i)) (js_f L g (O k)) (fun h => nm_r (nI_1 k) (ih i (k + 1) (by omega) (by omega) ?_)) (fun h => nm_r (nI_1 k) (ih k (k + 1) (by omega) (by omega) ?_))
    · intro j hj
      by_cases e : j = k
      · rw [e]
        exact h
      · exact hmin j (by omega)
    · intro j hj
      by_cases e : j = k
      · rw [e]
        exact Nat.le_refl _
      · exact Nat.le_trans (Nat.le_of_lt h) (hmin j (by omega))
theorem jx_takeBest {post : Int32 → SX → Prop} (hX : js_X M L P O m oc len dir mk op) (hW : js_W M L P O m) (hg : g < 144) (h0 : 0 < m)
    (hpost : ∀ (i : Nat) (oc' : Int32) (mk' op' : Nat → Int32), i < m → (∀ j, j < m → js_f L g (O i) ≤ js_f L g (O j)) → js_X (js_u M (O i) 2) L P (js_u O i (O (m - 1))) (m - 1) oc' len dir mk' op' → post (nI (O i)) (oc', nI g, ld, w, len, dir, mk', op')) :
    wpX_takeBest post (oc, nI g, ld, w, len, dir, mk, op) := by
  refine ⟨m - 1 + 1, ?_⟩
  refine jx_tb4 hX hW hg hpost (m - 1) 0 1 (by omega) (by omega) ?_
  intro j hj
  have e : j = 0 := by omega
  rw [e]
  exact Nat.le_refl _
end
end
section
/-! ===== the component: goOn and search ===== -/
theorem jx_Teq {F : Int → Int → Prop} {gx gy a b : Int} (h0 : a = 0 ∨ b = 0) : jp_T F gx gy a b = jp_S F gx gy a b := by
  funext x y
  apply propext
  constructor
  · rintro (h | ⟨ha, hb, _⟩)
    · exact h
    · exact absurd h0 (fun z => z.elim ha hb)
  · exact Or.inl
theorem jx_bitd {p d : Nat} (hp : p < 512) (hd : d < 9) : (nI p >>> (nI d &&& 31)) &&& 1 = nI (p / 2 ^ d % 2) := by
  rw [pk_shrN (show p < 2 ^ 31 by omega) _ d (s_l d (by omega))]
  have h1 : p / 2 ^ d ≤ p := Nat.div_le_self _ _
  exact pk_andN (show p / 2 ^ d < 2 ^ 32 by omega) 1 (by decide)
section
variable {w : Nat → Int32} {oc ld : Int32} {len dir mk op : Nat → Int32} {M L P O : Nat → Nat} {m g c d : Nat}
theorem jx_150 {post : SX → Prop} {J : Int32 → Int32 → Int32 → Int32 → (Nat → Int32) → (Nat → Int32) → (Nat → Int32) → (Nat → Int32) → (Nat → Int32) → Prop} {x2 x6 : Int32} {k nx c' : Nat} {a b : Int}
    (hx6 : (x6 = 0 ∧ (a = 0 ∨ b = 0)) ∨ (x6 = 1 ∧ a ≠ 0 ∧ b ≠ 0)) (hX : js_X M L P O m oc len dir mk op) (hW : js_W M L P O m) (hc : c < 144) (hMc : M c ≠ 0) (hk : k ≤ 11) (hc' : c' < 144) (hnx : nx < 512)
    (hJ : ∀ (M' L' P' O' : Nat → Nat) (m' : Nat) (oc' : Int32) (len' dir' mk' op' : Nat → Int32), js_O c' (L c + k * jp_c a b) nx M L P O m M' L' P' O' m' → js_X M' L' P' O' m' oc' len' dir' mk' op' → J (nI (d + 1)) oc' (nI g) ld w len' dir' mk' op') :
    wX_goOn_150 post J (nI c) x2 (nI d) x6 (nI k) (nI c') (nI nx) oc (nI g) ld w len dir mk op := by
  have hb1 := (hW.2.1 c hc hMc).1
  have hb2 := js_cnt_le M
  have e10 : (10 : Int32) = nI 10 := rfl
  have e14 : (14 : Int32) = nI 14 := rfl
  refine ⟨vp_in_nI hc (by decide), ?_⟩
  rw [nI_clamp (show c < 2 ^ 31 by omega), (hX.2.2.1 c hc hMc).1]
  rcases hx6 with ⟨e6, h0⟩ | ⟨e6, ha, hb⟩
  · rw [jp_c10 h0] at hJ
    refine br_t e6 ?_
    unfold wX_goOn_173
    rw [e10, pk_mul, nI_add]
    exact jx_offer hX hW hc' (by omega) hnx (fun M' L' P' O' m' oc' len' dir' mk' op' h h' => nm_r (nI_1 d) (hJ M' L' P' O' m' oc' len' dir' mk' op' h h'))
  · rw [jp_c14 ha hb] at hJ
    refine br_f (by rw [e6]; decide) ?_
    unfold wX_goOn_173
    rw [e14, pk_mul, nI_add]
    exact jx_offer hX hW hc' (by omega) hnx (fun M' L' P' O' m' oc' len' dir' mk' op' h h' => nm_r (nI_1 d) (hJ M' L' P' O' m' oc' len' dir' mk' op' h h'))
theorem jx_88 {post : SX → Prop} {J : Int32 → Int32 → Int32 → Int32 → (Nat → Int32) → (Nat → Int32) → (Nat → Int32) → (Nat → Int32) → (Nat → Int32) → Prop} {x2 x4 x5 x6 : Int32} {k : Nat} {a b x y : Int}
    (hx6 : (x6 = 0 ∧ (a = 0 ∨ b = 0)) ∨ (x6 = 1 ∧ a ≠ 0 ∧ b ≠ 0)) (h4 : x4.toInt = a) (h5 : x5.toInt = b) (hu : jp_u a b) (hX : js_X M L P O m oc len dir mk op) (hW : js_W M L P O m) (hc : c < 144) (hMc : M c ≠ 0) (hk0 : 0 < k) (hk : k ≤ 11) (hG : jc_G x y)
    (hJ : ∀ (nx : Nat) (M' L' P' O' : Nat → Nat) (m' : Nat) (oc' : Int32) (len' dir' mk' op' : Nat → Int32), jx_set nx (jp_nf (jc_F w) x y a b) → js_O (jc_i x y) (L c + k * jp_c a b) nx M L P O m M' L' P' O' m' → js_X M' L' P' O' m' oc' len' dir' mk' op' → J (nI (d + 1)) oc' (nI g) (nI (jc_i x y)) w len' dir' mk' op') :
    wX_goOn_88 post J (nI c) x2 (nI d) x4 x5 x6 (nI k) oc (nI g) (nI (jc_i x y)) w len dir mk op := by
  have ha : jx_r a := ⟨hu.1, hu.2.1⟩
  have hb : jx_r b := ⟨hu.2.2.1, hu.2.2.2.1⟩
  have r0 : jx_r 0 := by
    unfold jx_r
    omega
  have hl := jc_il hG.1 hG.2.1 hG.2.2.1 hG.2.2.2
  refine br_f (nI_ne0 hk0 (by omega)) ?_
  refine jx_bit h4 h5 ha hb ?_
  refine jx_forced hl h4 h5 hu (fun s hs => ?_)
  rw [jc_xi hG.1 hG.2.1 hG.2.2.1 hG.2.2.2, jc_yi hG.1 hG.2.1 hG.2.2.1 hG.2.2.2] at hs
  refine nm_r (jx_or _ _) ?_
  rcases id hx6 with ⟨e6, h0⟩ | ⟨e6, ha0, hb0⟩
  · refine br_t e6 ?_
    have hset : jx_set (2 ^ jx_ib a b ||| s) (jp_nf (jc_F w) x y a b) := by
      refine jx_setc (jx_setor (jx_set1 hu) hs) (fun e f _ => ?_)
      constructor
      · rintro (h | h)
        · exact Or.inl h
        · exact Or.inr (Or.inr h)
      · rintro (h | ⟨h1, h2, _⟩ | h)
        · exact Or.inl h
        · exact absurd h0 (fun z => z.elim h1 h2)
        · exact Or.inr h
    exact jx_150 hx6 hX hW hc hMc hk hl hset.1.1 (fun M' L' P' O' m' oc' len' dir' mk' op' h h' => hJ _ M' L' P' O' m' oc' len' dir' mk' op' hset h h')
  · refine br_f (by rw [e6]; decide) ?_
    refine jx_bit h4 jt_0 ha r0 ?_
    refine jx_bit jt_0 h5 r0 hb ?_
    have hset : jx_set (2 ^ jx_ib a b ||| s ||| (2 ^ jx_ib a 0 ||| 2 ^ jx_ib 0 b)) (jp_nf (jc_F w) x y a b) := by
      refine jx_setc (jx_setor (jx_setor (jx_set1 hu) hs) (jx_setor (jx_set1 (e0 := a) (f0 := 0) ?_) (jx_set1 (e0 := 0) (f0 := b) ?_))) (fun e f _ => ?_)
      · unfold jp_u at *
        omega
      · unfold jp_u at *
        omega
      · constructor
        · rintro ((h | h) | h)
          · exact Or.inl h
          · exact Or.inr (Or.inr h)
          · exact Or.inr (Or.inl ⟨ha0, hb0, h⟩)
        · rintro (h | ⟨_, _, h⟩ | h)
          · exact Or.inl (Or.inl h)
          · exact Or.inr h
          · exact Or.inl (Or.inr h)
    refine nm_r (e' := nI (2 ^ jx_ib a b ||| s ||| (2 ^ jx_ib a 0 ||| 2 ^ jx_ib 0 b))) (by rw [jx_or, jx_or]) ?_
    exact jx_150 hx6 hX hW hc hMc hk hl hset.1.1 (fun M' L' P' O' m' oc' len' dir' mk' op' h h' => hJ _ M' L' P' O' m' oc' len' dir' mk' op' hset h h')
end
theorem jx_go9 {post : SX → Prop} {w : Nat → Int32} {s g c p mu0 : Nat} (hg : g < 144) (hc : c < 144) (hp : p < 512)
    (hpost : ∀ (M L P O : Nat → Nat) (m : Nat) (oc ld : Int32) (len dir mk op : Nat → Int32), js_X M L P O m oc len dir mk op → js_I w s g c 9 M L P O m → js_mu M L P m ≤ mu0 → post (oc, nI g, ld, w, len, dir, mk, op)) :
    ∀ (e d : Nat) (M L P O : Nat → Nat) (m : Nat) (oc ld : Int32) (len dir mk op : Nat → Int32), d + e = 9 → js_X M L P O m oc len dir mk op → js_I w s g c d M L P O m → M c = 2 → P c = p → js_mu M L P m ≤ mu0 →
      wX_goOn_9 post (nI c) (nI p) (e + 1) (nI d) oc (nI g) ld w len dir mk op := by
  intro e
  induction e with
  | zero =>
    intro d M L P O m oc ld len dir mk op e hX hI _ _ hmu
    have e : d = 9 := by omega
    subst e
    exact br_t (by decide) (hpost M L P O m oc ld len dir mk op hX hI hmu)
  | succ e ih =>
    intro d M L P O m oc ld len dir mk op ed hX hI hM hP hmu
    have hd : d < 9 := by omega
    have hskip : (∀ (a b : Int) (k : Nat), jp_u a b → jx_ib a b = d → p.testBit d = true → ¬ jp_J (jc_F w) (jp_T (jc_F w) (jc_x g) (jc_y g) a b) (jc_x c) (jc_y c) a b k) →
        ∀ (ld : Int32) (x3 : Int32), x3 = nI d + 1 → wX_goOn_9 post (nI c) (nI p) (e + 1) x3 oc (nI g) ld w len dir mk op := by
      intro h ld
      refine nm_r (nI_1 d) (ih (d + 1) M L P O m oc ld len dir mk op (by omega) hX (js_next hI ?_) hM hP hmu)
      intro a b k hu hib hbit hJ
      rw [hP, hib] at hbit
      exact absurd hJ (h a b k hu hib hbit)
    refine br_f (nI_ge (b := 9) hd (by decide)) ?_
    rw [jx_bitd hp hd]
    refine pk_eq (p / 2 ^ d % 2) 0 (fun h0 => hskip ?_ ld) (fun h0 => ?_)
    · intro a b k hu hib hbit
      rw [Nat.testBit_eq_decide_div_mod_eq, h0] at hbit
      exact absurd hbit (by decide)
    refine pk_eq d 4 (fun h4 => hskip ?_ ld) (fun h4 => ?_)
    · intro a b k hu hib
      exact absurd (hib.trans h4) (js_ib9 hu).2
    refine ⟨by decide, fun x4 e4 => ⟨by decide, fun x5 e5 => ?_⟩⟩
    obtain ⟨a, ha⟩ : ∃ a : Int, a = ((d % 3 : Nat) : Int) - 1 := ⟨_, rfl⟩
    obtain ⟨b, hb⟩ : ∃ b : Int, b = ((d / 3 : Nat) : Int) - 1 := ⟨_, rfl⟩
    have hu : jp_u a b := by
      unfold jp_u
      omega
    have hib : jx_ib a b = d := by
      unfold jx_ib
      omega
    have e3 : nI d - nI d / 3 * 3 = nI (d % 3) := pk_rem (d := 3) (by omega) (by decide) (by decide)
    have e3' : nI d / 3 = nI (d / 3) := pk_div (d := 3) (by omega) (by decide) (by decide)
    have h4 : x4.toInt = a := by
      rw [e4, e3, jt_sub _ _ (jt_n (by omega)) jt_1 (by omega) (by omega) (by omega) (by omega)]
      exact ha.symm
    have h5 : x5.toInt = b := by
      rw [e5, e3', jt_sub _ _ (jt_n (by omega)) jt_1 (by omega) (by omega) (by omega) (by omega)]
      exact hb.symm
    have hPbit : p.testBit d = true := by
      rw [Nat.testBit_eq_decide_div_mod_eq]
      exact decide_eq_true (by omega)
    have hM0 : M c ≠ 0 := by omega
    have hland : ∀ (x6 : Int32) (k : Nat), ((x6 = 0 ∧ (a = 0 ∨ b = 0)) ∨ (x6 = 1 ∧ a ≠ 0 ∧ b ≠ 0)) → jp_J (jc_F w) (jp_T (jc_F w) (jc_x g) (jc_y g) a b) (jc_x c) (jc_y c) a b k →
        wX_goOn_88 post (wX_goOn_9 post (nI c) (nI p) (e + 1)) (nI c) (nI p) (nI d) x4 x5 x6 (nI k) oc (nI g) (nI (jc_i (jc_x c + k * a) (jc_y c + k * b))) w len dir mk op := by
      intro x6 k hx6 hJ
      have hk := js_Jk hc hu hJ
      have hF := hJ.2.1 k hJ.1 (Nat.le_refl k)
      have hG : jc_G (jc_x c + k * a) (jc_y c + k * b) := ⟨hF.1, hF.2.1, hF.2.2.1, hF.2.2.2.1⟩
      have hl := jc_Fl hF
      refine jx_88 hx6 h4 h5 hu hX hI.1 hc hM0 hJ.1 hk hG ?_
      intro nx M' L' P' O' m' oc' len' dir' mk' op' hset hO hX'
      have hcost : k * jp_c a b ≤ 154 := by
        rcases jp_c_in a b with h | h <;> rw [h] <;> omega
      have hn : L c + k * jp_c a b ≤ 154 * js_cnt M := by
        have := (hI.1.2.1 c hc hM0).1
        omega
      have hR : jp_R (jc_F w) (jc_x s) (jc_y s) (L c + k * jp_c a b) (jc_x (jc_i (jc_x c + k * a) (jc_y c + k * b))) (jc_y (jc_i (jc_x c + k * a) (jc_y c + k * b))) := by
        rw [jc_Fx hF, jc_Fy hF]
        exact js_Rk (hI.2.1 c hc hM0) hu k hJ.2.1
      have hpos : 0 < k * jp_c a b := by
        have h1 := hJ.1
        rcases jp_c_in a b with h | h <;> rw [h] <;> omega
      obtain ⟨k1, k2, k3⟩ := js_keep hO c hM0 (fun _ => by omega)
      refine ih (d + 1) M' L' P' O' m' oc' _ len' dir' mk' op' (by omega) hX' (js_next (js_OI hO hI hl hn hset.1.1 hR) ?_) (k1.trans hM) (k3.trans hP) (Nat.le_trans (js_Omu hO hI.1 hl hn hset.1.1) hmu)
      intro a' b' k' hu' hib' _ hJ'
      obtain ⟨ea, eb⟩ := js_ibu hu' hu (hib'.trans hib.symm)
      subst ea eb
      have ek := js_Ju hJ' hJ
      subst ek
      rw [k2]
      obtain ⟨t1, t2⟩ := js_dom hO
      refine ⟨t1, ?_⟩
      rcases t2 with t2 | ⟨t2, t3⟩
      · exact Or.inl t2
      · exact Or.inr ⟨t2, fun e f huef hnf => t3 _ ((hset.2 e f huef).mpr hnf)⟩
    have hnone : ∀ (x6 ld : Int32), (∀ k, ¬ jp_J (jc_F w) (jp_T (jc_F w) (jc_x g) (jc_y g) a b) (jc_x c) (jc_y c) a b k) →
        wX_goOn_88 post (wX_goOn_9 post (nI c) (nI p) (e + 1)) (nI c) (nI p) (nI d) x4 x5 x6 0 oc (nI g) ld w len dir mk op := by
      intro x6 ld h
      refine br_t rfl (hskip ?_ ld)
      intro a' b' k' hu' hib' _ hJ'
      obtain ⟨ea, eb⟩ := js_ibu hu' hu (hib'.trans hib.symm)
      subst ea eb
      exact h k' hJ'
    have hstr : (a = 0 ∨ b = 0) → wX_goOn_59 post (wX_goOn_9 post (nI c) (nI p) (e + 1)) (nI c) (nI p) (nI d) x4 x5 oc (nI g) ld w len dir mk op := by
      intro h0
      have eT := jx_Teq (F := jc_F w) (gx := jc_x g) (gy := jc_y g) h0
      unfold wX_goOn_59
      refine br_t rfl ?_
      refine jx_js hc hg h4 h5 hu (fun k hk hJ => hland 0 k (Or.inl ⟨rfl, h0⟩) (by rw [eT]; exact hJ)) (fun h => hnone 0 _ (by rw [eT]; exact h))
    refine jt_eq _ _ h4 jt_0 (fun h => hstr (Or.inl h)) (fun ha0 => ?_)
    refine jt_eq _ _ h5 jt_0 (fun h => hstr (Or.inr h)) (fun hb0 => ?_)
    refine br_f (by decide) ?_
    exact jx_jd hc hg h4 h5 hu ha0 hb0 (fun k hk hJ => hland 1 k (Or.inr ⟨rfl, ha0, hb0⟩) hJ) (fun h => hnone 1 _ h)
section
variable {w : Nat → Int32} {s g : Nat}
theorem jx_41 {post : Int32 → SX → Prop} (hs : s < 144) (hg : g < 144) (hw : w s = 0)
    (hdist : ∀ (n : Nat) (oc gl ld : Int32) (len dir mk op : Nat → Int32), jp_D (jc_F w) (jc_x s) (jc_y s) n (jc_x g) (jc_y g) → post (nI n) (oc, gl, ld, w, len, dir, mk, op))
    (hno : ∀ (oc gl ld : Int32) (len dir mk op : Nat → Int32), (¬ ∃ n, jp_R (jc_F w) (jc_x s) (jc_y s) n (jc_x g) (jc_y g)) → post (-2) (oc, gl, ld, w, len, dir, mk, op)) :
    ∀ (n c0 : Nat) (M L P O : Nat → Nat) (m : Nat) (oc ld : Int32) (len dir mk op : Nat → Int32), js_mu M L P m < n → js_X M L P O m oc len dir mk op → js_I w s g c0 9 M L P O m →
      wX_search_41 post (nI g) n oc (nI g) ld w len dir mk op := by
  intro n
  induction n with
  | zero =>
    intro c0 M L P O m oc ld len dir mk op h
    exact absurd h (Nat.not_lt_zero _)
  | succ n ih =>
    intro c0 M L P O m oc ld len dir mk op hmu hX hI
    have hm := js_m144 hI.1
    obtain ⟨x1, x2, x3, x4⟩ := id hX
    refine pk_le m 0 (fun h0 => hno _ _ _ _ _ _ _ ?_) (fun h0 => ?_) (hx := x1)
    · rintro ⟨k, hk⟩
      obtain ⟨k', hD, _⟩ := jp_Dex hk
      obtain ⟨c, hc, h1, _⟩ := js_best hI hs hg hw hD
      obtain ⟨i, hi, _⟩ := hI.1.2.2.2.2 c hc h1
      omega
    · refine jx_takeBest hX hI.1 hg h0 ?_
      intro i oc' mk' op' hi hmin hX'
      obtain ⟨a1, a2⟩ := hI.1.2.2.1 i hi
      refine pk_eq (O i) g (fun e => ⟨vp_in_nI hg (by decide), ?_⟩) (fun e => ?_)
      · rw [nI_clamp (show g < 2 ^ 31 by omega)]
        have hMg : M g ≠ 0 := by
          rw [← e]
          omega
        rw [(x3 g hg hMg).1]
        refine hdist _ _ _ _ _ _ _ _ ?_
        obtain ⟨k, hD, hle⟩ := jp_Dex (hI.2.1 g hg hMg)
        obtain ⟨c, hc, h1, h2⟩ := js_best hI hs hg hw hD
        obtain ⟨j, hj, ej⟩ := hI.1.2.2.2.2 c hc h1
        have h3 := hmin j hj
        rw [ej, e] at h3
        unfold js_f at h3
        rw [jp_h0] at h3
        have h4 : L g = k := by omega
        rw [h4]
        exact hD
      · have hI' := js_pop hI hi e
        have hmu' := js_popmu hI.1 hi
        have hc2 : js_u M (O i) 2 (O i) = 2 := js_us
        have hPp := (hI'.1.2.1 (O i) a1 (by rw [hc2]; decide)).2
        refine ⟨vp_in_nI a1 (by decide), ?_⟩
        rw [nI_clamp (show O i < 2 ^ 31 by omega), (x3 (O i) a1 (by omega)).2]
        refine nm_e ⟨10, ?_⟩
        refine jx_go9 (mu0 := js_mu (js_u M (O i) 2) L P (m - 1)) hg a1 hPp ?_ 9 0 _ L P _ (m - 1) oc' ld len dir mk' op' rfl hX' hI' hc2 rfl (Nat.le_refl _)
        intro M1 L1 P1 O1 m1 oc1 ld1 len1 dir1 mk1 op1 hX1 hI1 hmu1
        exact ih (O i) M1 L1 P1 O1 m1 oc1 ld1 len1 dir1 mk1 op1 (by omega) hX1 hI1
theorem jx_2 {post : Int32 → SX → Prop} {oc gl ld : Int32} (hs : s < 144) (hg : g < 144) (hw : w s = 0)
    (hdist : ∀ (n : Nat) (oc gl ld : Int32) (len dir mk op : Nat → Int32), jp_D (jc_F w) (jc_x s) (jc_y s) n (jc_x g) (jc_y g) → post (nI n) (oc, gl, ld, w, len, dir, mk, op))
    (hno : ∀ (oc gl ld : Int32) (len dir mk op : Nat → Int32), (¬ ∃ n, jp_R (jc_F w) (jc_x s) (jc_y s) n (jc_x g) (jc_y g)) → post (-2) (oc, gl, ld, w, len, dir, mk, op)) :
    ∀ (d i : Nat) (len dir mk op : Nat → Int32), i + d = 144 → (∀ c, c < i → mk c = 0) → wX_search_2 post (nI s) (nI g) oc gl ld (d + 1) (nI i) w len dir mk op := by
  intro d
  induction d with
  | zero =>
    intro i len dir mk op e hI
    have e : i = 144 := by omega
    subst e
    have hX0 : js_X (fun _ => 0) (fun _ => 0) (fun _ => 0) (fun _ => 0) 0 0 len dir mk op := ⟨rfl, fun c hc => hI c hc, fun c hc h => absurd rfl h, fun i hi => absurd hi (Nat.not_lt_zero i)⟩
    have hW0 : js_W (fun _ => 0) (fun _ => 0) (fun _ => 0) (fun _ => 0) 0 := ⟨fun _ _ => Nat.zero_le _, fun c hc h => absurd rfl h, fun i hi => absurd hi (Nat.not_lt_zero i), fun i j _ hj => absurd hj (Nat.not_lt_zero j), fun c hc h => absurd (show (0 : Nat) = 1 from h) (by decide)⟩
    refine br_t (by decide) ?_
    refine jx_offer (n := 0) (d := 511) hX0 hW0 hs (by decide) (by decide) ?_
    intro M' L' P' O' m' oc' len' dir' mk' op' hO hX'
    have hWn := js_OW hO hW0 hs (Nat.zero_le _) (by decide)
    refine ⟨js_mu M' L' P' m' + 1, ?_⟩
    refine jx_41 hs hg hw hdist hno _ 0 M' L' P' O' m' oc' ld len' dir' mk' op' (by omega) hX' ⟨hWn, ?_⟩
    rcases hO with ⟨_, _, _, _, _, h, _⟩ | ⟨p, e1, e2, e3, h1, h2⟩
    · exact absurd rfl h
    · have hp : p = 511 := by
        rcases h1 with ⟨_, e⟩ | ⟨h, _⟩
        · exact e
        · exact absurd rfl h
      subst hp
      refine ⟨?_, ?_, ?_, ?_⟩
      · intro c hc hM
        rw [e1] at hM
        by_cases e : c = s
        · rw [e2, e, js_us]
          exact jp_R0
        · rw [js_un e] at hM
          exact absurd rfl hM
      · rw [e1, e2, e3, js_us, js_us, js_us]
        exact ⟨by decide, rfl, by decide⟩
      · rw [e1]
        by_cases e : g = s
        · rw [e, js_us]
          decide
        · rw [js_un e]
          decide
      · intro c a b k hc hM
        rw [e1] at hM
        by_cases e : c = s
        · rw [e, js_us] at hM
          exact absurd hM (by decide)
        · rw [js_un e] at hM
          exact absurd hM (by decide)
  | succ d ih =>
    intro i len dir mk op e hI
    refine br_f (nI_ge (b := 144) (by omega) (by decide)) ⟨vp_in_nI (by omega) (by decide), ?_⟩
    rw [nI_clamp (show i < 2 ^ 31 by omega), jx_b0]
    refine nm_e (nm_r (nI_1 i) (ih (i + 1) len dir _ op (by omega) ?_))
    intro c hc
    by_cases e : c = i
    · rw [e]
      exact pk_us
    · rw [pk_un e]
      exact hI c (by omega)
theorem jx_search {post : Int32 → SX → Prop} {oc gl ld : Int32} {len dir mk op : Nat → Int32} (hs : s < 144) (hg : g < 144) (hw : w s = 0)
    (hdist : ∀ (n : Nat) (oc gl ld : Int32) (len dir mk op : Nat → Int32), jp_D (jc_F w) (jc_x s) (jc_y s) n (jc_x g) (jc_y g) → post (nI n) (oc, gl, ld, w, len, dir, mk, op))
    (hno : ∀ (oc gl ld : Int32) (len dir mk op : Nat → Int32), (¬ ∃ n, jp_R (jc_F w) (jc_x s) (jc_y s) n (jc_x g) (jc_y g)) → post (-2) (oc, gl, ld, w, len, dir, mk, op)) :
    wpX_search post (oc, gl, ld, w, len, dir, mk, op) (nI s) (nI g) :=
  ⟨145, jx_2 hs hg hw hdist hno 144 0 len dir mk op rfl (fun c hc => absurd hc (Nat.not_lt_zero c))⟩
end
end
section
/-! ===== the methods' pieces ===== -/
theorem jc_w14 {F : Int → Int → Prop} {sx sy : Int} : ∀ (k n : Nat) (x y : Int), jp_w F sx sy k n x y → n ≤ 14 * k := by
  intro k
  induction k with
  | zero =>
    intro n x y h
    have := h.1
    omega
  | succ k ih =>
    rintro n x y ⟨_, a, b, m, _, hw, e⟩
    have h1 := ih m _ _ hw
    have h2 := jp_c_in a b
    omega
def jc_B (w : Nat → Int32) (f c : Nat) : Int32 → Prop := fun r => (0 ≤ (jc_A w f c).toInt ∧ r = jc_A w f c) ∨ (jc_A w f c = -1 ∧ r = -2)
theorem jc_Bu {w : Nat → Int32} {f c : Nat} {r r' : Int32} (h : jc_B w f c r) (h' : jc_B w f c r') : r' = r := by
  rcases h with ⟨h1, h2⟩ | ⟨h1, h2⟩ <;> rcases h' with ⟨h3, h4⟩ | ⟨h3, h4⟩
  · rw [h2, h4]
  · rw [h3] at h1
    exact absurd h1 (by decide)
  · rw [h1] at h3
    exact absurd h3 (by decide)
  · rw [h2, h4]
theorem jc_Aw {w : Nat → Int32} {f c : Nat} (hf : f < 144) (hw : w f = 0) (hc : c < 144) (hwc : w c ≠ 0) : jc_A w f c = -1 := by
  refine jc_A0 ?_
  rintro ⟨n, hn⟩
  exact hwc ((jc_Fc hc).mp (jp_RF ((jc_Fc hf).mpr hw) hn))
theorem jx_srch {post : Int32 → SX → Prop} {w : Nat → Int32} {f t : Nat} {oc gl ld : Int32} {len dir mk op : Nat → Int32} (hf : f < 144) (ht : t < 144) (hw : w f = 0)
    (h : ∀ (r oc gl ld : Int32) (len dir mk op : Nat → Int32), jc_B w f t r → post r (oc, gl, ld, w, len, dir, mk, op)) : wpX_search post (oc, gl, ld, w, len, dir, mk, op) (nI f) (nI t) := by
  refine jx_search hf ht hw (fun n oc gl ld len dir mk op hD => h _ _ _ _ _ _ _ _ (Or.inl ?_)) (fun oc gl ld len dir mk op hn => h _ _ _ _ _ _ _ _ (Or.inr ⟨jc_A0 hn, rfl⟩))
  obtain ⟨k, hk, hkw⟩ := jc_short ((jc_Fc hf).mpr hw) hD
  have h1 := jc_w14 _ _ _ _ hkw
  rw [jc_A1 hD, nI_toInt (by omega)]
  exact ⟨by omega, rfl⟩
theorem jx_ft {post : Int32 → Prop} {oc gl ld : Int32} {w len dir mk op : Nat → Int32} {c : Nat} (hc : c < 144) (hw : w c = 0) (h : post 1) : wpX_isFree post (oc, gl, ld, w, len, dir, mk, op) (nI c) := by
  refine br_f (nI_pos (by omega)) (br_f (nI_ge (b := 144) hc (by decide)) ⟨vp_in_nI hc (by decide), ?_⟩)
  rw [nI_clamp (show c < 2 ^ 31 by omega)]
  exact br_t hw h
theorem jx_ff {post : Int32 → Prop} {oc gl ld : Int32} {w len dir mk op : Nat → Int32} {v : Int32} (hn : ¬ ∃ c, c < 144 ∧ v = nI c ∧ w c = 0) (h : post 0) : wpX_isFree post (oc, gl, ld, w, len, dir, mk, op) v := by
  refine br_c (fun _ => h) (fun h0 => br_c (fun _ => h) (fun h1 => ?_))
  rcases pk_ix v (n := 144) (by decide) with z | z | ⟨j, hj, rfl⟩
  · exact absurd z h0
  · exact absurd z h1
  · refine ⟨vp_in_nI hj (by decide), ?_⟩
    rw [nI_clamp (show j < 2 ^ 31 by omega)]
    exact br_c (fun hw => absurd ⟨j, hj, rfl, hw⟩ hn) (fun _ => h)
theorem jy_ct {post : Int32 → Prop} {w far : Nat → Int32} {c : Nat} (hc : c < 144) (h : post 1) : wpY_isCell post (w, far) (nI c) :=
  br_f (nI_pos (by omega)) (br_f (nI_nlt (a := 143) (b := c) (by omega) (by decide)) h)
theorem jy_cf {post : Int32 → Prop} {w far : Nat → Int32} {v : Int32} (hn : ¬ ∃ c, c < 144 ∧ v = nI c) (h : post 0) : wpY_isCell post (w, far) v := by
  refine br_c (fun _ => h) (fun h0 => br_c (fun _ => h) (fun h1 => ?_))
  obtain ⟨j, hj, rfl⟩ := nI_of h0
  have h2 : ¬ nI 143 < nI j := h1
  rw [nI_ltI (by decide) hj] at h2
  exact absurd ⟨j, by omega, rfl⟩ hn
theorem jy_ft {post : Int32 → Prop} {w far : Nat → Int32} {c : Nat} (hc : c < 144) (hw : w c = 0) (h : post 1) : wpY_isFree post (w, far) (nI c) := by
  unfold wpY_isFree
  refine jy_ct hc (br_f (by decide) ⟨vp_in_nI hc (by decide), ?_⟩)
  rw [nI_clamp (show c < 2 ^ 31 by omega)]
  exact br_t hw h
theorem jy_ff {post : Int32 → Prop} {w far : Nat → Int32} {v : Int32} (hn : ¬ ∃ c, c < 144 ∧ v = nI c ∧ w c = 0) (h : post 0) : wpY_isFree post (w, far) v := by
  unfold wpY_isFree
  by_cases hc : ∃ c, c < 144 ∧ v = nI c
  · obtain ⟨c, hc, rfl⟩ := hc
    refine jy_ct hc (br_f (by decide) ⟨vp_in_nI hc (by decide), ?_⟩)
    rw [nI_clamp (show c < 2 ^ 31 by omega)]
    exact br_f (fun hw => hn ⟨c, hc, rfl, hw⟩) h
  · exact jy_cf hc (br_t rfl h)
theorem jc_Ain {w : Nat → Int32} {f c : Nat} (hf : f < 144) (hw : w f = 0) : 0 ≤ (jc_A w f c).toInt ∨ jc_A w f c = -1 := by
  by_cases h : ∃ n, jp_R (jc_F w) (jc_x f) (jc_y f) n (jc_x c) (jc_y c)
  · obtain ⟨n, hn⟩ := h
    obtain ⟨m, hD, _⟩ := jp_Dex hn
    obtain ⟨k, hk, hkw⟩ := jc_short ((jc_Fc hf).mpr hw) hD
    have h1 := jc_w14 _ _ _ _ hkw
    left
    rw [jc_A1 hD, nI_toInt (by omega)]
    omega
  · exact Or.inr (jc_A0 h)
theorem jy_dist {post : Int32 → SY → Prop} {w far : Nat → Int32} {f t : Nat} (hf : f < 144) (ht : t < 144) (hw : w f = 0) (hwt : w t = 0)
    (h : ∀ (r : Int32) (far : Nat → Int32), jc_B w f t r → post r (w, far)) : wpY_distance post (w, far) (nI f) (nI t) := by
  unfold wpY_distance
  refine jy_ft hf hw (br_f (by decide) ?_)
  refine jy_ft ht hwt (br_f (by decide) ?_)
  refine jy_search hf hw (fun far' hA => ?_)
  have hin : vp_in (nI t) 144 := vp_in_nI ht (by decide)
  refine ⟨hin, ?_⟩
  rw [nI_clamp (show t < 2 ^ 31 by omega), hA t ht]
  rcases jc_Ain (c := t) hf hw with h0 | h0
  · exact jt_le _ _ jt_0 rfl (fun _ => ⟨hin, h _ _ (Or.inl ⟨h0, rfl⟩)⟩) (fun z => absurd z (by omega))
  · exact jt_le 0 (-1) jt_0 (by rw [h0]; exact jt_m1) (fun z => absurd z (by decide)) (fun _ => h _ _ (Or.inr ⟨h0, rfl⟩))
section
variable {w : Nat → Int32} {f : Nat}
theorem jm_far (hf : f < 144) (hw : w f = 0) : ∀ (d i : Nat) (x2 : Int32), i + d = 144 → 0 ≤ x2.toInt →
    ∃ r : Int32, (∀ (post : Int32 → SX → Prop) (oc gl ld : Int32) (len dir mk op : Nat → Int32), (∀ (oc gl ld : Int32) (len dir mk op : Nat → Int32), post r (oc, gl, ld, w, len, dir, mk, op)) → wX_farthest_14 post (nI f) (d + 1) x2 (nI i) oc gl ld w len dir mk op) ∧
      (∀ (post : Int32 → SY → Prop) (far : Nat → Int32), (∀ c, c < 144 → far c = jc_A w f c) → post r (w, far) → wY_farthest_19 post w far (d + 1) x2 (nI i)) := by
  intro d
  induction d with
  | zero =>
    intro i x2 e _
    have e : i = 144 := by omega
    subst e
    exact ⟨x2, fun post oc gl ld len dir mk op h => br_t (by decide) (h _ _ _ _ _ _ _), fun post far _ h => br_t (by decide) h⟩
  | succ d ih =>
    intro i x2 e h2
    have h144 : ¬ (144 : Int32) ≤ nI i := nI_ge (b := 144) (by omega) (by decide)
    have hin : vp_in (nI i) 144 := vp_in_nI (by omega) (by decide)
    have hcl : (nI i).toNatClampNeg = i := nI_clamp (by omega)
    have skip : jc_A w f i ≤ x2 → (∀ r, w i = 0 → jc_B w f i r → r ≤ x2) → ∃ r : Int32, (∀ (post : Int32 → SX → Prop) (oc gl ld : Int32) (len dir mk op : Nat → Int32), (∀ (oc gl ld : Int32) (len dir mk op : Nat → Int32), post r (oc, gl, ld, w, len, dir, mk, op)) → wX_farthest_14 post (nI f) (d + 1 + 1) x2 (nI i) oc gl ld w len dir mk op) ∧
      (∀ (post : Int32 → SY → Prop) (far : Nat → Int32), (∀ c, c < 144 → far c = jc_A w f c) → post r (w, far) → wY_farthest_19 post w far (d + 1 + 1) x2 (nI i)) := by
      intro hA hB
      obtain ⟨r, h1, h3⟩ := ih (i + 1) x2 (by omega) h2
      refine ⟨r, fun post oc gl ld len dir mk op h => br_f h144 ⟨hin, ?_⟩, fun post far hfar h => br_f h144 ⟨hin, ?_⟩⟩
      · rw [hcl]
        refine br_c (fun hwi => ?_) (fun _ => nm_r (nI_1 i) (h1 _ _ _ _ _ _ _ _ h))
        exact jx_srch hf (by omega) hw (fun q oc gl ld len dir mk op hq => br_t (hB q hwi hq) (nm_r (nI_1 i) (h1 _ _ _ _ _ _ _ _ h)))
      · rw [hcl, hfar i (by omega)]
        exact br_t hA (nm_r (nI_1 i) (h3 _ _ hfar h))
    by_cases hwi : w i = 0
    · rcases jc_Ain (c := i) hf hw with hA | hA
      · by_cases hle : jc_A w f i ≤ x2
        · refine skip hle (fun r _ hr => ?_)
          rcases hr with ⟨_, e⟩ | ⟨z, _⟩
          · rw [e]
            exact hle
          · rw [z] at hA
            exact absurd hA (by decide)
        · obtain ⟨r, h1, h3⟩ := ih (i + 1) (jc_A w f i) (by omega) hA
          refine ⟨r, fun post oc gl ld len dir mk op h => br_f h144 ⟨hin, ?_⟩, fun post far hfar h => br_f h144 ⟨hin, ?_⟩⟩
          · rw [hcl]
            refine br_t hwi (jx_srch hf (by omega) hw (fun q oc gl ld len dir mk op hq => ?_))
            have eq : q = jc_A w f i := jc_Bu (Or.inl ⟨hA, rfl⟩) hq
            subst eq
            exact br_f hle (nm_r (nI_1 i) (h1 _ _ _ _ _ _ _ _ h))
          · rw [hcl, hfar i (by omega)]
            exact br_f hle ⟨hin, nm_e (nm_r (nI_1 i) (h3 _ _ hfar h))⟩
      · refine skip ?_ (fun r _ hr => ?_)
        · rw [hA, Int32.le_iff_toInt_le, jt_m1]
          omega
        · have eq : r = -2 := jc_Bu (Or.inr ⟨hA, rfl⟩) hr
          rw [eq, Int32.le_iff_toInt_le, jt_m2]
          omega
    · refine skip ?_ (fun r h _ => absurd h hwi)
      rw [jc_Aw hf hw (by omega) hwi, Int32.le_iff_toInt_le, jt_m1]
      omega
theorem jm_reach (hf : f < 144) (hw : w f = 0) : ∀ (d i : Nat) (x2 : Int32), i + d = 144 →
    ∃ r : Int32, (∀ (post : Int32 → SX → Prop) (oc gl ld : Int32) (len dir mk op : Nat → Int32), (∀ (oc gl ld : Int32) (len dir mk op : Nat → Int32), post r (oc, gl, ld, w, len, dir, mk, op)) → wX_reach_14 post (nI f) (d + 1) x2 (nI i) oc gl ld w len dir mk op) ∧
      (∀ (post : Int32 → SY → Prop) (far : Nat → Int32), (∀ c, c < 144 → far c = jc_A w f c) → post r (w, far) → wY_reach_19 post w far (d + 1) x2 (nI i)) := by
  intro d
  induction d with
  | zero =>
    intro i x2 e
    have e : i = 144 := by omega
    subst e
    exact ⟨x2, fun post oc gl ld len dir mk op h => br_t (by decide) (h _ _ _ _ _ _ _), fun post far _ h => br_t (by decide) h⟩
  | succ d ih =>
    intro i x2 e
    have h144 : ¬ (144 : Int32) ≤ nI i := nI_ge (b := 144) (by omega) (by decide)
    have hin : vp_in (nI i) 144 := vp_in_nI (by omega) (by decide)
    have hcl : (nI i).toNatClampNeg = i := nI_clamp (by omega)
    rcases jc_Ain (c := i) hf hw with hA | hA
    · have hwi : w i = 0 := by
        apply Classical.byContradiction
        intro hn
        rw [jc_Aw hf hw (by omega) hn] at hA
        exact absurd hA (by decide)
      have hA' : ¬ jc_A w f i < 0 := by
        rw [Int32.lt_iff_toInt_lt, jt_0]
        omega
      obtain ⟨r, h1, h3⟩ := ih (i + 1) (x2 + 1) (by omega)
      refine ⟨r, fun post oc gl ld len dir mk op h => br_f h144 ⟨hin, ?_⟩, fun post far hfar h => br_f h144 ⟨hin, ?_⟩⟩
      · rw [hcl]
        refine br_t hwi (jx_srch hf (by omega) hw (fun q oc gl ld len dir mk op hq => ?_))
        have eq : q = jc_A w f i := jc_Bu (Or.inl ⟨hA, rfl⟩) hq
        subst eq
        exact br_f hA' (nm_e (nm_r (nI_1 i) (h1 _ _ _ _ _ _ _ _ h)))
      · rw [hcl, hfar i (by omega)]
        exact br_f hA' (nm_e (nm_r (nI_1 i) (h3 _ _ hfar h)))
    · obtain ⟨r, h1, h3⟩ := ih (i + 1) x2 (by omega)
      refine ⟨r, fun post oc gl ld len dir mk op h => br_f h144 ⟨hin, ?_⟩, fun post far hfar h => br_f h144 ⟨hin, ?_⟩⟩
      · rw [hcl]
        refine br_c (fun hwi => ?_) (fun _ => nm_r (nI_1 i) (h1 _ _ _ _ _ _ _ _ h))
        refine jx_srch hf (by omega) hw (fun q oc gl ld len dir mk op hq => ?_)
        have eq : q = -2 := jc_Bu (Or.inr ⟨hA, rfl⟩) hq
        subst eq
        exact br_t (by decide) (nm_r (nI_1 i) (h1 _ _ _ _ _ _ _ _ h))
      · rw [hcl, hfar i (by omega), hA]
        exact br_t (by decide) (nm_r (nI_1 i) (h3 _ _ hfar h))
theorem jm_at (hf : f < 144) (hw : w f = 0) (v2 : Int32) : ∀ (d i : Nat), i + d = 144 →
    ∃ r : Int32, (∀ (post : Int32 → SX → Prop) (oc gl ld : Int32) (len dir mk op : Nat → Int32), (∀ (oc gl ld : Int32) (len dir mk op : Nat → Int32), post r (oc, gl, ld, w, len, dir, mk, op)) → wX_at_12 post (nI f) v2 (d + 1) (nI i) oc gl ld w len dir mk op) ∧
      (∀ (post : Int32 → SY → Prop) (far : Nat → Int32), (∀ c, c < 144 → far c = jc_A w f c) → post r (w, far) → wY_at_17 post v2 w far (d + 1) (nI i)) := by
  intro d
  induction d with
  | zero =>
    intro i e
    have e : i = 144 := by omega
    subst e
    exact ⟨-2, fun post oc gl ld len dir mk op h => br_t (by decide) (h _ _ _ _ _ _ _), fun post far _ h => br_t (by decide) h⟩
  | succ d ih =>
    intro i e
    have h144 : ¬ (144 : Int32) ≤ nI i := nI_ge (b := 144) (by omega) (by decide)
    have hin : vp_in (nI i) 144 := vp_in_nI (by omega) (by decide)
    have hcl : (nI i).toNatClampNeg = i := nI_clamp (by omega)
    obtain ⟨r, h1, h3⟩ := ih (i + 1) (by omega)
    rcases jc_Ain (c := i) hf hw with hA | hA
    · have hwi : w i = 0 := by
        apply Classical.byContradiction
        intro hn
        rw [jc_Aw hf hw (by omega) hn] at hA
        exact absurd hA (by decide)
      have hA' : ¬ jc_A w f i < 0 := by
        rw [Int32.lt_iff_toInt_lt, jt_0]
        omega
      by_cases hv : jc_A w f i = v2
      · refine ⟨nI i, fun post oc gl ld len dir mk op h => br_f h144 ⟨hin, ?_⟩, fun post far hfar h => br_f h144 ⟨hin, ?_⟩⟩
        · rw [hcl]
          refine br_t hwi (jx_srch hf (by omega) hw (fun q oc gl ld len dir mk op hq => ?_))
          have eq : q = jc_A w f i := jc_Bu (Or.inl ⟨hA, rfl⟩) hq
          subst eq
          exact br_f hA' (br_t hv (h _ _ _ _ _ _ _))
        · rw [hcl, hfar i (by omega)]
          exact br_f hA' ⟨hin, br_t hv h⟩
      · refine ⟨r, fun post oc gl ld len dir mk op h => br_f h144 ⟨hin, ?_⟩, fun post far hfar h => br_f h144 ⟨hin, ?_⟩⟩
        · rw [hcl]
          refine br_t hwi (jx_srch hf (by omega) hw (fun q oc gl ld len dir mk op hq => ?_))
          have eq : q = jc_A w f i := jc_Bu (Or.inl ⟨hA, rfl⟩) hq
          subst eq
          exact br_f hA' (br_f hv (nm_r (nI_1 i) (h1 _ _ _ _ _ _ _ _ h)))
        · rw [hcl, hfar i (by omega)]
          exact br_f hA' ⟨hin, br_f hv (nm_r (nI_1 i) (h3 _ _ hfar h))⟩
    · refine ⟨r, fun post oc gl ld len dir mk op h => br_f h144 ⟨hin, ?_⟩, fun post far hfar h => br_f h144 ⟨hin, ?_⟩⟩
      · rw [hcl]
        refine br_c (fun hwi => ?_) (fun _ => nm_r (nI_1 i) (h1 _ _ _ _ _ _ _ _ h))
        refine jx_srch hf (by omega) hw (fun q oc gl ld len dir mk op hq => ?_)
        have eq : q = -2 := jc_Bu (Or.inr ⟨hA, rfl⟩) hq
        subst eq
        exact br_t (by decide) (nm_r (nI_1 i) (h1 _ _ _ _ _ _ _ _ h))
      · rw [hcl, hfar i (by omega), hA]
        exact br_t (by decide) (nm_r (nI_1 i) (h3 _ _ hfar h))
end
end
section
/-! ===== block, in lockstep ===== -/
theorem jm_bi {v x3 x6 : Int32} {r y : Nat} (hr : r ≤ 11) (hy : y ≤ 11) : ∀ (d j : Nat) (x7 : Int32) (w : Nat → Int32), j + d = r + 1 →
    ∃ (q : Int32) (w' : Nat → Int32),
      (∀ (post : Int32 → SX → Prop) (J : Int32 → Int32 → (Nat → Int32) → (Nat → Int32) → (Nat → Int32) → (Nat → Int32) → (Nat → Int32) → Prop) (oc gl ld : Int32) (len dir mk op : Nat → Int32), J q (nI (y + 1)) w' len dir mk op → wX_block_80 post J v x3 (nI r) x6 (nI y) oc gl ld (d + 1) x7 (nI j) w len dir mk op) ∧
      (∀ (post : Int32 → SY → Prop) (J : Int32 → Int32 → (Nat → Int32) → (Nat → Int32) → Prop) (far : Nat → Int32), J q (nI (y + 1)) w' far → wY_block_81 post J v x3 (nI r) x6 (nI y) (d + 1) x7 (nI j) w far) := by
  intro d
  induction d with
  | zero =>
    intro j x7 w e
    have h : nI r < nI j := nI_lt (by omega) (by omega)
    exact ⟨x7, w, fun post J oc gl ld len dir mk op hJ => br_t h (nm_r (nI_1 y) hJ), fun post J far hJ => br_t h (nm_r (nI_1 y) hJ)⟩
  | succ d ih =>
    intro j x7 w e
    have h : ¬ nI r < nI j := nI_nlt (by omega) (by omega)
    have e12 : (12 : Int32) * nI y + nI j = nI (12 * y + j) := by
      have : (12 : Int32) = nI 12 := rfl
      rw [this, pk_mul, nI_add]
    have hin : vp_in (12 * nI y + nI j) 144 := by
      rw [e12]
      exact vp_in_nI (by omega) (by decide)
    by_cases hv : w ((12 : Int32) * nI y + nI j).toNatClampNeg = v
    · obtain ⟨q, w', h1, h2⟩ := ih (j + 1) x7 (upd w ((12 : Int32) * nI y + nI j).toNatClampNeg (vp_nar .boolean v)) (by omega)
      refine ⟨q, w', fun post J oc gl ld len dir mk op hJ => br_f h ⟨hin, br_t hv ⟨hin, nm_e (nm_r (nI_1 j) ?_)⟩⟩, fun post J far hJ => br_f h ⟨hin, br_t hv ⟨hin, nm_e (nm_r (nI_1 j) ?_)⟩⟩⟩
      · exact h1 post J oc gl ld len dir mk op hJ
      · exact h2 post J far hJ
    · obtain ⟨q, w', h1, h2⟩ := ih (j + 1) (x7 + 1) (upd w ((12 : Int32) * nI y + nI j).toNatClampNeg (vp_nar .boolean v)) (by omega)
      refine ⟨q, w', fun post J oc gl ld len dir mk op hJ => br_f h ⟨hin, br_f hv (nm_e ⟨hin, nm_e (nm_r (nI_1 j) ?_)⟩)⟩, fun post J far hJ => br_f h ⟨hin, br_f hv (nm_e ⟨hin, nm_e (nm_r (nI_1 j) ?_)⟩)⟩⟩
      · exact h1 post J oc gl ld len dir mk op hJ
      · exact h2 post J far hJ
theorem jm_bo {v : Int32} {l r hh : Nat} (hl : l ≤ r) (hr : r ≤ 11) (hh11 : hh ≤ 11) : ∀ (d y : Nat) (x7 : Int32) (w : Nat → Int32), y + d = hh + 1 →
    ∃ (q : Int32) (w' : Nat → Int32),
      (∀ (post : Int32 → SX → Prop) (oc gl ld : Int32) (len dir mk op : Nat → Int32), post q (oc, gl, ld, w', len, dir, mk, op) → wX_block_70 post v (nI l) (nI r) (nI hh) oc gl ld (d + 1) x7 (nI y) w len dir mk op) ∧
      (∀ (post : Int32 → SY → Prop) (far : Nat → Int32), post q (w', far) → wY_block_71 post v (nI l) (nI r) (nI hh) (d + 1) x7 (nI y) w far) := by
  intro d
  induction d with
  | zero =>
    intro y x7 w e
    have h : nI hh < nI y := nI_lt (by omega) (by omega)
    exact ⟨x7, w, fun post oc gl ld len dir mk op hJ => br_t h hJ, fun post far hJ => br_t h hJ⟩
  | succ d ih =>
    intro y x7 w e
    have h : ¬ nI hh < nI y := nI_nlt (by omega) (by omega)
    obtain ⟨q1, w1, a1, a2⟩ := jm_bi (v := v) (x3 := nI l) (x6 := nI hh) (r := r) (y := y) hr (by omega) (r + 1 - l) l x7 w (by omega)
    obtain ⟨q, w', h1, h2⟩ := ih (y + 1) q1 w1 (by omega)
    exact ⟨q, w', fun post oc gl ld len dir mk op hp => br_f h ⟨_, a1 _ _ _ _ _ _ _ _ _ (h1 post oc gl ld len dir mk op hp)⟩, fun post far hp => br_f h ⟨_, a2 _ _ _ (h2 post far hp)⟩⟩
theorem jm_block {w : Nat → Int32} (p v : Int32) : ∃ (q : Int32) (w' : Nat → Int32),
      (∀ (post : Int32 → SX → Prop) (oc gl ld : Int32) (len dir mk op : Nat → Int32), post q (oc, gl, ld, w', len, dir, mk, op) → wpX_block post (oc, gl, ld, w, len, dir, mk, op) p v) ∧
      (∀ (post : Int32 → SY → Prop) (far : Nat → Int32), post q (w', far) → wpY_block post (w, far) p v) := by
  by_cases hp : p < 0
  · have hp' : ¬ 0 ≤ p := Int32.not_le.mpr hp
    refine ⟨-1, w, fun post oc gl ld len dir mk op h => br_f hp' h, fun post far h => ?_⟩
    exact ⟨by decide, fun x3 _ => ⟨by decide, by decide, fun x4 _ => ⟨by decide, by decide, fun x5 _ => ⟨by decide, fun x6 _ => br_t hp h⟩⟩⟩⟩
  · obtain ⟨n, hn, rfl⟩ := nI_of hp
    have hp' : (0 : Int32) ≤ nI n := nI_pos' hn
    have a1 : nI n >>> ((12 : Int32) &&& 31) = nI (n / 4096) := pk_shrN hn _ 12 (by decide)
    have a2 : (nI n >>> ((8 : Int32) &&& 31)) &&& 15 = nI (n / 256 % 16) := by
      rw [pk_shrN hn _ 8 (by decide)]
      have h1 : n / 2 ^ 8 ≤ n := Nat.div_le_self _ _
      exact pk_andN (show n / 2 ^ 8 < 2 ^ 32 by omega) 4 (by decide)
    have a3 : (nI n >>> ((4 : Int32) &&& 31)) &&& 15 = nI (n / 16 % 16) := by
      rw [pk_shrN hn _ 4 (by decide)]
      have h1 : n / 2 ^ 4 ≤ n := Nat.div_le_self _ _
      exact pk_andN (show n / 2 ^ 4 < 2 ^ 32 by omega) 4 (by decide)
    have a4 : nI n &&& 15 = nI (n % 16) := pk_andN (show n < 2 ^ 32 by omega) 4 (by decide)
    have b1 : nI n / 4096 = nI (n / 4096) := pk_div (d := 4096) hn (by decide) (by decide)
    have b2' : nI n / 256 = nI (n / 256) := pk_div (d := 256) hn (by decide) (by decide)
    have b2 : nI n / 256 - nI n / 256 / 16 * 16 = nI (n / 256 % 16) := by
      rw [b2']
      exact pk_rem (d := 16) (by omega) (by decide) (by decide)
    have b3' : nI n / 16 = nI (n / 16) := pk_div (d := 16) hn (by decide) (by decide)
    have b3 : nI n / 16 - nI n / 16 / 16 * 16 = nI (n / 16 % 16) := by
      rw [b3']
      exact pk_rem (d := 16) (by omega) (by decide) (by decide)
    have b4 : nI n - nI n / 16 * 16 = nI (n % 16) := pk_rem (d := 16) hn (by decide) (by decide)
    have mk1 : ∀ (q : Int32) (w' : Nat → Int32),
        (∀ (post : Int32 → SX → Prop) (oc gl ld : Int32) (len dir mk op : Nat → Int32), post q (oc, gl, ld, w', len, dir, mk, op) → ((nI (n / 256 % 16) < nI (n / 4096) → (post (-1) (oc, gl, ld, w, len, dir, mk, op))) ∧ (¬ nI (n / 256 % 16) < nI (n / 4096) → (((11 < nI (n / 256 % 16) → (post (-1) (oc, gl, ld, w, len, dir, mk, op))) ∧ (¬ 11 < nI (n / 256 % 16) → (((nI (n % 16) < nI (n / 16 % 16) → (post (-1) (oc, gl, ld, w, len, dir, mk, op))) ∧ (¬ nI (n % 16) < nI (n / 16 % 16) → (((nI (n % 16) ≤ 11 → (∃ n70 : Nat, wX_block_70 post v (nI (n / 4096)) (nI (n / 256 % 16)) (nI (n % 16)) oc gl ld n70 0 (nI (n / 16 % 16)) w len dir mk op)) ∧ (¬ nI (n % 16) ≤ 11 → (post (-1) (oc, gl, ld, w, len, dir, mk, op)))))))))))))) →
        (∀ (post : Int32 → SY → Prop) (far : Nat → Int32), post q (w', far) → ((nI (n / 256 % 16) < nI (n / 4096) → (post (-1) (w, far))) ∧ (¬ nI (n / 256 % 16) < nI (n / 4096) → (((11 < nI (n / 256 % 16) → (post (-1) (w, far))) ∧ (¬ 11 < nI (n / 256 % 16) → (((nI (n % 16) < nI (n / 16 % 16) → (post (-1) (w, far))) ∧ (¬ nI (n % 16) < nI (n / 16 % 16) → (((nI (n % 16) ≤ 11 → (∃ n71 : Nat, wY_block_71 post v (nI (n / 4096)) (nI (n / 256 % 16)) (nI (n % 16)) n71 0 (nI (n / 16 % 16)) w far)) ∧ (¬ nI (n % 16) ≤ 11 → (post (-1) (w, far)))))))))))))) →
        ∃ (q : Int32) (w' : Nat → Int32),
          (∀ (post : Int32 → SX → Prop) (oc gl ld : Int32) (len dir mk op : Nat → Int32), post q (oc, gl, ld, w', len, dir, mk, op) → wpX_block post (oc, gl, ld, w, len, dir, mk, op) (nI n) v) ∧
          (∀ (post : Int32 → SY → Prop) (far : Nat → Int32), post q (w', far) → wpY_block post (w, far) (nI n) v) := by
      intro q w' h1 h2
      refine ⟨q, w', fun post oc gl ld len dir mk op h => br_t hp' ?_, fun post far h => ?_⟩
      · exact nm_r a1 (nm_r a2 (nm_r a3 (nm_r a4 (h1 post oc gl ld len dir mk op h))))
      · exact ⟨by decide, nm_r b1 ⟨by decide, by decide, nm_r b2 ⟨by decide, by decide, nm_r b3 ⟨by decide, nm_r b4 (br_f hp (h2 post far h))⟩⟩⟩⟩
    have h11 : (11 : Int32) = nI 11 := rfl
    by_cases g1 : n / 256 % 16 < n / 4096
    · have z := nI_lt g1 (by omega)
      exact mk1 (-1) w (fun post oc gl ld len dir mk op h => br_t z h) (fun post far h => br_t z h)
    · have z1 : ¬ nI (n / 256 % 16) < nI (n / 4096) := nI_nlt (by omega) (by omega)
      by_cases g2 : 11 < n / 256 % 16
      · have z : (11 : Int32) < nI (n / 256 % 16) := nI_lt (a := 11) g2 (by omega)
        exact mk1 (-1) w (fun post oc gl ld len dir mk op h => br_f z1 (br_t z h)) (fun post far h => br_f z1 (br_t z h))
      · have z2 : ¬ (11 : Int32) < nI (n / 256 % 16) := nI_nlt (a := 11) (by omega) (by omega)
        by_cases g3 : n % 16 < n / 16 % 16
        · have z := nI_lt g3 (by omega)
          exact mk1 (-1) w (fun post oc gl ld len dir mk op h => br_f z1 (br_f z2 (br_t z h))) (fun post far h => br_f z1 (br_f z2 (br_t z h)))
        · have z3 : ¬ nI (n % 16) < nI (n / 16 % 16) := nI_nlt (by omega) (by omega)
          by_cases g4 : n % 16 ≤ 11
          · have z4 : nI (n % 16) ≤ 11 := nI_le (b := 11) g4 (by decide)
            obtain ⟨q, w', h1, h2⟩ := jm_bo (v := v) (l := n / 4096) (r := n / 256 % 16) (hh := n % 16) (by omega) (by omega) g4 (n % 16 + 1 - n / 16 % 16) (n / 16 % 16) 0 w (by omega)
            exact mk1 q w' (fun post oc gl ld len dir mk op h => br_f z1 (br_f z2 (br_f z3 (br_t z4 ⟨_, h1 post oc gl ld len dir mk op h⟩)))) (fun post far h => br_f z1 (br_f z2 (br_f z3 (br_t z4 ⟨_, h2 post far h⟩))))
          · have z4 : ¬ nI (n % 16) ≤ 11 := nI_ge (b := n % 16) (a := 11) (by omega) (by omega)
            exact mk1 (-1) w (fun post oc gl ld len dir mk op h => br_f z1 (br_f z2 (br_f z3 (br_f z4 h)))) (fun post far h => br_f z1 (br_f z2 (br_f z3 (br_f z4 h))))
end
section
/-! ===== what is owed ===== -/
def i_Rel (_ : Nat) (u : SX) (v : SY) : Prop := u.2.2.2.1 = v.1
theorem i_up {k : Nat} {u : SX} {v : SY} (h : i_Rel k u v) : i_Rel (k + 4) u v := h
theorem i_vc0 : wpX_init (fun u => wpY_init (fun v => i_Rel 0 u v)) := rfl
theorem jm_el {k : Nat} {Q : SX → SY → Prop} (h : ∀ (oc gl ld : Int32) (w len dir mk op far : Nat → Int32), Q (oc, gl, ld, w, len, dir, mk, op) (w, far)) {u : SX} {v : SY} (I : i_Rel k u v) : Q u v := by
  obtain ⟨oc, gl, ld, w, len, dir, mk, op⟩ := u
  obtain ⟨w', far⟩ := v
  have e : w = w' := I
  subst e
  exact h oc gl ld w len dir mk op far
theorem i_vc_wall {k : Nat} {u : SX} {v : SY} (I : i_Rel k u v) (hk : k + 4 ≤ 2048) (v1 : Int32) (v2 : Int32) : wpX_wall (fun r u' => wpY_wall (fun r' v' => r' = r ∧ i_Rel (k + 4) u' v') v v1 (lw_bz v2)) u v1 (lw_bz v2) := by
  refine jm_el (Q := fun u v => wpX_wall (fun r u' => wpY_wall (fun r' v' => r' = r ∧ i_Rel (k + 4) u' v') v v1 (lw_bz v2)) u v1 (lw_bz v2)) ?_ I
  intro oc gl ld w len dir mk op far
  by_cases hc : ∃ c, c < 144 ∧ v1 = nI c
  · obtain ⟨c, hc, rfl⟩ := hc
    have hin : vp_in (nI c) 144 := vp_in_nI hc (by decide)
    refine br_f (nI_pos (by omega)) (br_t (nI_lt (b := 144) hc (by decide)) ⟨hin, nm_e ?_⟩)
    unfold wpY_wall
    exact jy_ct hc (br_f (by decide) ⟨hin, nm_e ⟨rfl, rfl⟩⟩)
  · have hY : wpY_wall (fun r' v' => r' = 0 ∧ i_Rel (k + 4) (oc, gl, ld, w, len, dir, mk, op) v') (w, far) v1 (lw_bz v2) := by
      unfold wpY_wall
      exact jy_cf hc (br_t rfl ⟨rfl, rfl⟩)
    refine br_c (fun _ => hY) (fun h0 => br_c (fun h1 => ?_) (fun _ => hY))
    obtain ⟨j, hj, rfl⟩ := nI_of h0
    have h2 : nI j < nI 144 := h1
    rw [nI_ltI hj (by decide)] at h2
    exact absurd ⟨j, h2, rfl⟩ hc
theorem i_vc_block {k : Nat} {u : SX} {v : SY} (I : i_Rel k u v) (hk : k + 4 ≤ 2048) (v1 : Int32) (v2 : Int32) : wpX_block (fun r u' => wpY_block (fun r' v' => r' = r ∧ i_Rel (k + 4) u' v') v v1 (lw_bz v2)) u v1 (lw_bz v2) := by
  refine jm_el (Q := fun u v => wpX_block (fun r u' => wpY_block (fun r' v' => r' = r ∧ i_Rel (k + 4) u' v') v v1 (lw_bz v2)) u v1 (lw_bz v2)) ?_ I
  intro oc gl ld w len dir mk op far
  obtain ⟨q, w', h1, h2⟩ := jm_block (w := w) v1 (lw_bz v2)
  exact h1 _ _ _ _ _ _ _ _ (h2 _ _ ⟨rfl, rfl⟩)
theorem i_vc_isWall {k : Nat} {u : SX} {v : SY} (I : i_Rel k u v) (hk : k + 4 ≤ 2048) (v1 : Int32) : wpX_isWall (fun r => wpY_isWall (fun r' => r' = r ∧ i_Rel (k + 4) u v) v v1) u v1 := by
  refine jm_el (Q := fun u v => wpX_isWall (fun r => wpY_isWall (fun r' => r' = r ∧ i_Rel (k + 4) u v) v v1) u v1) ?_ I
  intro oc gl ld w len dir mk op far
  by_cases hc : ∃ c, c < 144 ∧ v1 = nI c
  · obtain ⟨c, hc, rfl⟩ := hc
    have hin : vp_in (nI c) 144 := vp_in_nI hc (by decide)
    have hcl : (nI c).toNatClampNeg = c := nI_clamp (by omega)
    refine br_f (nI_pos (by omega)) (br_f (nI_ge (b := 144) hc (by decide)) ⟨hin, ?_⟩)
    unfold wpY_isWall
    rw [hcl]
    refine br_c (fun hw => jy_ct hc (br_f (by decide) ⟨hin, ?_⟩)) (fun hw => jy_ct hc (br_f (by decide) ⟨hin, ?_⟩))
    · exact br_t hw ⟨rfl, rfl⟩
    · exact br_f hw ⟨rfl, rfl⟩
  · have hY : wpY_isWall (fun r' => r' = 0 ∧ i_Rel (k + 4) (oc, gl, ld, w, len, dir, mk, op) (w, far)) (w, far) v1 := by
      unfold wpY_isWall
      exact jy_cf hc (br_t rfl ⟨rfl, rfl⟩)
    refine br_c (fun _ => hY) (fun h0 => br_c (fun _ => hY) (fun h1 => ?_))
    obtain ⟨j, hj, rfl⟩ := nI_of h0
    have h2 : ¬ nI 144 ≤ nI j := h1
    rw [nI_leI (by decide) hj] at h2
    exact absurd ⟨j, by omega, rfl⟩ hc
theorem i_vc_distance {k : Nat} {u : SX} {v : SY} (I : i_Rel k u v) (hk : k + 4 ≤ 2048) (v1 : Int32) (v2 : Int32) : wpX_distance (fun r u' => wpY_distance (fun r' v' => r' = r ∧ i_Rel (k + 4) u' v') v v1 v2) u v1 v2 := by
  refine jm_el (Q := fun u v => wpX_distance (fun r u' => wpY_distance (fun r' v' => r' = r ∧ i_Rel (k + 4) u' v') v v1 v2) u v1 v2) ?_ I
  intro oc gl ld w len dir mk op far
  unfold wpX_distance
  by_cases h1 : ∃ c, c < 144 ∧ v1 = nI c ∧ w c = 0
  · obtain ⟨f, hf, rfl, hw⟩ := h1
    refine jx_ft hf hw (br_f (by decide) ?_)
    by_cases h2 : ∃ c, c < 144 ∧ v2 = nI c ∧ w c = 0
    · obtain ⟨t, ht, rfl, hwt⟩ := h2
      refine jx_ft ht hwt (br_f (by decide) ?_)
      refine jx_srch hf ht hw (fun r oc gl ld len dir mk op hB => ?_)
      exact jy_dist hf ht hw hwt (fun r' far' hB' => ⟨jc_Bu hB hB', rfl⟩)
    · refine jx_ff h2 (br_t rfl ?_)
      unfold wpY_distance
      exact jy_ft hf hw (br_f (by decide) (jy_ff h2 (br_t rfl ⟨rfl, rfl⟩)))
  · refine jx_ff h1 (br_t rfl ?_)
    unfold wpY_distance
    exact jy_ff h1 (br_t rfl ⟨rfl, rfl⟩)
theorem i_vc_nearer {k : Nat} {u : SX} {v : SY} (I : i_Rel k u v) (hk : k + 4 ≤ 2048) (v1 : Int32) (v2 : Int32) (v3 : Int32) : wpX_nearer (fun r u' => wpY_nearer (fun r' v' => r' = r ∧ i_Rel (k + 4) u' v') v v1 v2 v3) u v1 v2 v3 := by
  refine jm_el (Q := fun u v => wpX_nearer (fun r u' => wpY_nearer (fun r' v' => r' = r ∧ i_Rel (k + 4) u' v') v v1 v2 v3) u v1 v2 v3) ?_ I
  intro oc gl ld w len dir mk op far
  unfold wpX_nearer
  by_cases h1 : ∃ c, c < 144 ∧ v1 = nI c ∧ w c = 0
  · obtain ⟨f, hf, rfl, hw⟩ := h1
    refine jx_ft hf hw (br_f (by decide) ?_)
    by_cases h2 : ∃ c, c < 144 ∧ v2 = nI c ∧ w c = 0
    · obtain ⟨a, ha, rfl, hwa⟩ := h2
      refine jx_ft ha hwa (br_f (by decide) ?_)
      by_cases h3 : ∃ c, c < 144 ∧ v3 = nI c ∧ w c = 0
      · obtain ⟨b, hb, rfl, hwb⟩ := h3
        refine jx_ft hb hwb (br_f (by decide) ?_)
        refine jx_srch hf ha hw (fun ra oc gl ld len dir mk op hBa => ?_)
        refine jx_srch hf hb hw (fun rb oc gl ld len dir mk op hBb => ?_)
        have hY : ∀ post : Int32 → SY → Prop, (∀ far' : Nat → Int32, (((jc_A w f b) < 0 → (post 0 (w, far'))) ∧ (¬ (jc_A w f b) < 0 → (((jc_A w f a) < 0 → (post 1 (w, far'))) ∧ (¬ (jc_A w f a) < 0 → (((jc_A w f a) ≤ (jc_A w f b) → (post 0 (w, far'))) ∧ (¬ (jc_A w f a) ≤ (jc_A w f b) → (post 1 (w, far')))))))) ) → wpY_nearer post (w, far) (nI f) (nI a) (nI b) := by
          intro post h
          unfold wpY_nearer
          refine jy_ft hf hw (br_f (by decide) (jy_ft ha hwa (br_f (by decide) (jy_ft hb hwb (br_f (by decide) ?_)))))
          refine jy_search hf hw (fun far' hA => ⟨vp_in_nI hb (by decide), ?_⟩)
          rw [nI_clamp (show b < 2 ^ 31 by omega), nI_clamp (show a < 2 ^ 31 by omega), hA a ha, hA b hb]
          obtain ⟨g1, g2⟩ := h far'
          refine ⟨g1, fun z1 => ⟨vp_in_nI ha (by decide), ?_⟩⟩
          obtain ⟨g3, g4⟩ := g2 z1
          exact ⟨g3, fun z2 => ⟨vp_in_nI hb (by decide), vp_in_nI ha (by decide), g4 z2⟩⟩
        rcases hBb with ⟨hb0, eb⟩ | ⟨hb0, eb⟩
        · have nb : ¬ jc_A w f b < 0 := by
            rw [Int32.lt_iff_toInt_lt, jt_0]
            omega
          subst eb
          refine br_f nb ?_
          rcases hBa with ⟨ha0, ea⟩ | ⟨ha0, ea⟩
          · have na : ¬ jc_A w f a < 0 := by
              rw [Int32.lt_iff_toInt_lt, jt_0]
              omega
            subst ea
            refine br_f na (br_c (fun hle => ?_) (fun hle => ?_))
            · exact hY _ (fun far' => br_f nb (br_f na (br_t hle ⟨rfl, rfl⟩)))
            · exact hY _ (fun far' => br_f nb (br_f na (br_f hle ⟨rfl, rfl⟩)))
          · subst ea
            have na : jc_A w f a < 0 := by
              rw [ha0]
              decide
            exact br_t (by decide) (hY _ (fun far' => br_f nb (br_t na ⟨rfl, rfl⟩)))
        · subst eb
          have nb : jc_A w f b < 0 := by
            rw [hb0]
            decide
          exact br_t (by decide) (hY _ (fun far' => br_t nb ⟨rfl, rfl⟩))
      · refine jx_ff h3 (br_t rfl ?_)
        unfold wpY_nearer
        exact jy_ft hf hw (br_f (by decide) (jy_ft ha hwa (br_f (by decide) (jy_ff h3 (br_t rfl ⟨rfl, rfl⟩)))))
    · refine jx_ff h2 (br_t rfl ?_)
      unfold wpY_nearer
      exact jy_ft hf hw (br_f (by decide) (jy_ff h2 (br_t rfl ⟨rfl, rfl⟩)))
  · refine jx_ff h1 (br_t rfl ?_)
    unfold wpY_nearer
    exact jy_ff h1 (br_t rfl ⟨rfl, rfl⟩)
theorem i_vc_vital {k : Nat} {u : SX} {v : SY} (I : i_Rel k u v) (hk : k + 4 ≤ 2048) (v1 : Int32) (v2 : Int32) (v3 : Int32) : wpX_vital (fun r u' => wpY_vital (fun r' v' => r' = r ∧ i_Rel (k + 4) u' v') v v1 v2 v3) u v1 v2 v3 := by
  refine jm_el (Q := fun u v => wpX_vital (fun r u' => wpY_vital (fun r' v' => r' = r ∧ i_Rel (k + 4) u' v') v v1 v2 v3) u v1 v2 v3) ?_ I
  intro oc gl ld w len dir mk op far
  unfold wpX_vital
  by_cases h1 : ∃ c, c < 144 ∧ v1 = nI c ∧ w c = 0
  · obtain ⟨f, hf, rfl, hw⟩ := h1
    refine jx_ft hf hw (br_f (by decide) ?_)
    by_cases h2 : ∃ c, c < 144 ∧ v2 = nI c ∧ w c = 0
    · obtain ⟨t, ht, rfl, hwt⟩ := h2
      refine jx_ft ht hwt (br_f (by decide) ?_)
      by_cases h3 : ∃ c, c < 144 ∧ v3 = nI c ∧ w c = 0
      · obtain ⟨c, hc, rfl, hwc⟩ := h3
        refine jx_ft hc hwc (br_f (by decide) ?_)
        have hY : ∀ post : Int32 → SY → Prop, ((nI c = nI f → post 0 (w, far)) ∧ (¬ nI c = nI f → ((nI c = nI t → post 0 (w, far)) ∧ (¬ nI c = nI t → wpY_distance (fun r_15 u => match u with | (a_walls_16, a_far_17) => (((0 ≤ r_15 → (vp_in (nI c) 144 ∧ ∀ a_walls_20 : Nat → Int32, a_walls_20 = upd a_walls_16 (nI c).toNatClampNeg (vp_nar .boolean 1) → (wpY_distance (fun r_21 u => match u with | (a_walls_22, a_far_23) => (vp_in (nI c) 144 ∧ ∀ a_walls_25 : Nat → Int32, a_walls_25 = upd a_walls_22 (nI c).toNatClampNeg (vp_nar .boolean 0) → (((r_21 < 0 → (post 1 (a_walls_25, a_far_23))) ∧ (¬ r_21 < 0 → (((r_21 ≤ r_15 → (post 0 (a_walls_25, a_far_23))) ∧ (¬ r_21 ≤ r_15 → (post 1 (a_walls_25, a_far_23)))))))))) (a_walls_20, a_far_17) (nI f) (nI t)))) ∧ (¬ 0 ≤ r_15 → (post 0 (a_walls_16, a_far_17)))))) (w, far) (nI f) (nI t))))) → wpY_vital post (w, far) (nI f) (nI t) (nI c) := by
          intro post h
          unfold wpY_vital
          exact jy_ft hf hw (br_f (by decide) (jy_ft ht hwt (br_f (by decide) (jy_ft hc hwc (br_f (by decide) h)))))
        by_cases e1 : nI c = nI f
        · exact br_t e1 (hY _ (br_t e1 ⟨rfl, rfl⟩))
        refine br_f e1 ?_
        by_cases e2 : nI c = nI t
        · exact br_t e2 (hY _ (br_f e1 (br_t e2 ⟨rfl, rfl⟩)))
        refine br_f e2 ?_
        have hcl : (nI c).toNatClampNeg = c := nI_clamp (by omega)
        have hin : vp_in (nI c) 144 := vp_in_nI hc (by decide)
        refine jx_srch hf ht hw (fun r0 oc gl ld len dir mk op hB0 => ?_)
        have hnf : f ≠ c := fun z => e1 (congrArg nI z.symm)
        have hnt : t ≠ c := fun z => e2 (congrArg nI z.symm)
        have hw1 : upd w c (vp_nar .boolean 1) f = 0 := by
          rw [pk_un hnf]
          exact hw
        have hwt1 : upd w c (vp_nar .boolean 1) t = 0 := by
          rw [pk_un hnt]
          exact hwt
        refine br_c (fun hr0 => ⟨hin, ?_⟩) (fun hr0 => ?_)
        · rw [hcl]
          refine nm_e (jx_srch hf ht hw1 (fun r1 oc gl ld len dir mk op hB1 => ⟨hin, nm_e ?_⟩))
          have hY2 : ∀ post : Int32 → SY → Prop, (∀ far' : Nat → Int32, ((r1 < 0 → (post 1 (upd (upd w c (vp_nar .boolean 1)) c (vp_nar .boolean 0), far'))) ∧ (¬ r1 < 0 → (((r1 ≤ r0 → (post 0 (upd (upd w c (vp_nar .boolean 1)) c (vp_nar .boolean 0), far'))) ∧ (¬ r1 ≤ r0 → (post 1 (upd (upd w c (vp_nar .boolean 1)) c (vp_nar .boolean 0), far')))))))) → wpY_vital post (w, far) (nI f) (nI t) (nI c) := by
            intro post h
            refine hY post (br_f e1 (br_f e2 ?_))
            refine jy_dist hf ht hw hwt (fun r0' far1 hB0' => ?_)
            have q0 := jc_Bu hB0 hB0'
            subst q0
            refine br_t hr0 ⟨hin, ?_⟩
            rw [hcl]
            refine nm_e (jy_dist hf ht hw1 hwt1 (fun r1' far2 hB1' => ?_))
            have q1 := jc_Bu hB1 hB1'
            subst q1
            exact ⟨hin, nm_e (h far2)⟩
          refine br_c (fun z1 => hY2 _ (fun far' => br_t z1 ⟨rfl, rfl⟩)) (fun z1 => br_c (fun z2 => hY2 _ (fun far' => br_f z1 (br_t z2 ⟨rfl, rfl⟩))) (fun z2 => hY2 _ (fun far' => br_f z1 (br_f z2 ⟨rfl, rfl⟩))))
        · refine hY _ (br_f e1 (br_f e2 ?_))
          refine jy_dist hf ht hw hwt (fun r0' far1 hB0' => ?_)
          have q0 := jc_Bu hB0 hB0'
          subst q0
          exact br_f hr0 ⟨rfl, rfl⟩
      · refine jx_ff h3 (br_t rfl ?_)
        unfold wpY_vital
        exact jy_ft hf hw (br_f (by decide) (jy_ft ht hwt (br_f (by decide) (jy_ff h3 (br_t rfl ⟨rfl, rfl⟩)))))
    · refine jx_ff h2 (br_t rfl ?_)
      unfold wpY_vital
      exact jy_ft hf hw (br_f (by decide) (jy_ff h2 (br_t rfl ⟨rfl, rfl⟩)))
  · refine jx_ff h1 (br_t rfl ?_)
    unfold wpY_vital
    exact jy_ff h1 (br_t rfl ⟨rfl, rfl⟩)
theorem i_vc_farthest {k : Nat} {u : SX} {v : SY} (I : i_Rel k u v) (hk : k + 4 ≤ 2048) (v1 : Int32) : wpX_farthest (fun r u' => wpY_farthest (fun r' v' => r' = r ∧ i_Rel (k + 4) u' v') v v1) u v1 := by
  refine jm_el (Q := fun u v => wpX_farthest (fun r u' => wpY_farthest (fun r' v' => r' = r ∧ i_Rel (k + 4) u' v') v v1) u v1) ?_ I
  intro oc gl ld w len dir mk op far
  unfold wpX_farthest
  by_cases h1 : ∃ c, c < 144 ∧ v1 = nI c ∧ w c = 0
  · obtain ⟨f, hf, rfl, hw⟩ := h1
    obtain ⟨r, a1, a2⟩ := jm_far hf hw 144 0 0 rfl (by decide)
    refine jx_ft hf hw (br_f (by decide) ⟨145, a1 _ _ _ _ _ _ _ _ (fun oc gl ld len dir mk op => ?_)⟩)
    unfold wpY_farthest
    exact jy_ft hf hw (br_f (by decide) (jy_search hf hw (fun far' hA => ⟨145, a2 _ _ hA ⟨rfl, rfl⟩⟩)))
  · refine jx_ff h1 (br_t rfl ?_)
    unfold wpY_farthest
    exact jy_ff h1 (br_t rfl ⟨rfl, rfl⟩)
theorem i_vc_reach {k : Nat} {u : SX} {v : SY} (I : i_Rel k u v) (hk : k + 4 ≤ 2048) (v1 : Int32) : wpX_reach (fun r u' => wpY_reach (fun r' v' => r' = r ∧ i_Rel (k + 4) u' v') v v1) u v1 := by
  refine jm_el (Q := fun u v => wpX_reach (fun r u' => wpY_reach (fun r' v' => r' = r ∧ i_Rel (k + 4) u' v') v v1) u v1) ?_ I
  intro oc gl ld w len dir mk op far
  unfold wpX_reach
  by_cases h1 : ∃ c, c < 144 ∧ v1 = nI c ∧ w c = 0
  · obtain ⟨f, hf, rfl, hw⟩ := h1
    obtain ⟨r, a1, a2⟩ := jm_reach hf hw 144 0 0 rfl
    refine jx_ft hf hw (br_f (by decide) ⟨145, a1 _ _ _ _ _ _ _ _ (fun oc gl ld len dir mk op => ?_)⟩)
    unfold wpY_reach
    exact jy_ft hf hw (br_f (by decide) (jy_search hf hw (fun far' hA => ⟨145, a2 _ _ hA ⟨rfl, rfl⟩⟩)))
  · refine jx_ff h1 (br_t rfl ?_)
    unfold wpY_reach
    exact jy_ff h1 (br_t rfl ⟨rfl, rfl⟩)
theorem i_vc_at {k : Nat} {u : SX} {v : SY} (I : i_Rel k u v) (hk : k + 4 ≤ 2048) (v1 : Int32) (v2 : Int32) : wpX_at (fun r u' => wpY_at (fun r' v' => r' = r ∧ i_Rel (k + 4) u' v') v v1 v2) u v1 v2 := by
  refine jm_el (Q := fun u v => wpX_at (fun r u' => wpY_at (fun r' v' => r' = r ∧ i_Rel (k + 4) u' v') v v1 v2) u v1 v2) ?_ I
  intro oc gl ld w len dir mk op far
  unfold wpX_at
  by_cases h1 : ∃ c, c < 144 ∧ v1 = nI c ∧ w c = 0
  · obtain ⟨f, hf, rfl, hw⟩ := h1
    obtain ⟨r, a1, a2⟩ := jm_at hf hw v2 144 0 rfl
    refine jx_ft hf hw (br_f (by decide) ⟨145, a1 _ _ _ _ _ _ _ _ (fun oc gl ld len dir mk op => ?_)⟩)
    unfold wpY_at
    exact jy_ft hf hw (br_f (by decide) (jy_search hf hw (fun far' hA => ⟨145, a2 _ _ hA ⟨rfl, rfl⟩⟩)))
  · refine jx_ff h1 (br_t rfl ?_)
    unfold wpY_at
    exact jy_ff h1 (br_t rfl ⟨rfl, rfl⟩)
end
