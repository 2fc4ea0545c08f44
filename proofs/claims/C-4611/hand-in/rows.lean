section
theorem pk_us {f : Nat → Int32} {k : Nat} {x : Int32} : upd f k x k = x := if_pos rfl
theorem pk_un {f : Nat → Int32} {k j : Nat} {x : Int32} (h : j ≠ k) : upd f k x j = f j := if_neg h
theorem pk_uLs {f : Nat → Int64} {k : Nat} {x : Int64} : vp_updL f k x k = x := if_pos rfl
theorem pk_uLn {f : Nat → Int64} {k j : Nat} {x : Int64} (h : j ≠ k) : vp_updL f k x j = f j := if_neg h
theorem pk_sub {a b : Nat} (h : b ≤ a) : nI a - nI b = nI (a - b) := by
  obtain ⟨c, rfl⟩ : ∃ c, a = c + b := ⟨a - b, by omega⟩
  rw [← nI_add, Int32.add_sub_cancel, Nat.add_sub_cancel]
theorem pk_m1 (n : Nat) : nI (n + 1) + (-1) = nI n := by
  rw [← nI_1, Int32.add_assoc, show (1 : Int32) + (-1) = 0 from rfl, Int32.add_zero]
theorem pk_mul (a b : Nat) : nI a * nI b = nI (a * b) := (Int32.ofNat_mul a b).symm
theorem pk_div {a d : Nat} (ha : a < 2 ^ 31) (h0 : 0 < d) (hd : d < 2 ^ 31) : nI a / nI d = nI (a / d) := by
  apply Int32.toInt_inj.mp
  rw [lg_idiv_nonneg (by rw [nI_toInt ha]; omega) (by rw [nI_toInt hd]; omega), nI_toInt ha, nI_toInt hd, nI_toInt (Nat.lt_of_le_of_lt (Nat.div_le_self a d) ha)]
  first | rfl | exact (Int.natCast_ediv _ _).symm
theorem pk_rem {a d : Nat} (ha : a < 2 ^ 31) (h0 : 0 < d) (hd : d < 2 ^ 31) : nI a - nI a / nI d * nI d = nI (a % d) := by
  rw [pk_div ha h0 hd, pk_mul, pk_sub (Nat.div_mul_le_self a d)]
  exact congrArg nI (by have := Nat.div_add_mod' a d; omega)
theorem pk_sub_toInt {a b : Nat} (ha : a < 2 ^ 30) (hb : b < 2 ^ 30) : (nI a - nI b).toInt = (a : Int) - b := by
  rw [Int32.toInt_sub, nI_toInt (by omega), nI_toInt (by omega)]
  exact Int.bmod_eq_of_le (by omega) (by omega)
theorem pk_sneg {a b : Nat} (hb : b < 2 ^ 30) (h : a < b) : nI a - nI b < 0 := by
  rw [Int32.lt_iff_toInt_lt, pk_sub_toInt (by omega) hb, show (0 : Int32).toInt = 0 from by decide]
  omega
theorem pk_ix (x : Int32) {n : Nat} (hn : n < 2 ^ 31) : x < 0 ∨ nI n ≤ x ∨ ∃ j : Nat, j < n ∧ x = nI j := by
  by_cases h : x < 0
  · exact Or.inl h
  · obtain ⟨j, hj, rfl⟩ := nI_of h
    by_cases h2 : j < n
    · exact Or.inr (Or.inr ⟨j, h2, rfl⟩)
    · exact Or.inr (Or.inl (nI_le (by omega) hj))
theorem pk_le {x y : Int32} {A B : Prop} (a b : Nat) (f : a ≤ b → A) (g : b < a → B) (hx : x = nI a := by rfl) (hy : y = nI b := by rfl) (ha : a < 2 ^ 31 := by omega) (hb : b < 2 ^ 31 := by omega) : (x ≤ y → A) ∧ (¬ x ≤ y → B) := by
  subst hx hy
  rw [nI_leI ha hb]
  exact ⟨f, fun z => g (by omega)⟩
theorem pk_lt {x y : Int32} {A B : Prop} (a b : Nat) (f : a < b → A) (g : b ≤ a → B) (hx : x = nI a := by rfl) (hy : y = nI b := by rfl) (ha : a < 2 ^ 31 := by omega) (hb : b < 2 ^ 31 := by omega) : (x < y → A) ∧ (¬ x < y → B) := by
  subst hx hy
  rw [nI_ltI ha hb]
  exact ⟨f, fun z => g (by omega)⟩
theorem pk_eq {x y : Int32} {A B : Prop} (a b : Nat) (f : a = b → A) (g : a ≠ b → B) (hx : x = nI a := by rfl) (hy : y = nI b := by rfl) (ha : a < 2 ^ 31 := by omega) (hb : b < 2 ^ 31 := by omega) : (x = y → A) ∧ (¬ x = y → B) := by
  subst hx hy
  rw [nI_eq ha hb]
  exact ⟨f, g⟩
theorem pk_in {x : Int32} (n N : Nat) (h : n < N) (hx : x = nI n := by rfl) (hN : N < 2 ^ 31 := by omega) : vp_in x N := by
  subst hx
  exact vp_in_nI h hN
theorem pk_cl {x : Int32} (n : Nat) (hx : x = nI n := by rfl) (h : n < 2 ^ 31 := by omega) : x.toNatClampNeg = n := by
  subst hx
  exact nI_clamp h
theorem pk_tn {n : Nat} (h : n < 2 ^ 32) : (nI n).toBitVec.toNat = n := Nat.mod_eq_of_lt h
theorem pk_and (x : Int32) {m : Int32} (k : Nat) (hm : m.toBitVec.toNat = 2 ^ k - 1) : x &&& m = nI (x.toBitVec.toNat % 2 ^ k) := by
  apply Int32.toBitVec_inj.mp
  apply BitVec.eq_of_toNat_eq
  rw [Int32.toBitVec_and, BitVec.toNat_and, hm, Nat.and_two_pow_sub_one_eq_mod]
  show _ = (BitVec.ofNat 32 _).toNat
  rw [BitVec.toNat_ofNat]
  exact (Nat.mod_eq_of_lt (Nat.lt_of_le_of_lt (Nat.mod_le _ _) x.toBitVec.isLt)).symm
theorem pk_andN {n : Nat} (h : n < 2 ^ 32) {m : Int32} (k : Nat) (hm : m.toBitVec.toNat = 2 ^ k - 1) : nI n &&& m = nI (n % 2 ^ k) := by
  rw [pk_and _ k hm, pk_tn h]
theorem pk_andE (x : Int32) {m : Int32} (k : Nat) (hm : m.toBitVec.toNat = 2 ^ k - 1) : ∃ j : Nat, j < 2 ^ k ∧ x &&& m = nI j := ⟨_, Nat.mod_lt _ (Nat.two_pow_pos k), pk_and x k hm⟩
theorem pk_andIn (x : Int32) {m : Int32} (k : Nat) (hm : m.toBitVec.toNat = 2 ^ k - 1) (hk : k ≤ 30) : vp_in (x &&& m) (2 ^ k) := by
  obtain ⟨j, hj, e⟩ := pk_andE x k hm
  rw [e]
  exact vp_in_nI hj (Nat.lt_of_le_of_lt (Nat.pow_le_pow_right (by decide) hk) (by decide))
theorem pk_shl (a s : Int32) (k : Nat) (hs : (s.toBitVec.smod 32).toNat = k) : (a <<< s).toBitVec.toNat = a.toBitVec.toNat * 2 ^ k % 2 ^ 32 := by
  show (a.toBitVec <<< (s.toBitVec.smod 32).toNat).toNat = _
  rw [hs, BitVec.toNat_shiftLeft, Nat.shiftLeft_eq]
theorem pk_shlN {n : Nat} (s : Int32) (k : Nat) (hs : (s.toBitVec.smod 32).toNat = k) (h : n * 2 ^ k < 2 ^ 32) : nI n <<< s = nI (n * 2 ^ k) := by
  apply Int32.toBitVec_inj.mp
  apply BitVec.eq_of_toNat_eq
  have hn : n < 2 ^ 32 := Nat.lt_of_le_of_lt (Nat.le_mul_of_pos_right n (Nat.two_pow_pos k)) h
  rw [pk_shl _ _ k hs, pk_tn hn, pk_tn h, Nat.mod_eq_of_lt h]
theorem pk_shr (a s : Int32) (k : Nat) (hs : (s.toBitVec.smod 32).toNat = k) : (a >>> s).toInt = a.toInt >>> k := by
  show (a.toBitVec.sshiftRight (s.toBitVec.smod 32).toNat).toInt = _
  rw [hs, BitVec.toInt_sshiftRight]
  rfl
theorem pk_shrN {n : Nat} (h : n < 2 ^ 31) (s : Int32) (k : Nat) (hs : (s.toBitVec.smod 32).toNat = k) : nI n >>> s = nI (n / 2 ^ k) := by
  apply Int32.toInt_inj.mp
  have h2 : n / 2 ^ k ≤ n := Nat.div_le_self _ _
  rw [pk_shr _ _ k hs, nI_toInt h, nI_toInt (by omega), Int.shiftRight_eq_div_pow]
  rfl
theorem pk_ushr (x s : Int32) (k : Nat) (hs : ((s.toUInt32 &&& Int32.toUInt32 31).toBitVec % 32).toNat = k) : (x.toUInt32 >>> (s.toUInt32 &&& Int32.toUInt32 31)).toInt32.toBitVec.toNat = x.toBitVec.toNat / 2 ^ k := by
  have e : (x.toUInt32 >>> (s.toUInt32 &&& Int32.toUInt32 31)).toInt32.toBitVec = x.toBitVec >>> k := by
    rw [← hs]
    exact UInt32.toBitVec_shiftRight _ _
  rw [e, BitVec.toNat_ushiftRight, Nat.shiftRight_eq_div_pow]
theorem pk_ushrN {n : Nat} (hn : n < 2 ^ 32) (s : Int32) (k : Nat) (hs : ((s.toUInt32 &&& Int32.toUInt32 31).toBitVec % 32).toNat = k) : ((nI n).toUInt32 >>> (s.toUInt32 &&& Int32.toUInt32 31)).toInt32 = nI (n / 2 ^ k) := by
  apply Int32.toBitVec_inj.mp
  apply BitVec.eq_of_toNat_eq
  rw [pk_ushr _ s k hs, pk_tn hn, pk_tn (Nat.lt_of_le_of_lt (Nat.div_le_self _ _) hn)]
theorem pk_nb (z : Int32) : narrow .byte (.int z.toInt8.toInt32) = .int z.toInt8.toInt32 := congrArg Value.int (by simp)
theorem pk_ns (z : Int32) : narrow .short (.int z.toInt16.toInt32) = .int z.toInt16.toInt32 := congrArg Value.int (by simp)
theorem pk_fb (r : Int32) : fits .byte (.int r.toInt8.toInt32) = true := by
  have ⟨a, b⟩ := lg_i2b_range r
  have h1 : (-128 : Int32).toInt = -128 := by decide
  have h2 : (127 : Int32).toInt = 127 := by decide
  simp only [fits, Bool.and_eq_true, decide_eq_true_eq, Int32.le_iff_toInt_le, h1, h2]
  omega
theorem pk_fs (r : Int32) : fits .short (.int r.toInt16.toInt32) = true := by
  have ⟨a, b⟩ := lg_i2s_range r
  have h1 : (-32768 : Int32).toInt = -32768 := by decide
  have h2 : (32767 : Int32).toInt = 32767 := by decide
  simp only [fits, Bool.and_eq_true, decide_eq_true_eq, Int32.le_iff_toInt_le, h1, h2]
  omega
theorem pk_charN {q : Nat} (hq : q < 65536) : narrow .char (.int (nI q)) = .int (nI q) ∧ fits .char (.int (nI q)) = true := by
  constructor
  · have e : (nI q).toUInt32.toUInt16.toUInt32.toInt32 = nI q := by
      apply Int32.toBitVec_inj.mp
      apply BitVec.eq_of_toNat_eq
      show (nI q).toUInt32.toUInt16.toUInt32.toNat = q % 2 ^ 32
      rw [UInt16.toNat_toUInt32, UInt32.toNat_toUInt16, show (nI q).toUInt32.toNat = q % 2 ^ 32 from rfl]
      omega
    exact congrArg Value.int e
  · have a : (0 : Int32) ≤ nI q := nI_pos' (by omega)
    have b : nI q ≤ 65535 := nI_le (b := 65535) (by omega) (by decide)
    show (decide ((0 : Int32) ≤ nI q) && decide (nI q ≤ 65535)) = true
    rw [decide_eq_true a, decide_eq_true b]
    rfl
theorem pk_char (x : Int32) : (x.toUInt32 % 65536).toInt32 = nI (x.toBitVec.toNat % 65536) := by
  apply Int32.toBitVec_inj.mp
  apply BitVec.eq_of_toNat_eq
  rw [pk_tn (by omega)]
  show (x.toUInt32 % 65536).toNat = _
  rw [UInt32.toNat_mod]
  rfl
theorem pk_nc (x : Int32) : narrow .char (.int (x.toUInt32 % 65536).toInt32) = .int (x.toUInt32 % 65536).toInt32 := by
  rw [pk_char]
  exact (pk_charN (Nat.mod_lt _ (by decide))).1
theorem pk_fc (x : Int32) : fits .char (.int (x.toUInt32 % 65536).toInt32) = true := by
  rw [pk_char]
  exact (pk_charN (Nat.mod_lt _ (by decide))).2
theorem pk_vb (z : Int32) : vp_nar .byte z.toInt8.toInt32 = z.toInt8.toInt32 := by rw [vp_nar_byte]; simp
theorem pk_vs (z : Int32) : vp_nar .short z.toInt16.toInt32 = z.toInt16.toInt32 := by rw [vp_nar_short]; simp
theorem pk_least (P : Nat → Prop) (h : ∃ k, P k) : ∃ k, P k ∧ ∀ j, j < k → ¬ P j := by
  obtain ⟨k, hk⟩ := h
  induction k using Nat.strongRecOn with
  | ind k ih =>
    by_cases e : ∃ j, j < k ∧ P j
    · obtain ⟨j, hj, pj⟩ := e
      exact ih j hj pj
    · exact ⟨k, hk, fun j hj pj => e ⟨j, hj, pj⟩⟩
theorem sb_cl0 : (0 : Int32).toNatClampNeg = 0 := by decide
theorem sb_m1 {p : Nat} (h : 0 < p) : nI p + (-1) = nI (p - 1) := by
  obtain ⟨q, rfl⟩ : ∃ q, p = q + 1 := ⟨p - 1, by omega⟩
  exact pk_m1 q
/-! ===== Int32 by its bits: bt x i ===== -/
def bt (x : Int32) (i : Nat) : Bool := x.toBitVec.getLsbD i
theorem b_ext {x y : Int32} (h : ∀ i, i < 32 → bt x i = bt y i) : x = y := Int32.toBitVec_inj.mp (BitVec.eq_of_getLsbD_eq (fun i hi => h i hi))
theorem b_or (x y : Int32) (i : Nat) : bt (x ||| y) i = (bt x i || bt y i) := by unfold bt; rw [Int32.toBitVec_or, BitVec.getLsbD_or]
theorem b_and (x y : Int32) (i : Nat) : bt (x &&& y) i = (bt x i && bt y i) := by unfold bt; rw [Int32.toBitVec_and, BitVec.getLsbD_and]
theorem b_xor (x y : Int32) (i : Nat) : bt (x ^^^ y) i = (bt x i ^^ bt y i) := by unfold bt; rw [Int32.toBitVec_xor, BitVec.getLsbD_xor]
theorem b_big {x : Int32} {i : Nat} (h : 32 ≤ i) : bt x i = false := BitVec.getLsbD_of_ge _ _ h
theorem b_255 (i : Nat) : bt 255 i = decide (i < 8) := by
  rcases Nat.lt_or_ge i 32 with h | h
  · exact (by decide +kernel : ∀ i, i < 32 → bt 255 i = decide (i < 8)) i h
  · rw [b_big h, decide_eq_false (by omega)]
theorem b_65535 (i : Nat) : bt 65535 i = decide (i < 16) := by
  rcases Nat.lt_or_ge i 32 with h | h
  · exact (by decide +kernel : ∀ i, i < 32 → bt 65535 i = decide (i < 16)) i h
  · rw [b_big h, decide_eq_false (by omega)]
theorem b_m1 : ∀ i, i < 32 → bt (-1) i = true := by decide +kernel
theorem b_0 (i : Nat) : bt 0 i = false := BitVec.getLsbD_zero
theorem s_l : ∀ n, n < 32 → ((nI n &&& 31).toBitVec.smod 32).toNat = n := by decide +kernel
theorem s_u : ∀ n, n < 32 → (((nI n).toUInt32 &&& Int32.toUInt32 31).toBitVec % 32).toNat = n := by decide +kernel
theorem b_shl (n : Nat) (hn : n < 32) (x : Int32) {i : Nat} (hi : i < 32) : bt (x <<< (nI n &&& 31)) i = (decide (n ≤ i) && bt x (i - n)) := by
  unfold bt
  rw [Int32.toBitVec_shiftLeft]
  show (x.toBitVec <<< ((nI n &&& 31).toBitVec.smod 32).toNat).getLsbD i = _
  rw [s_l n hn, BitVec.getLsbD_shiftLeft]
  rcases Nat.lt_or_ge i n with h | h
  · simp [h, Nat.not_le.mpr h]
  · simp [hi, h, Nat.not_lt.mpr h]
theorem b_ushr (n : Nat) (hn : n < 32) (x : Int32) (i : Nat) : bt ((x.toUInt32 >>> ((nI n).toUInt32 &&& Int32.toUInt32 31)).toInt32) i = bt x (n + i) := by
  show (x.toUInt32 >>> ((nI n).toUInt32 &&& Int32.toUInt32 31)).toBitVec.getLsbD i = x.toUInt32.toBitVec.getLsbD (n + i)
  rw [UInt32.toBitVec_shiftRight]
  show (x.toUInt32.toBitVec >>> (((nI n).toUInt32 &&& Int32.toUInt32 31).toBitVec % 32).toNat).getLsbD i = _
  rw [s_u n hn, BitVec.getLsbD_ushiftRight]
theorem b_sshr (n : Nat) (hn : n < 32) (x : Int32) {i : Nat} (hi : i < 32) : bt (x >>> (nI n &&& 31)) i = if n + i < 32 then bt x (n + i) else bt x 31 := by
  unfold bt
  rw [Int32.toBitVec_shiftRight]
  show (x.toBitVec.sshiftRight ((nI n &&& 31).toBitVec.smod 32).toNat).getLsbD i = _
  rw [s_l n hn, BitVec.getLsbD_sshiftRight, BitVec.msb_eq_getLsbD_last]
  simp [hi]
theorem b_shl8 (x : Int32) {i : Nat} (hi : i < 32) : bt (x <<< ((8 : Int32) &&& 31)) i = (decide (8 ≤ i) && bt x (i - 8)) := b_shl 8 (by omega) x hi
theorem b_shl16 (x : Int32) {i : Nat} (hi : i < 32) : bt (x <<< ((16 : Int32) &&& 31)) i = (decide (16 ≤ i) && bt x (i - 16)) := b_shl 16 (by omega) x hi
theorem b_shl24 (x : Int32) {i : Nat} (hi : i < 32) : bt (x <<< ((24 : Int32) &&& 31)) i = (decide (24 ≤ i) && bt x (i - 24)) := b_shl 24 (by omega) x hi
theorem b_sshr8 (x : Int32) {i : Nat} (hi : i < 32) : bt (x >>> ((8 : Int32) &&& 31)) i = if 8 + i < 32 then bt x (8 + i) else bt x 31 := b_sshr 8 (by omega) x hi
/-! ===== nI under and, xor, >>>, one bit, 65535 ===== -/
theorem nx_and (a b : Nat) : nI a &&& nI b = nI (a &&& b) := by
  apply Int32.toBitVec_inj.1
  show BitVec.ofNat 32 a &&& BitVec.ofNat 32 b = BitVec.ofNat 32 (a &&& b)
  apply BitVec.eq_of_getLsbD_eq
  intro i hi
  simp [hi]
theorem nx_xor (a b : Nat) : nI a ^^^ nI b = nI (a ^^^ b) := by
  apply Int32.toBitVec_inj.1
  show BitVec.ofNat 32 a ^^^ BitVec.ofNat 32 b = BitVec.ofNat 32 (a ^^^ b)
  apply BitVec.eq_of_getLsbD_eq
  intro i hi
  simp [hi]
end
section
/-! ===== counting, and sets of cells as bits ===== -/
/-- how many i below N have P -/
def sk_cn (P : Nat → Bool) : Nat → Nat
  | 0 => 0
  | n + 1 => sk_cn P n + (if P n = true then 1 else 0)
theorem sk_cn_le (P : Nat → Bool) (N : Nat) : sk_cn P N ≤ N := by
  induction N with
  | zero => exact Nat.le_refl 0
  | succ n ih =>
    have e : sk_cn P (n + 1) = sk_cn P n + (if P n = true then 1 else 0) := rfl
    rw [e]
    by_cases h : P n = true
    · rw [if_pos h]; omega
    · rw [if_neg h]; omega
theorem sk_cn_congr {P P' : Nat → Bool} {N : Nat} (h : ∀ i, i < N → P i = P' i) : sk_cn P N = sk_cn P' N := by
  induction N with
  | zero => rfl
  | succ n ih =>
    show sk_cn P n + (if P n = true then 1 else 0) = sk_cn P' n + (if P' n = true then 1 else 0)
    rw [ih (fun i hi => h i (by omega)), h n (by omega)]
theorem sk_cn_set {P P' : Nat → Bool} {q N : Nat} (hq : q < N) (h0 : P q = false) (h1 : P' q = true) (h : ∀ i, i < N → i ≠ q → P' i = P i) : sk_cn P' N = sk_cn P N + 1 := by
  induction N with
  | zero => omega
  | succ n ih =>
    show sk_cn P' n + (if P' n = true then 1 else 0) = sk_cn P n + (if P n = true then 1 else 0) + 1
    by_cases e : q = n
    · have a : sk_cn P' n = sk_cn P n := sk_cn_congr (fun i hi => h i (by omega) (by omega))
      rw [a, ← e, h0, h1]
      simp
    · rw [ih (by omega) (fun i hi => h i (by omega)), h n (by omega) (fun z => e z.symm)]
      omega
theorem sk_cn_mono {P P' : Nat → Bool} {N : Nat} (h : ∀ i, i < N → P i = true → P' i = true) : sk_cn P N ≤ sk_cn P' N := by
  induction N with
  | zero => exact Nat.le_refl _
  | succ n ih =>
    show sk_cn P n + (if P n = true then 1 else 0) ≤ sk_cn P' n + (if P' n = true then 1 else 0)
    have a := ih (fun i hi => h i (by omega))
    by_cases e : P n = true
    · rw [if_pos e, if_pos (h n (by omega) e)]; omega
    · rw [if_neg e]; omega
theorem sk_cn_smono {P P' : Nat → Bool} {q N : Nat} (hq : q < N) (h0 : P q = false) (h1 : P' q = true) (h : ∀ i, i < N → P i = true → P' i = true) : sk_cn P N + 1 ≤ sk_cn P' N := by
  have a : sk_cn (fun i => if i = q then true else P i) N = sk_cn P N + 1 :=
    sk_cn_set hq h0 (by simp) (fun i _ hn => by simp [hn])
  rw [← a]
  refine sk_cn_mono (fun i hi => ?_)
  by_cases e : i = q
  · intro _; rw [e]; exact h1
  · simp only [if_neg e]; exact h i hi
theorem sk_cn_lt {P : Nat → Bool} {q N : Nat} (hq : q < N) (h0 : P q = false) : sk_cn P N < N := by
  have a := sk_cn_smono (P := P) (P' := fun _ => true) hq h0 rfl (fun _ _ _ => rfl)
  have b := sk_cn_le (fun _ => true) N
  omega
theorem sk_cn_full {P : Nat → Bool} {N : Nat} (h : N ≤ sk_cn P N) : ∀ i, i < N → P i = true := by
  intro i hi
  cases e : P i
  · have := sk_cn_lt hi e; omega
  · rfl
theorem sk_cn_pos {P : Nat → Bool} {q N : Nat} (hq : q < N) (h : P q = true) : 1 ≤ sk_cn P N := by
  have a := sk_cn_smono (P := fun _ => false) (P' := P) hq rfl h (fun _ _ z => by cases z)
  omega
theorem sk_cn_ex {P : Nat → Bool} {N : Nat} (h : 1 ≤ sk_cn P N) : ∃ q, q < N ∧ P q = true := by
  induction N with
  | zero => exact absurd h (Nat.not_succ_le_zero 0)
  | succ n ih =>
    by_cases e : P n = true
    · exact ⟨n, by omega, e⟩
    · have a : sk_cn P (n + 1) = sk_cn P n + (if P n = true then 1 else 0) := rfl
      rw [a, if_neg e] at h
      obtain ⟨q, hq, hp⟩ := ih (by omega)
      exact ⟨q, by omega, hp⟩
theorem sk_cn_zero {P : Nat → Bool} {N : Nat} (h : sk_cn P N = 0) : ∀ i, i < N → P i = false := by
  intro i hi
  cases e : P i
  · rfl
  · have := sk_cn_pos hi e; omega
/-- blocks of 16 -/
theorem sk_cn_blk (P : Nat → Bool) (M : Nat) : sk_cn (fun s => P (s / 16)) (16 * M) = 16 * sk_cn P M := by
  induction M with
  | zero => rfl
  | succ m ih =>
    have key : ∀ j, j ≤ 16 → sk_cn (fun s => P (s / 16)) (16 * m + j) = 16 * sk_cn P m + (if P m = true then j else 0) := by
      intro j
      induction j with
      | zero => intro _; rw [Nat.add_zero, ih]; split <;> rfl
      | succ j jh =>
        intro hj
        show sk_cn (fun s => P (s / 16)) (16 * m + j) + (if P ((16 * m + j) / 16) = true then 1 else 0) = _
        rw [jh (by omega), show (16 * m + j) / 16 = m by omega]
        split <;> omega
    have k16 := key 16 (by omega)
    rw [show 16 * (m + 1) = 16 * m + 16 by omega, k16]
    show _ = 16 * (sk_cn P m + (if P m = true then 1 else 0))
    split <;> omega
/-! bits -/
def sk_b (c : Nat) : Int32 := (1 : Int32) <<< (nI c &&& 31)
def sk_clr (S : Int32) (c : Nat) : Int32 := S &&& (sk_b c ^^^ (-1))
def sk_mvb (S : Int32) (a c : Nat) : Int32 := sk_clr S a ||| sk_b c
theorem sk_b1 : ∀ i, i < 32 → bt 1 i = decide (i = 0) := by decide +kernel
theorem sk_bt_b {c : Nat} (hc : c < 32) (i : Nat) : bt (sk_b c) i = decide (i = c) := by
  rcases Nat.lt_or_ge i 32 with hi | hi
  · show bt ((1 : Int32) <<< (nI c &&& 31)) i = _
    rw [b_shl c hc 1 hi, sk_b1 (i - c) (by omega)]
    by_cases e : i = c
    · subst e; simp
    · rw [decide_eq_false e]
      by_cases g : c ≤ i
      · rw [decide_eq_false (p := i - c = 0) (by omega), Bool.and_false]
      · rw [decide_eq_false g, Bool.false_and]
  · rw [b_big hi, decide_eq_false (by omega)]
theorem sk_bt_clr {c : Nat} (hc : c < 32) (S : Int32) (i : Nat) : bt (sk_clr S c) i = (bt S i && !decide (i = c)) := by
  rcases Nat.lt_or_ge i 32 with hi | hi
  · show bt (S &&& (sk_b c ^^^ (-1))) i = _
    rw [b_and, b_xor, sk_bt_b hc, b_m1 i hi]
    simp
  · rw [b_big hi, b_big hi, Bool.false_and]
theorem sk_bt_set {c : Nat} (hc : c < 32) (S : Int32) (i : Nat) : bt (S ||| sk_b c) i = (bt S i || decide (i = c)) := by
  rw [b_or, sk_bt_b hc]
theorem sk_bt_mvb {a c : Nat} (ha : a < 32) (hc : c < 32) (S : Int32) (i : Nat) : bt (sk_mvb S a c) i = ((bt S i && !decide (i = a)) || decide (i = c)) := by
  show bt (sk_clr S a ||| sk_b c) i = _
  rw [sk_bt_set hc, sk_bt_clr ha]
theorem sk_inv (S : Int32) {c : Nat} (hc : c < 32) : (S >>> (nI c &&& 31)) &&& 1 = if bt S c = true then 1 else 0 := by
  apply b_ext
  intro i hi
  rw [b_and, b_sshr c hc S hi, sk_b1 i hi]
  by_cases h : i = 0
  · subst h
    rw [Nat.add_zero, if_pos hc]
    cases e : bt S c <;> decide
  · rw [decide_eq_false h, Bool.and_false]
    cases e : bt S c
    · exact (b_0 i).symm
    · show false = bt 1 i
      rw [sk_b1 i hi, decide_eq_false h]
/-- the number of boxes -/
def sk_bn (S : Int32) : Nat := sk_cn (bt S) 16
theorem sk_bn_set {S : Int32} {c : Nat} (hc : c < 16) (h : bt S c = false) : sk_bn (S ||| sk_b c) = sk_bn S + 1 :=
  sk_cn_set hc h (by rw [sk_bt_set (by omega)]; simp) (fun i _ hn => by rw [sk_bt_set (by omega)]; simp [hn])
theorem sk_bn_clr {S : Int32} {c : Nat} (hc : c < 16) (h : bt S c = true) : sk_bn S = sk_bn (sk_clr S c) + 1 :=
  sk_cn_set hc (by rw [sk_bt_clr (by omega)]; simp) h (fun i _ hn => by rw [sk_bt_clr (by omega)]; simp [hn])
theorem sk_bn_mvb {S : Int32} {a c : Nat} (ha : a < 16) (hc : c < 16) (h : bt S a = true) (h2 : bt S c = false) : sk_bn (sk_mvb S a c) = sk_bn S := by
  have e1 := sk_bn_clr ha h
  have e2 : sk_bn (sk_clr S a ||| sk_b c) = sk_bn (sk_clr S a) + 1 := sk_bn_set hc (by rw [sk_bt_clr (by omega), h2]; rfl)
  show sk_bn (sk_clr S a ||| sk_b c) = _
  omega
/-- bits of cells alone -/
def sk_lo (S : Int32) : Prop := ∀ i, bt S i = true → i < 16
theorem sk_bn_0 {S : Int32} (hl : sk_lo S) (h : sk_bn S = 0) : S = 0 := by
  apply b_ext
  intro i hi
  rw [b_0]
  cases e : bt S i
  · rfl
  · have := sk_cn_zero h i (hl i e)
    rw [e] at this
    cases this
theorem sk_lo_clr {S : Int32} {c : Nat} (hc : c < 16) (h : sk_lo S) : sk_lo (sk_clr S c) := by
  intro i hi
  rw [sk_bt_clr (by omega)] at hi
  exact h i (by revert hi; cases bt S i <;> simp)
/-- two cells' bits -/
def sk_pr (a b : Nat) : Int32 := sk_b a ||| sk_b b
theorem sk_pr_comm (a b : Nat) : sk_pr a b = sk_pr b a := by
  apply b_ext
  intro i _
  show bt (sk_b a ||| sk_b b) i = bt (sk_b b ||| sk_b a) i
  rw [b_or, b_or, Bool.or_comm]
theorem sk_pr_ex {S : Int32} (hl : sk_lo S) (h1 : 1 ≤ sk_bn S) (h2 : sk_bn S ≤ 2) : ∃ a b, a < 16 ∧ b < 16 ∧ S = sk_pr a b := by
  obtain ⟨a, ha, ea⟩ := sk_cn_ex h1
  have e1 := sk_bn_clr ha ea
  by_cases z : sk_bn (sk_clr S a) = 0
  · have e0 := sk_bn_0 (sk_lo_clr ha hl) z
    refine ⟨a, a, ha, ha, b_ext (fun i hi => ?_)⟩
    show bt S i = bt (sk_b a ||| sk_b a) i
    rw [sk_bt_set (by omega), sk_bt_b (by omega)]
    have q : bt (sk_clr S a) i = false := by rw [e0, b_0]
    rw [sk_bt_clr (by omega)] at q
    by_cases w : i = a
    · subst w; rw [ea]; simp
    · simp [w] at q ⊢; exact q
  · obtain ⟨b, hb, eb⟩ := sk_cn_ex (P := bt (sk_clr S a)) (N := 16) (by show 1 ≤ sk_bn (sk_clr S a); omega)
    have e2 := sk_bn_clr hb eb
    have e0 := sk_bn_0 (sk_lo_clr hb (sk_lo_clr ha hl)) (by omega)
    refine ⟨a, b, ha, hb, b_ext (fun i hi => ?_)⟩
    show bt S i = bt (sk_b a ||| sk_b b) i
    rw [sk_bt_set (by omega), sk_bt_b (by omega)]
    have q : bt (sk_clr (sk_clr S a) b) i = false := by rw [e0, b_0]
    rw [sk_bt_clr (by omega), sk_bt_clr (by omega)] at q
    rw [sk_bt_clr (by omega)] at eb
    by_cases w : i = a
    · subst w; rw [ea]; simp
    · by_cases w2 : i = b
      · subst w2
        simp [w] at eb ⊢; exact eb
      · simp [w, w2] at q ⊢; exact q
end
section
/-! ===== the store's graph ===== -/
/-- the next cell in a direction; 16 beyond the store -/
def sk_nb (p d : Nat) : Nat :=
  if d = 0 then (if p < 4 then 16 else p - 4)
  else if d = 1 then (if p < 12 then p + 4 else 16)
  else if d = 2 then (if p % 4 = 0 then 16 else p - 1)
  else (if p % 4 = 3 then 16 else p + 1)
/-- 16 if it is a wall, too -/
def sk_nx (K : Nat → Int32) (p d : Nat) : Nat := if sk_nb p d < 16 then (if K (sk_nb p d) = 1 then 16 else sk_nb p d) else 16
/-- as an answer -/
def sk_en (n : Nat) : Int32 := if n < 16 then nI n else -1
theorem sk_nb_inv : ∀ p, p < 16 → ∀ d, d < 4 → sk_nb p d < 16 → sk_nb (sk_nb p d) (d ^^^ 1) = p := by decide +kernel
theorem sk_nb_ne : ∀ p, p < 16 → ∀ d, d < 4 → sk_nb p d ≠ p := by decide +kernel
theorem sk_op_lt : ∀ d, d < 4 → d ^^^ 1 < 4 := by decide +kernel
theorem sk_op_op : ∀ d, d < 4 → (d ^^^ 1) ^^^ 1 = d := by decide +kernel
theorem sk_nx_le (K : Nat → Int32) (p d : Nat) : sk_nx K p d ≤ 16 := by
  unfold sk_nx
  split
  · split <;> omega
  · exact Nat.le_refl _
theorem sk_nx_ok {K : Nat → Int32} {p d : Nat} (h : sk_nx K p d < 16) : sk_nx K p d = sk_nb p d ∧ sk_nb p d < 16 ∧ K (sk_nx K p d) ≠ 1 := by
  have e : sk_nx K p d = if sk_nb p d < 16 then (if K (sk_nb p d) = 1 then 16 else sk_nb p d) else 16 := rfl
  by_cases h1 : sk_nb p d < 16
  · by_cases h2 : K (sk_nb p d) = 1
    · rw [e, if_pos h1, if_pos h2] at h; omega
    · rw [if_pos h1, if_neg h2] at e
      exact ⟨e, h1, by rw [e]; exact h2⟩
  · rw [e, if_neg h1] at h; omega
theorem sk_nx_eq {K : Nat → Int32} {p d : Nat} (h1 : sk_nb p d < 16) (h2 : K (sk_nb p d) ≠ 1) : sk_nx K p d = sk_nb p d := by
  unfold sk_nx
  rw [if_pos h1, if_neg h2]
theorem sk_nx_inv {K : Nat → Int32} {p d : Nat} (hp : p < 16) (hd : d < 4) (hk : K p ≠ 1) (h : sk_nx K p d < 16) : sk_nx K (sk_nx K p d) (d ^^^ 1) = p := by
  obtain ⟨e, h1, h2⟩ := sk_nx_ok h
  have q := sk_nb_inv p hp d hd h1
  rw [e]
  rw [sk_nx_eq (by rw [q]; exact hp) (by rw [q]; exact hk), q]
theorem sk_nx_inv' {K : Nat → Int32} {p d : Nat} (hp : p < 16) (hd : d < 4) (hk : K p ≠ 1) (h : sk_nx K p (d ^^^ 1) < 16) : sk_nx K (sk_nx K p (d ^^^ 1)) d = p := by
  have q := sk_nx_inv hp (sk_op_lt d hd) hk h
  rw [sk_op_op d hd] at q
  exact q
theorem sk_nx_ne {K : Nat → Int32} {p d : Nat} (hp : p < 16) (hd : d < 4) : sk_nx K p d ≠ p := by
  intro h
  obtain ⟨e, _, _⟩ := sk_nx_ok (K := K) (p := p) (d := d) (by omega)
  exact sk_nb_ne p hp d hd (by rw [← e]; exact h)
/-- a walk, a push -/
def sk_Wk (K : Nat → Int32) (d p : Nat) (S : Int32) (p' : Nat) (S' : Int32) : Prop :=
  p' = sk_nx K p d ∧ p' < 16 ∧ bt S p' = false ∧ S' = S
def sk_Pu (K : Nat → Int32) (d p : Nat) (S : Int32) (p' : Nat) (S' : Int32) : Prop :=
  p' = sk_nx K p d ∧ p' < 16 ∧ bt S p' = true ∧ sk_nx K p' d < 16 ∧ bt S (sk_nx K p' d) = false ∧ S' = sk_mvb S p' (sk_nx K p' d)
/-- one move at a cost: w 0: every move is one; w 1: pushes alone -/
def sk_Eg (K : Nat → Int32) (w e : Nat) (x y : Nat × Int32) : Prop :=
  ∃ d, d < 4 ∧ ((sk_Wk K d x.1 x.2 y.1 y.2 ∧ e = 1 - w) ∨ (sk_Pu K d x.1 x.2 y.1 y.2 ∧ e = 1))
/-- a store with n boxes that may be -/
def sk_V (K : Nat → Int32) (n p : Nat) (S : Int32) : Prop :=
  p < 16 ∧ K p ≠ 1 ∧ bt S p = false ∧ (∀ i, bt S i = true → i < 16 ∧ K i ≠ 1) ∧ sk_bn S = n
theorem sk_V_lo {K : Nat → Int32} {n p : Nat} {S : Int32} (h : sk_V K n p S) : sk_lo S := fun i hi => (h.2.2.2.1 i hi).1
theorem sk_V_wk {K : Nat → Int32} {n p d p' : Nat} {S S' : Int32} (h : sk_V K n p S) (e : sk_Wk K d p S p' S') : sk_V K n p' S' := by
  obtain ⟨e1, e2, e3, rfl⟩ := e
  have q := sk_nx_ok (K := K) (p := p) (d := d) (by omega)
  exact ⟨e2, by rw [e1]; exact q.2.2, e3, h.2.2.2.1, h.2.2.2.2⟩
theorem sk_V_pu {K : Nat → Int32} {n p d p' : Nat} {S S' : Int32} (h : sk_V K n p S) (e : sk_Pu K d p S p' S') : sk_V K n p' S' := by
  obtain ⟨e1, e2, e3, e4, e5, rfl⟩ := e
  have q := sk_nx_ok (K := K) (p := p) (d := d) (by omega)
  have q2 := sk_nx_ok e4
  have ne : p' ≠ sk_nx K p' d := by
    intro z
    rw [← z, e3] at e5
    cases e5
  refine ⟨e2, by rw [e1]; exact q.2.2, ?_, ?_, ?_⟩
  · rw [sk_bt_mvb (by omega) (by omega), e3]
    simp [ne]
  · intro i hi
    rw [sk_bt_mvb (by omega) (by omega)] at hi
    by_cases z : i = sk_nx K p' d
    · rw [z]; exact ⟨e4, q2.2.2⟩
    · refine h.2.2.2.1 i ?_
      revert hi
      cases bt S i <;> simp [z]
  · rw [sk_bn_mvb e2 e4 e3 e5]
    exact h.2.2.2.2
theorem sk_V_eg {K : Nat → Int32} {n w e : Nat} {x y : Nat × Int32} (h : sk_V K n x.1 x.2) (g : sk_Eg K w e x y) : sk_V K n y.1 y.2 := by
  obtain ⟨d, _, ⟨g, _⟩ | ⟨g, _⟩⟩ := g
  · exact sk_V_wk h g
  · exact sk_V_pu h g
/-! backwards -/
theorem sk_wk_back {K : Nat → Int32} {n p d : Nat} {S : Int32} (h : sk_V K n p S) (hd : d < 4) (hf : sk_nx K p (d ^^^ 1) < 16) (hb : bt S (sk_nx K p (d ^^^ 1)) = false) :
    sk_V K n (sk_nx K p (d ^^^ 1)) S ∧ sk_Wk K d (sk_nx K p (d ^^^ 1)) S p S := by
  have q := sk_nx_ok hf
  exact ⟨⟨hf, q.2.2, hb, h.2.2.2.1, h.2.2.2.2⟩, ⟨(sk_nx_inv' h.1 hd h.2.1 hf).symm, h.1, h.2.2.1, rfl⟩⟩
theorem sk_wk_only {K : Nat → Int32} {n p d p0 : Nat} {S S0 : Int32} (h : sk_V K n p0 S0) (hd : d < 4) (e : sk_Wk K d p0 S0 p S) :
    S0 = S ∧ p0 = sk_nx K p (d ^^^ 1) ∧ bt S (sk_nx K p (d ^^^ 1)) = false := by
  obtain ⟨e1, e2, e3, e4⟩ := e
  have q := sk_nx_inv h.1 hd h.2.1 (by rw [← e1]; exact e2)
  rw [← e1] at q
  exact ⟨e4.symm, q.symm, by rw [q, e4]; exact h.2.2.1⟩
theorem sk_pu_back {K : Nat → Int32} {n p d : Nat} {S : Int32} (h : sk_V K n p S) (hd : d < 4) (hf : sk_nx K p (d ^^^ 1) < 16) (hb : bt S (sk_nx K p (d ^^^ 1)) = false)
    (hx : sk_nx K p d < 16) (hs : bt S (sk_nx K p d) = true) :
    sk_V K n (sk_nx K p (d ^^^ 1)) (sk_mvb S (sk_nx K p d) p) ∧ sk_Pu K d (sk_nx K p (d ^^^ 1)) (sk_mvb S (sk_nx K p d) p) p S := by
  have q := sk_nx_ok hf
  have hp := h.1
  have ne1 : sk_nx K p (d ^^^ 1) ≠ p := sk_nx_ne hp (sk_op_lt d hd)
  have ne2 : sk_nx K p d ≠ p := sk_nx_ne hp hd
  have inv := sk_nx_inv' hp hd h.2.1 hf
  refine ⟨⟨hf, q.2.2, ?_, ?_, ?_⟩, ⟨inv.symm, hp, ?_, hx, ?_, ?_⟩⟩
  · rw [sk_bt_mvb (by omega) (by omega), hb]
    simp [ne1]
  · intro i hi
    rw [sk_bt_mvb (by omega) (by omega)] at hi
    by_cases z : i = p
    · rw [z]; exact ⟨hp, h.2.1⟩
    · refine h.2.2.2.1 i ?_
      revert hi
      cases bt S i <;> simp [z]
  · rw [sk_bn_mvb hx hp hs h.2.2.1]
    exact h.2.2.2.2
  · rw [sk_bt_mvb (by omega) (by omega)]
    simp
  · rw [sk_bt_mvb (by omega) (by omega)]
    simp [ne2]
  · apply b_ext
    intro i _
    rw [sk_bt_mvb (by omega) (by omega), sk_bt_mvb (by omega) (by omega)]
    by_cases z1 : i = p
    · subst z1
      rw [h.2.2.1]
      simp
      exact fun z => ne2 z.symm
    · by_cases z2 : i = sk_nx K p d
      · rw [z2, hs]; simp
      · simp [z1, z2]
theorem sk_pu_only {K : Nat → Int32} {n p d p0 : Nat} {S S0 : Int32} (h : sk_V K n p0 S0) (hd : d < 4) (e : sk_Pu K d p0 S0 p S) :
    p0 = sk_nx K p (d ^^^ 1) ∧ bt S (sk_nx K p (d ^^^ 1)) = false ∧ sk_nx K p d < 16 ∧ bt S (sk_nx K p d) = true ∧ S0 = sk_mvb S (sk_nx K p d) p := by
  have hv := sk_V_pu h e
  obtain ⟨e1, e2, e3, e4, e5, e6⟩ := e
  have q := sk_nx_inv h.1 hd h.2.1 (by rw [← e1]; exact e2)
  rw [← e1] at q
  have hp0 := h.1
  have ne : p0 ≠ p := by rw [e1]; exact fun z => sk_nx_ne h.1 hd z.symm
  have inv : sk_nx K p d ≠ p0 := by
    intro z
    have a := sk_nb_inv p e2 d hd (sk_nx_ok e4).2.1
    have b := sk_nb_inv p e2 (d ^^^ 1) (sk_op_lt d hd)
    have c1 : sk_nb p d = p0 := by rw [← z]; exact (sk_nx_ok e4).1.symm
    have c2 : sk_nb p (d ^^^ 1) = p0 := by
      have := (sk_nx_ok (K := K) (p := p) (d := d ^^^ 1) (by rw [q]; exact hp0)).1
      rw [← this]; exact q
    exact (by decide +kernel : ∀ p, p < 16 → ∀ d, d < 4 → sk_nb p d < 16 → sk_nb p d ≠ sk_nb p (d ^^^ 1)) p e2 d hd (by rw [c1]; exact hp0) (by rw [c1, c2])
  refine ⟨q.symm, ?_, e4, ?_, ?_⟩
  · rw [q, e6, sk_bt_mvb (by omega) (by omega), h.2.2.1]
    simp
    exact fun z => inv z.symm
  · rw [e6, sk_bt_mvb (by omega) (by omega)]
    simp
  · apply b_ext
    intro i _
    rw [e6, sk_bt_mvb (by omega) (by omega), sk_bt_mvb (by omega) (by omega)]
    by_cases z1 : i = p
    · subst z1
      rw [e3]; simp
    · by_cases z2 : i = sk_nx K p d
      · rw [z2, e5]
        have z3 : sk_nx K p d ≠ p := by rw [← z2]; exact z1
        simp [z3]
      · simp [z1, z2]
/-! paths -/
def sk_W (K : Nat → Int32) (w : Nat) : Nat → Nat → (Nat × Int32) → (Nat × Int32) → Prop
  | 0, c, x, y => x = y ∧ c = 0
  | n + 1, c, x, y => ∃ (z : Nat × Int32) (e c' : Nat), sk_Eg K w e x z ∧ sk_W K w n c' z y ∧ c = e + c'
theorem sk_W_snoc {K : Nat → Int32} {w : Nat} : ∀ (n c e : Nat) (x y z : Nat × Int32), sk_W K w n c x y → sk_Eg K w e y z → sk_W K w (n + 1) (c + e) x z := by
  intro n
  induction n with
  | zero =>
    intro c e x y z h g
    obtain ⟨rfl, rfl⟩ := h
    exact ⟨z, e, 0, g, ⟨rfl, rfl⟩, by omega⟩
  | succ n ih =>
    intro c e x y z h g
    obtain ⟨v, e1, c1, h1, h2, h3⟩ := h
    exact ⟨v, e1, c1 + e, h1, ih c1 e v y z h2 g, by omega⟩
/-- done: every box on a goal -/
def sk_Dn (K : Nat → Int32) (S : Int32) : Prop := ∀ i, bt S i = true → K i = 2
/-- a done store is reached at cost c -/
def sk_R (K : Nat → Int32) (w c : Nat) (x : Nat × Int32) : Prop := ∃ (n : Nat) (y : Nat × Int32), sk_W K w n c x y ∧ sk_Dn K y.2
theorem sk_R_0 {K : Nat → Int32} {w : Nat} {x : Nat × Int32} (h : sk_Dn K x.2) : sk_R K w 0 x := ⟨0, x, ⟨rfl, rfl⟩, h⟩
theorem sk_R_s {K : Nat → Int32} {w e c : Nat} {x z : Nat × Int32} (g : sk_Eg K w e x z) (h : sk_R K w c z) : sk_R K w (e + c) x := by
  obtain ⟨n, y, h1, h2⟩ := h
  exact ⟨n + 1, y, ⟨z, e, c, g, h1, rfl⟩, h2⟩
/-- from a source -/
def sk_F (K : Nat → Int32) (w : Nat) (Src : Nat × Int32 → Prop) (c : Nat) (y : Nat × Int32) : Prop := ∃ (n : Nat) (x : Nat × Int32), Src x ∧ sk_W K w n c x y
theorem sk_F_0 {K : Nat → Int32} {w : Nat} {Src : Nat × Int32 → Prop} {x : Nat × Int32} (h : Src x) : sk_F K w Src 0 x := ⟨0, x, h, ⟨rfl, rfl⟩⟩
theorem sk_F_s {K : Nat → Int32} {w e c : Nat} {Src : Nat × Int32 → Prop} {y z : Nat × Int32} (h : sk_F K w Src c y) (g : sk_Eg K w e y z) : sk_F K w Src (c + e) z := by
  obtain ⟨n, x, h1, h2⟩ := h
  exact ⟨n + 1, x, h1, sk_W_snoc n c e x y z h2 g⟩
/-- backwards: what holds all done stores and goes from a store to the stores before it, holds all that can be done -/
theorem sk_closB {K : Nat → Int32} {w n : Nat} {A : Nat → Nat × Int32 → Prop}
    (h0 : ∀ x : Nat × Int32, sk_V K n x.1 x.2 → sk_Dn K x.2 → A 0 x)
    (hs : ∀ (x y : Nat × Int32) (e c : Nat), sk_V K n x.1 x.2 → sk_V K n y.1 y.2 → A c y → sk_Eg K w e x y → A (e + c) x) :
    ∀ (m c : Nat) (x y : Nat × Int32), sk_V K n x.1 x.2 → sk_W K w m c x y → sk_Dn K y.2 → A c x := by
  intro m
  induction m with
  | zero =>
    intro c x y hv h hd
    obtain ⟨rfl, rfl⟩ := h
    exact h0 x hv hd
  | succ m ih =>
    intro c x y hv h hd
    obtain ⟨z, e, c1, g, h2, rfl⟩ := h
    have hz := sk_V_eg hv g
    exact hs x z e c1 hv hz (ih c1 z y hz h2 hd) g
/-- forwards, up to a level -/
theorem sk_closF {K : Nat → Int32} {w n L : Nat} {A : Nat → Nat × Int32 → Prop}
    (hm : ∀ (x : Nat × Int32) (c c' : Nat), c ≤ c' → A c x → A c' x)
    (hs : ∀ (x y : Nat × Int32) (e c : Nat), c < L → sk_V K n x.1 x.2 → A c x → sk_Eg K w e x y → A (c + e) y) :
    ∀ (m c c0 : Nat) (x y : Nat × Int32), sk_V K n x.1 x.2 → sk_W K w m c x y → c0 + c < L → A c0 x → A (c0 + c) y := by
  intro m
  induction m with
  | zero =>
    intro c c0 x y hv h hl ha
    obtain ⟨rfl, rfl⟩ := h
    exact ha
  | succ m ih =>
    intro c c0 x y hv h hl ha
    obtain ⟨z, e, c1, g, h2, rfl⟩ := h
    have hz := sk_V_eg hv g
    have a := ih c1 (c0 + e) z y hz h2 (by omega) (hs x z e c0 (by omega) hv ha g)
    rw [Nat.add_assoc] at a
    exact a
/-- forwards, a set that no move leaves -/
theorem sk_closG {K : Nat → Int32} {w n : Nat} {A : Nat × Int32 → Prop}
    (hs : ∀ (x y : Nat × Int32) (e : Nat), sk_V K n x.1 x.2 → A x → sk_Eg K w e x y → A y) :
    ∀ (m c : Nat) (x y : Nat × Int32), sk_V K n x.1 x.2 → sk_W K w m c x y → A x → A y := by
  intro m
  induction m with
  | zero =>
    intro c x y hv h ha
    obtain ⟨rfl, rfl⟩ := h
    exact ha
  | succ m ih =>
    intro c x y hv h ha
    obtain ⟨z, e, c1, g, h2, rfl⟩ := h
    exact ih c1 z y (sk_V_eg hv g) h2 (hs x z e hv ha g)
end
section
/-! ===== X's numbers of stores ===== -/
def sk_lwF (S : Int32) : Nat → Nat → Nat
  | 0, i => i
  | d + 1, i => if bt S i = true then i else sk_lwF S d (i + 1)
theorem sk_lwF_le (S : Int32) : ∀ d i, sk_lwF S d i ≤ i + d := by
  intro d
  induction d with
  | zero => intro i; exact Nat.le_refl _
  | succ d ih =>
    intro i
    show (if bt S i = true then i else sk_lwF S d (i + 1)) ≤ _
    by_cases h : bt S i = true
    · rw [if_pos h]; omega
    · rw [if_neg h]
      have := ih (i + 1)
      omega
def sk_lw (S : Int32) : Nat := sk_lwF S 15 0
theorem sk_lw_lt (S : Int32) : sk_lw S < 16 := by
  have := sk_lwF_le S 15 0
  show sk_lwF S 15 0 < 16
  omega
def sk_hi (S : Int32) : Nat := if sk_clr S (sk_lw S) = 0 then sk_lw S else sk_lw (sk_clr S (sk_lw S))
theorem sk_hi_lt (S : Int32) : sk_hi S < 16 := by
  unfold sk_hi
  split <;> exact sk_lw_lt _
def sk_xn (p : Nat) (S : Int32) : Nat := p + 16 * sk_lw S + 256 * sk_hi S
theorem sk_xn_lt {p : Nat} (hp : p < 16) (S : Int32) : sk_xn p S < 4096 := by
  have a := sk_lw_lt S
  have b := sk_hi_lt S
  show p + 16 * sk_lw S + 256 * sk_hi S < 4096
  omega
theorem sk_xn_dec {p : Nat} (hp : p < 16) (S : Int32) : sk_xn p S % 16 = p ∧ sk_xn p S / 16 % 16 = sk_lw S ∧ sk_xn p S / 256 = sk_hi S := by
  have a := sk_lw_lt S
  have b := sk_hi_lt S
  have e : sk_xn p S = p + 16 * sk_lw S + 256 * sk_hi S := rfl
  omega
theorem sk_pr_dec : ∀ a, a < 16 → ∀ b, b < 16 → sk_pr (sk_lw (sk_pr a b)) (sk_hi (sk_pr a b)) = sk_pr a b := by decide +kernel
theorem sk_S_dec {S : Int32} (hl : sk_lo S) (h1 : 1 ≤ sk_bn S) (h2 : sk_bn S ≤ 2) : sk_pr (sk_lw S) (sk_hi S) = S := by
  obtain ⟨a, b, ha, hb, rfl⟩ := sk_pr_ex hl h1 h2
  exact sk_pr_dec a ha b hb
/-! ===== Y's numbers of sets ===== -/
def sk_ta (m : Nat) : Nat := ((List.range 15).filter (fun a => decide ((a + 1) * (a + 2) / 2 ≤ m))).length
def sk_ys (m : Nat) : Int32 := if m = 136 then 0 else sk_pr (sk_ta m) (m - sk_ta m * (sk_ta m + 1) / 2)
theorem sk_ys_at : ∀ a, a < 16 → ∀ b, b < 16 → b ≤ a → sk_ys (a * (a + 1) / 2 + b) = sk_pr a b := by decide +kernel
theorem sk_tr_lt : ∀ a, a < 16 → ∀ b, b < 16 → b ≤ a → a * (a + 1) / 2 + b < 136 := by decide +kernel
theorem sk_ys_136 : sk_ys 136 = 0 := rfl
def sk_nuF (S : Int32) : Nat → Nat → Nat
  | 0, _ => 136
  | d + 1, i => if sk_ys i = S then i else sk_nuF S d (i + 1)
theorem sk_nuF_ok (S : Int32) : ∀ d i, (∃ m, i ≤ m ∧ m < i + d ∧ sk_ys m = S) → sk_nuF S d i < i + d ∧ sk_ys (sk_nuF S d i) = S := by
  intro d
  induction d with
  | zero => intro i ⟨m, h1, h2, _⟩; omega
  | succ d ih =>
    intro i ⟨m, h1, h2, h3⟩
    have e : sk_nuF S (d + 1) i = if sk_ys i = S then i else sk_nuF S d (i + 1) := rfl
    by_cases h : sk_ys i = S
    · rw [e, if_pos h]; exact ⟨by omega, h⟩
    · rw [e, if_neg h]
      have ne : m ≠ i := by intro z; rw [z] at h3; exact h h3
      have q := ih (i + 1) ⟨m, by omega, by omega, h3⟩
      exact ⟨by omega, q.2⟩
def sk_nu (S : Int32) : Nat := sk_nuF S 137 0
theorem sk_nu_ok {S : Int32} (hl : sk_lo S) (h2 : sk_bn S ≤ 2) : sk_nu S < 137 ∧ sk_ys (sk_nu S) = S := by
  have key : ∃ m, 0 ≤ m ∧ m < 0 + 137 ∧ sk_ys m = S := by
    by_cases z : sk_bn S = 0
    · exact ⟨136, by omega, by omega, by rw [sk_bn_0 hl z]; rfl⟩
    · obtain ⟨a, b, ha, hb, rfl⟩ := sk_pr_ex hl (by omega) h2
      by_cases g : b ≤ a
      · have := sk_tr_lt a ha b hb g
        exact ⟨a * (a + 1) / 2 + b, by omega, by omega, sk_ys_at a ha b hb g⟩
      · have := sk_tr_lt b hb a ha (by omega)
        exact ⟨b * (b + 1) / 2 + a, by omega, by omega, by rw [sk_ys_at b hb a ha (by omega), sk_pr_comm]⟩
  have q := sk_nuF_ok S 137 0 key
  exact ⟨by have := q.1; show sk_nuF S 137 0 < 137; omega, q.2⟩
theorem sk_ys_cnt : ∀ n, n < 3 → sk_cn (fun m => decide (sk_bn (sk_ys m) = n)) 137 ≤ 120 := by decide +kernel
theorem sk_ys_cnt2 {n : Nat} (h : n < 3) : sk_cn (fun s => decide (sk_bn (sk_ys (s / 16)) = n)) 2192 ≤ 1920 := by
  have a := sk_ys_cnt n h
  have b := sk_cn_blk (fun m => decide (sk_bn (sk_ys m) = n)) 137
  have c : 16 * 137 = 2192 := rfl
  rw [c] at b
  rw [b]
  omega
end
section
/-! ===== the small walks of both sides ===== -/
theorem sk_en_nx {K : Nat → Int32} {p d q : Nat} (hq : sk_nb p d = q) (h : q < 16) : sk_en (sk_nx K p d) = if K q = 1 then -1 else nI q := by
  unfold sk_en sk_nx
  rw [hq, if_pos h]
  by_cases k : K q = 1
  · rw [if_pos k, if_pos k]; rfl
  · rw [if_neg k, if_neg k, if_pos h]
theorem sk_en_no {K : Nat → Int32} {p d : Nat} (hq : sk_nb p d = 16) : sk_en (sk_nx K p d) = -1 := by
  unfold sk_en sk_nx
  rw [hq]
  rfl
theorem sk_en_16 {n : Nat} (h : ¬ n < 16) : sk_en n = -1 := if_neg h
theorem sk_en_lt {n : Nat} (h : n < 16) : sk_en n = nI n := if_pos h
theorem sk_xo : ∀ d, d < 4 → nI d ^^^ 1 = nI (d ^^^ 1) := by decide +kernel
theorem xw_bad_t {post : Int32 → Prop} {c : Int32} (hc : c < 0 ∨ nI 16 ≤ c) (h : post 1) : wpX_bad post c := by
  rcases hc with hc | hc
  · exact br_t hc h
  · have a : ¬ c < 0 := Int32.not_lt.mpr (Int32.le_trans (by decide) hc)
    have b : ¬ c < 16 := Int32.not_lt.mpr hc
    exact br_f a (br_f b h)
theorem xw_bad_f {post : Int32 → Prop} {j : Nat} (hj : j < 16) (h : post 0) : wpX_bad post (nI j) :=
  br_f (nI_pos (by omega)) (br_t (nI_lt (b := 16) hj (by decide)) h)
theorem yw_bad_t {post : Int32 → Prop} {u : SY} {c : Int32} (hc : c < 0 ∨ nI 16 ≤ c) (h : post 1) : wpY_bad post u c := by
  obtain ⟨a1, a2, a3, a4, a5, a6, a7, a8, a9, a10⟩ := u
  rcases hc with hc | hc
  · exact br_t hc h
  · have a : ¬ c < 0 := Int32.not_lt.mpr (Int32.le_trans (by decide) hc)
    have b : ¬ c ≤ 15 := fun z => absurd (Int32.le_trans hc z) (by decide)
    exact br_f a (br_f b h)
theorem yw_bad_f {post : Int32 → Prop} {u : SY} {j : Nat} (hj : j < 16) (h : post 0) : wpY_bad post u (nI j) := by
  obtain ⟨a1, a2, a3, a4, a5, a6, a7, a8, a9, a10⟩ := u
  exact br_f (nI_pos (by omega)) (br_t (nI_le (b := 15) (by omega) (by decide)) h)
theorem xw_in1 {post : Int32 → Prop} {S : Int32} {c : Nat} (hc : c < 16) (hb : bt S c = true) (h : post 1) : wpX_in post S (nI c) := by
  have e : (S >>> (nI c &&& 31)) &&& 1 = 1 := by rw [sk_inv S (by omega), if_pos hb]
  exact br_t e h
theorem xw_in0 {post : Int32 → Prop} {S : Int32} {c : Nat} (hc : c < 16) (hb : bt S c = false) (h : post 0) : wpX_in post S (nI c) := by
  have e : ¬ (S >>> (nI c &&& 31)) &&& 1 = 1 := by
    rw [sk_inv S (by omega), hb]; decide
  exact br_f e h
theorem yw_has1 {post : Int32 → Prop} {u : SY} {S : Int32} {c : Nat} (hc : c < 16) (hb : bt S c = true) (h : post 1) : wpY_has post u S (nI c) := by
  obtain ⟨a1, a2, a3, a4, a5, a6, a7, a8, a9, a10⟩ := u
  have e : (S >>> (nI c &&& 31)) &&& 1 = 1 := by rw [sk_inv S (by omega), if_pos hb]
  exact br_t e h
theorem yw_has0 {post : Int32 → Prop} {u : SY} {S : Int32} {c : Nat} (hc : c < 16) (hb : bt S c = false) (h : post 0) : wpY_has post u S (nI c) := by
  obtain ⟨a1, a2, a3, a4, a5, a6, a7, a8, a9, a10⟩ := u
  have e : ¬ (S >>> (nI c &&& 31)) &&& 1 = 1 := by
    rw [sk_inv S (by omega), hb]; decide
  exact br_f e h
/-! numbers of bits -/
theorem sk_bits_s (S : Int32) {i : Nat} (hi : i < 16) : nI (sk_cn (bt S) i) + ((S >>> (nI i &&& 31)) &&& 1) = nI (sk_cn (bt S) (i + 1)) := by
  rw [sk_inv S (by omega)]
  have e : sk_cn (bt S) (i + 1) = sk_cn (bt S) i + (if bt S i = true then 1 else 0) := rfl
  rw [e]
  by_cases h : bt S i = true
  · rw [if_pos h, if_pos h]; exact nI_1 _
  · rw [if_neg h, if_neg h]; exact Int32.add_zero _
theorem xw_bits_4 {post : Int32 → Prop} {S : Int32} (h : post (nI (sk_bn S))) : ∀ d i, i + d = 16 → wX_bits_4 post S (d + 1) (nI (sk_cn (bt S) i)) (nI i) := by
  intro d
  induction d with
  | zero =>
    intro i hi
    obtain rfl : i = 16 := by omega
    exact br_t (nI_le (a := 16) (b := 16) (by omega) (by decide)) h
  | succ d ih =>
    intro i hi
    exact br_f (nI_ge (b := 16) (by omega) (by decide)) (nm_r (sk_bits_s S (by omega)) (nm_r (nI_1 i) (ih (i + 1) (by omega))))
theorem xw_bits {post : Int32 → Prop} {S : Int32} (h : post (nI (sk_bn S))) : wpX_bits post S := ⟨17, xw_bits_4 h 16 0 rfl⟩
section
variable {B P md kp pc df wt pd tc tb : Int32} {K mv D Q my st lv : Nat → Int32}
theorem yw_size_4 {post : Int32 → Prop} {S : Int32} (h : post (nI (sk_bn S))) : ∀ d i, i + d = 16 → wY_size_4 post S B P kp pd tc tb K my st lv (d + 1) (nI (sk_cn (bt S) i)) (nI i) := by
  intro d
  induction d with
  | zero =>
    intro i hi
    obtain rfl : i = 16 := by omega
    exact br_t (nI_le (a := 16) (b := 16) (by omega) (by decide)) h
  | succ d ih =>
    intro i hi
    exact br_f (nI_ge (b := 16) (by omega) (by decide)) (nm_r (sk_bits_s S (by omega)) (nm_r (nI_1 i) (ih (i + 1) (by omega))))
theorem yw_size {post : Int32 → Prop} {S : Int32} (h : post (nI (sk_bn S))) : wpY_size post (B, P, kp, pd, tc, tb, K, my, st, lv) S := ⟨17, yw_size_4 h 16 0 rfl⟩
/-! X's step -/
theorem xw_44 {post : Int32 → Prop} {r c : Nat} (hr : r < 4) (hc : c < 4) (h : post (if K (4 * r + c) = 1 then -1 else nI (4 * r + c))) : wX_step_44 post (nI r) (nI c) B P md kp pc df wt K mv D Q := by
  have e : nI r * 4 + nI c = nI (4 * r + c) := by
    rw [show (4 : Int32) = nI 4 from rfl, pk_mul, nI_add, Nat.mul_comm]
  unfold wX_step_44
  rw [e, nI_clamp (by omega)]
  refine br_f (nI_pos (by omega)) (br_f (nI_nlt (a := 3) (by omega) (by decide)) (br_f (nI_pos (by omega)) (br_t (nI_le (b := 3) (by omega) (by decide)) ⟨vp_in_nI (by omega) (by decide), ?_⟩)))
  by_cases k : K (4 * r + c) = 1
  · rw [if_pos k] at h; exact br_t k h
  · rw [if_neg k] at h; exact br_f k h
theorem xw_44r {post : Int32 → Prop} {x y : Int32} (hx : x < 0 ∨ 3 < x) (h : post (-1)) : wX_step_44 post x y B P md kp pc df wt K mv D Q := by
  rcases hx with hx | hx
  · exact br_t hx h
  · have a : ¬ x < 0 := fun z => absurd (Int32.lt_trans hx z) (by decide)
    exact br_f a (br_t hx h)
theorem xw_44c {post : Int32 → Prop} {r : Nat} {y : Int32} (hr : r < 4) (hy : y < 0 ∨ 3 < y) (h : post (-1)) : wX_step_44 post (nI r) y B P md kp pc df wt K mv D Q := by
  have a : ¬ nI r < 0 := nI_pos (by omega)
  have b : ¬ 3 < nI r := nI_nlt (a := 3) (by omega) (by decide)
  rcases hy with hy | hy
  · exact br_f a (br_f b (br_t hy h))
  · have a2 : ¬ y < 0 := fun z => absurd (Int32.lt_trans hy z) (by decide)
    exact br_f a (br_f b (br_f a2 (br_f (Int32.not_le.mpr hy) h)))
theorem xw_step {post : Int32 → Prop} {p d : Nat} (hp : p < 16) (hd : d < 4) (h : post (sk_en (sk_nx K p d))) : wpX_step post (B, P, md, kp, pc, df, wt, K, mv, D, Q) (nI p) (nI d) := by
  obtain ⟨r, c, hr, hc, rfl⟩ : ∃ r c, r < 4 ∧ c < 4 ∧ p = 4 * r + c := ⟨p / 4, p % 4, by omega, by omega, by omega⟩
  have e1 : nI (4 * r + c) / 4 = nI r := (pk_div (d := 4) (by omega) (by decide) (by decide)).trans (congrArg nI (by omega))
  have e2 : nI (4 * r + c) - nI (4 * r + c) / 4 * 4 = nI c := (pk_rem (d := 4) (by omega) (by decide) (by decide)).trans (congrArg nI (by omega))
  refine And.intro (by decide) (nm_r e1 (And.intro (by decide) (nm_r e2 ?_)))
  rcases (by omega : d = 0 ∨ d = 1 ∨ d = 2 ∨ d = 3) with rfl | rfl | rfl | rfl
  · refine br_t rfl (nm_e ?_)
    by_cases z : r = 0
    · subst z
      have b : sk_nb (4 * 0 + c) 0 = 16 := by unfold sk_nb; rw [if_pos rfl, if_pos (by omega)]
      rw [sk_en_no b] at h
      exact xw_44r (Or.inl (by decide)) h
    · have b : sk_nb (4 * r + c) 0 = 4 * (r - 1) + c := by unfold sk_nb; rw [if_pos rfl, if_neg (by omega)]; omega
      rw [sk_en_nx b (by omega)] at h
      rw [sb_m1 (by omega)]
      exact xw_44 (by omega) hc h
  · refine br_f (by decide) (br_t rfl (nm_e ?_))
    rw [nI_1]
    by_cases z : r = 3
    · subst z
      have b : sk_nb (4 * 3 + c) 1 = 16 := by unfold sk_nb; rw [if_neg (by decide), if_pos rfl, if_neg (by omega)]
      rw [sk_en_no b] at h
      exact xw_44r (Or.inr (by decide)) h
    · have b : sk_nb (4 * r + c) 1 = 4 * (r + 1) + c := by unfold sk_nb; rw [if_neg (by decide), if_pos rfl, if_pos (by omega)]; omega
      rw [sk_en_nx b (by omega)] at h
      exact xw_44 (by omega) hc h
  · refine br_f (by decide) (br_f (by decide) (br_t rfl (nm_e ?_)))
    by_cases z : c = 0
    · subst z
      have b : sk_nb (4 * r + 0) 2 = 16 := by unfold sk_nb; rw [if_neg (by decide), if_neg (by decide), if_pos rfl, if_pos (by omega)]
      rw [sk_en_no b] at h
      exact xw_44c hr (Or.inl (by decide)) h
    · have b : sk_nb (4 * r + c) 2 = 4 * r + (c - 1) := by unfold sk_nb; rw [if_neg (by decide), if_neg (by decide), if_pos rfl, if_neg (by omega)]; omega
      rw [sk_en_nx b (by omega)] at h
      rw [sb_m1 (by omega)]
      exact xw_44 hr (by omega) h
  · refine br_f (by decide) (br_f (by decide) (br_f (by decide) (nm_e ?_)))
    rw [nI_1]
    by_cases z : c = 3
    · subst z
      have b : sk_nb (4 * r + 3) 3 = 16 := by unfold sk_nb; rw [if_neg (by decide), if_neg (by decide), if_neg (by decide), if_pos (by omega)]
      rw [sk_en_no b] at h
      exact xw_44c hr (Or.inr (by decide)) h
    · have b : sk_nb (4 * r + c) 3 = 4 * r + (c + 1) := by unfold sk_nb; rw [if_neg (by decide), if_neg (by decide), if_neg (by decide), if_neg (by omega)]; omega
      rw [sk_en_nx b (by omega)] at h
      exact xw_44 hr (by omega) h
/-! Y's next -/
theorem yw_62n {post : Int32 → Prop} {x : Int32} (hx : x < 0 ∨ nI 16 ≤ x) (h : post (-1)) : wY_next_62 post x B P kp pd tc tb K my st lv :=
  yw_bad_t hx (br_f (by decide) h)
theorem yw_62 {post : Int32 → Prop} {q : Nat} (hq : q < 16) (h : post (if K q = 1 then -1 else nI q)) : wY_next_62 post (nI q) B P kp pd tc tb K my st lv := by
  refine yw_bad_f hq (br_t rfl (And.intro (vp_in_nI hq (by decide)) ?_))
  rw [nI_clamp (by omega)]
  by_cases k : K q = 1
  · rw [if_pos k] at h; exact br_t k h
  · rw [if_neg k] at h; exact br_f k h
theorem yw_next {post : Int32 → Prop} {p d : Nat} (hp : p < 16) (hd : d < 4) (h : post (sk_en (sk_nx K p d))) : wpY_next post (B, P, kp, pd, tc, tb, K, my, st, lv) (nI p) (nI d) := by
  have e2 : nI p - nI p / 4 * 4 = nI (p % 4) := pk_rem (d := 4) (by omega) (by decide) (by decide)
  rcases (by omega : d = 0 ∨ d = 1 ∨ d = 2 ∨ d = 3) with rfl | rfl | rfl | rfl
  · refine br_t rfl (nm_e ?_)
    by_cases z : p < 4
    · have b : sk_nb p 0 = 16 := by unfold sk_nb; rw [if_pos rfl, if_pos z]
      rw [sk_en_no b] at h
      exact yw_62n (Or.inl (pk_sneg (b := 4) (by decide) z)) h
    · have b : sk_nb p 0 = p - 4 := by unfold sk_nb; rw [if_pos rfl, if_neg z]
      rw [sk_en_nx b (by omega)] at h
      rw [show nI p - 4 = nI (p - 4) from pk_sub (b := 4) (by omega)]
      exact yw_62 (by omega) h
  · refine br_f (by decide) (br_t rfl (nm_e ?_))
    rw [show nI p + 4 = nI (p + 4) from nI_add p 4]
    by_cases z : p < 12
    · have b : sk_nb p 1 = p + 4 := by unfold sk_nb; rw [if_neg (by decide), if_pos rfl, if_pos z]
      rw [sk_en_nx b (by omega)] at h
      exact yw_62 (by omega) h
    · have b : sk_nb p 1 = 16 := by unfold sk_nb; rw [if_neg (by decide), if_pos rfl, if_neg z]
      rw [sk_en_no b] at h
      exact yw_62n (Or.inr (nI_le (by omega) (by omega))) h
  · refine br_f (by decide) (br_f (by decide) (br_t rfl (And.intro (by decide) ?_)))
    rw [e2]
    by_cases z : p % 4 = 0
    · have b : sk_nb p 2 = 16 := by unfold sk_nb; rw [if_neg (by decide), if_neg (by decide), if_pos rfl, if_pos z]
      rw [sk_en_no b] at h
      exact br_t (by rw [z]; rfl) (yw_62n (Or.inl (by decide)) h)
    · have b : sk_nb p 2 = p - 1 := by unfold sk_nb; rw [if_neg (by decide), if_neg (by decide), if_pos rfl, if_neg z]
      rw [sk_en_nx b (by omega)] at h
      rw [show nI p - 1 = nI (p - 1) from pk_sub (b := 1) (by omega)]
      exact br_f (nI_ne0 (by omega) (by omega)) (yw_62 (by omega) h)
  · refine br_f (by decide) (br_f (by decide) (br_f (by decide) (And.intro (by decide) ?_)))
    rw [e2]
    by_cases z : p % 4 = 3
    · have b : sk_nb p 3 = 16 := by unfold sk_nb; rw [if_neg (by decide), if_neg (by decide), if_neg (by decide), if_pos z]
      rw [sk_en_no b] at h
      exact br_t (by rw [z]; rfl) (yw_62n (Or.inl (by decide)) h)
    · have b : sk_nb p 3 = p + 1 := by unfold sk_nb; rw [if_neg (by decide), if_neg (by decide), if_neg (by decide), if_neg z]
      rw [sk_en_nx b (by omega)] at h
      rw [nI_1]
      exact br_f (fun y => z ((nI_eq (b := 3) (by omega) (by decide)).mp y)) (yw_62 (by omega) h)
end
end
section
/-! ===== states, numbers, done; Y's step ===== -/
section
variable {B P md kp pc df wt pd tc tb : Int32} {K mv D Q my st lv : Nat → Int32}
theorem xw_lowest_2 {post : Int32 → Prop} {S : Int32} : ∀ d i, i + d = 15 → post (nI (sk_lwF S d i)) → wX_lowest_2 post S (d + 1) (nI i) := by
  intro d
  induction d with
  | zero =>
    intro i hi h
    obtain rfl : i = 15 := by omega
    exact br_t (nI_le (a := 15) (b := 15) (by omega) (by decide)) h
  | succ d ih =>
    intro i hi h
    have e : sk_lwF S (d + 1) i = if bt S i = true then i else sk_lwF S d (i + 1) := rfl
    rw [e] at h
    refine br_f (nI_ge (b := 15) (by omega) (by decide)) ?_
    rw [sk_inv S (c := i) (by omega)]
    by_cases k : bt S i = true
    · rw [if_pos k] at h ⊢
      exact br_f (by decide) h
    · rw [if_neg k] at h ⊢
      exact br_t rfl (nm_r (nI_1 i) (ih (i + 1) (by omega) h))
theorem xw_lowest {post : Int32 → Prop} {S : Int32} (h : post (nI (sk_lw S))) : wpX_lowest post S := ⟨16, xw_lowest_2 15 0 rfl h⟩
theorem sk_sum (p a b : Nat) : (nI p + (16 * nI a)) + (256 * nI b) = nI (p + 16 * a + 256 * b) := by
  rw [show (16 : Int32) = nI 16 from rfl, show (256 : Int32) = nI 256 from rfl, pk_mul, pk_mul, nI_add, nI_add]
theorem xw_stateOf {post : Int32 → Prop} {p : Nat} {S : Int32} (h : post (nI (sk_xn p S))) : wpX_stateOf post (nI p) S := by
  refine xw_lowest (nm_e ?_)
  have e : sk_xn p S = p + 16 * sk_lw S + 256 * sk_hi S := rfl
  rw [e, ← sk_sum] at h
  by_cases z : sk_clr S (sk_lw S) = 0
  · have q : sk_hi S = sk_lw S := if_pos z
    rw [q] at h
    exact br_t z h
  · have q : sk_hi S = sk_lw (sk_clr S (sk_lw S)) := if_neg z
    rw [q] at h
    exact br_f z (xw_lowest h)
theorem xw_boxesOf {post : Int32 → Prop} {q : Nat} (hq : q < 4096) (h : post (sk_pr (q / 16 % 16) (q / 256))) : wpX_boxesOf post (nI q) := by
  have e1 : nI q >>> ((4 : Int32) &&& 31) = nI (q / 16) := pk_shrN (by omega) _ 4 (by decide)
  have e2 : nI q >>> ((8 : Int32) &&& 31) = nI (q / 256) := pk_shrN (by omega) _ 8 (by decide)
  have e3 : nI (q / 16) &&& 15 = nI (q / 16 % 16) := pk_andN (by omega) 4 (by decide)
  unfold wpX_boxesOf
  rw [e1, e2, e3]
  exact h
/-- decoding a store's number -/
theorem sk_and15 {q : Nat} (hq : q < 4096) : nI q &&& 15 = nI (q % 16) := pk_andN (by omega) 4 (by decide)
theorem xw_boxesOf' {post : Int32 → Prop} {n p : Nat} {S : Int32} (hv : sk_V K n p S) (h1 : 1 ≤ n) (h2 : n ≤ 2) (h : post S) : wpX_boxesOf post (nI (sk_xn p S)) := by
  have e := sk_xn_dec hv.1 S
  refine xw_boxesOf (sk_xn_lt hv.1 S) ?_
  rw [e.2.1, e.2.2, sk_S_dec (sk_V_lo hv) (by rw [hv.2.2.2.2]; exact h1) (by rw [hv.2.2.2.2]; exact h2)]
  exact h
theorem sk_and15' {p : Nat} {S : Int32} (hp : p < 16) : nI (sk_xn p S) &&& 15 = nI p := by
  rw [sk_and15 (sk_xn_lt hp S), (sk_xn_dec hp S).1]
theorem xw_cameFrom {post : Int32 → Prop} {p d : Nat} {S : Int32} (hp : p < 16) (hd : d < 4)
    (h1 : sk_nx K p (d ^^^ 1) < 16 → bt S (sk_nx K p (d ^^^ 1)) = false → post (nI (sk_nx K p (d ^^^ 1))))
    (h0 : (sk_nx K p (d ^^^ 1) < 16 → bt S (sk_nx K p (d ^^^ 1)) = true) → post (-1)) :
    wpX_cameFrom post (B, P, md, kp, pc, df, wt, K, mv, D, Q) (nI p) S (nI d) := by
  unfold wpX_cameFrom wpX_opposite
  dsimp only
  rw [sk_xo d hd]
  refine xw_step hp (sk_op_lt d hd) ?_
  by_cases z : sk_nx K p (d ^^^ 1) < 16
  · rw [sk_en_lt z]
    refine br_f (nI_pos (by omega)) ?_
    cases k : bt S (sk_nx K p (d ^^^ 1))
    · exact xw_in0 z k (br_t rfl (h1 z k))
    · exact xw_in1 z k (br_f (by decide) (h0 (fun _ => k)))
  · rw [sk_en_16 z]
    exact br_t (by decide) (h0 (fun y => absurd y z))
/-! Y's step -/
theorem yw_step {post : Int32 → SY → Prop} {p d : Nat} {S : Int32} (hp : p < 16) (hd : d < 4)
    (h0 : (∀ p' S', ¬ sk_Wk K d p S p' S') → (∀ p' S', ¬ sk_Pu K d p S p' S') → ∀ a b : Int32, post 0 (B, P, kp, pd, a, b, K, my, st, lv))
    (h1 : ∀ p', sk_Wk K d p S p' S → post 1 (B, P, kp, pd, nI p', S, K, my, st, lv))
    (h2 : ∀ p' S', sk_Pu K d p S p' S' → post 2 (B, P, kp, pd, nI p', S', K, my, st, lv)) :
    wpY_step post (B, P, kp, pd, tc, tb, K, my, st, lv) (nI p) S (nI d) := by
  refine yw_next hp hd ?_
  by_cases z : sk_nx K p d < 16
  · rw [sk_en_lt z]
    refine br_t (nI_pos' (by omega)) ?_
    cases k : bt S (sk_nx K p d)
    · exact yw_has0 z k (br_t rfl (h1 _ ⟨rfl, z, k, rfl⟩))
    · have nw : ∀ p' S', ¬ sk_Wk K d p S p' S' := by
        intro p' S' e
        have := e.2.2.1
        rw [e.1, k] at this
        cases this
      refine yw_has1 z k (br_f (by decide) (yw_next z hd ?_))
      by_cases z2 : sk_nx K (sk_nx K p d) d < 16
      · rw [sk_en_lt z2]
        refine br_f (nI_pos (by omega)) ?_
        cases k2 : bt S (sk_nx K (sk_nx K p d) d)
        · exact yw_has0 z2 k2 (br_t rfl (nm_e (h2 _ _ ⟨rfl, z, k, z2, k2, rfl⟩)))
        · refine yw_has1 z2 k2 (br_f (by decide) (h0 nw ?_ _ _))
          intro p' S' e
          have := e.2.2.2.2.1
          rw [e.1, k2] at this
          cases this
      · rw [sk_en_16 z2]
        refine br_t (by decide) (h0 nw ?_ _ _)
        intro p' S' e
        have := e.2.2.2.1
        rw [e.1] at this
        exact z2 this
  · rw [sk_en_16 z]
    refine br_f (by decide) (h0 ?_ ?_ _ _)
    · intro p' S' e
      exact z (by rw [← e.1]; exact e.2.1)
    · intro p' S' e
      exact z (by rw [← e.1]; exact e.2.1)
/-! done -/
theorem yw_isDone_2 {post : Int32 → Prop} {S : Int32} (h1 : (∀ j, j < 16 → bt S j = true → K j = 2) → post 1) (h0 : ∀ j, j < 16 → bt S j = true → ¬ K j = 2 → post 0) :
    ∀ d i, i + d = 16 → (∀ j, j < i → bt S j = true → K j = 2) → wY_isDone_2 post S B P kp pd tc tb K my st lv (d + 1) (nI i) := by
  intro d
  induction d with
  | zero =>
    intro i hi h
    obtain rfl : i = 16 := by omega
    exact br_t (nI_le (a := 16) (b := 16) (by omega) (by decide)) (h1 h)
  | succ d ih =>
    intro i hi h
    have ec : (nI i).toNatClampNeg = i := nI_clamp (by omega)
    refine br_f (nI_ge (b := 16) (by omega) (by decide)) ?_
    cases k : bt S i
    · refine yw_has0 (by omega) k (br_t rfl (nm_r (nI_1 i) (ih (i + 1) (by omega) (lt_s h ?_))))
      intro z; rw [k] at z; cases z
    · refine yw_has1 (by omega) k (br_f (by decide) (And.intro (vp_in_nI (by omega) (by decide)) ?_))
      by_cases g : K i = 2
      · exact br_t (by rw [ec]; exact g) (nm_r (nI_1 i) (ih (i + 1) (by omega) (lt_s h (fun _ => g))))
      · exact br_f (by rw [ec]; exact g) (h0 i (by omega) k g)
theorem yw_isDone {post : Int32 → Prop} {S : Int32} (hl : sk_lo S) (h1 : sk_Dn K S → post 1) (h0 : ¬ sk_Dn K S → post 0) : wpY_isDone post (B, P, kp, pd, tc, tb, K, my, st, lv) S :=
  ⟨17, yw_isDone_2 (fun h => h1 (fun i hi => h i (hl i hi) hi)) (fun j _ hb hk => h0 (fun z => hk (z j hb))) 16 0 rfl (fun j hj => absurd hj (by omega))⟩
theorem xw_done_2 {post : Int32 → Prop} (h1 : (∀ j, j < 16 → bt B j = true → K j = 2) → post 1) (h0 : ∀ j, j < 16 → bt B j = true → ¬ K j = 2 → post 0) :
    ∀ d i, i + d = 16 → (∀ j, j < i → bt B j = true → K j = 2) → wX_done_2 post B P md kp pc df wt K mv D Q (d + 1) (nI i) := by
  intro d
  induction d with
  | zero =>
    intro i hi h
    obtain rfl : i = 16 := by omega
    exact br_t (nI_le (a := 16) (b := 16) (by omega) (by decide)) (h1 h)
  | succ d ih =>
    intro i hi h
    have ec : (nI i).toNatClampNeg = i := nI_clamp (by omega)
    refine br_f (nI_ge (b := 16) (by omega) (by decide)) ?_
    cases k : bt B i
    · refine xw_in0 (by omega) k (br_t rfl (nm_r (nI_1 i) (ih (i + 1) (by omega) (lt_s h ?_))))
      intro z; rw [k] at z; cases z
    · refine xw_in1 (by omega) k (br_f (by decide) (And.intro (vp_in_nI (by omega) (by decide)) ?_))
      by_cases g : K i = 2
      · exact br_t (by rw [ec]; exact g) (nm_r (nI_1 i) (ih (i + 1) (by omega) (lt_s h (fun _ => g))))
      · exact br_f (by rw [ec]; exact g) (h0 i (by omega) k g)
theorem xw_done {post : Int32 → Prop} (hl : sk_lo B) (h1 : sk_Dn K B → post 1) (h0 : ¬ sk_Dn K B → post 0) : wpX_done post (B, P, md, kp, pc, df, wt, K, mv, D, Q) :=
  ⟨17, xw_done_2 (fun h => h1 (fun i hi => h i (hl i hi) hi)) (fun j _ hb hk => h0 (fun z => hk (z j hb))) 16 0 rfl (fun j hj => absurd hj (by omega))⟩
/-! number -/
def sk_ST (st : Nat → Int32) : Prop := ∀ m, m < 137 → st m = sk_ys m
theorem yw_number_2 {post : Int32 → Prop} {S : Int32} (hst : sk_ST st) : ∀ d i, i + d = 137 → post (nI (sk_nuF S d i)) → wY_number_2 post S B P kp pd tc tb K my st lv (d + 1) (nI i) := by
  intro d
  induction d with
  | zero =>
    intro i hi h
    obtain rfl : i = 137 := by omega
    exact br_t (nI_le (a := 137) (b := 137) (by omega) (by decide)) h
  | succ d ih =>
    intro i hi h
    have e : sk_nuF S (d + 1) i = if sk_ys i = S then i else sk_nuF S d (i + 1) := rfl
    rw [e] at h
    have ec : st (nI i).toNatClampNeg = sk_ys i := by rw [nI_clamp (by omega)]; exact hst i (by omega)
    refine br_f (nI_ge (b := 137) (by omega) (by decide)) (And.intro (vp_in_nI (by omega) (by decide)) ?_)
    by_cases z : sk_ys i = S
    · rw [if_pos z] at h
      exact br_t (ec.trans z) h
    · rw [if_neg z] at h
      exact br_f (by rw [ec]; exact z) (nm_r (nI_1 i) (ih (i + 1) (by omega) h))
theorem yw_number {post : Int32 → Prop} {S : Int32} (hst : sk_ST st) (h : post (nI (sk_nu S))) : wpY_number post (B, P, kp, pd, tc, tb, K, my, st, lv) S :=
  ⟨138, yw_number_2 hst 137 0 rfl h⟩
end
end
section
/-! ===== X's table and queue: the pure side ===== -/
theorem sk_xn_inj {K : Nat → Int32} {n p p' : Nat} {S S' : Int32} (h1 : 1 ≤ n) (h2 : n ≤ 2) (hv : sk_V K n p S) (hv' : sk_V K n p' S') (e : sk_xn p S = sk_xn p' S') : p = p' ∧ S = S' := by
  have a := sk_xn_dec hv.1 S
  have b := sk_xn_dec hv'.1 S'
  have c := sk_S_dec (sk_V_lo hv) (by rw [hv.2.2.2.2]; exact h1) (by rw [hv.2.2.2.2]; exact h2)
  have c' := sk_S_dec (sk_V_lo hv') (by rw [hv'.2.2.2.2]; exact h1) (by rw [hv'.2.2.2.2]; exact h2)
  rw [e] at a
  refine ⟨a.1.symm.trans b.1, ?_⟩
  rw [← c, ← c', ← a.2.1, ← a.2.2, ← b.2.1, ← b.2.2]
def sk_dQ (D Q : Nat → Int32) (j : Nat) : Nat := (D (Q j).toNatClampNeg).toNatClampNeg
theorem sk_dQ_eq {D Q : Nat → Int32} {j q c : Nat} (hq : q < 4096) (hc : c < 5000) (h1 : Q j = nI q) (h2 : D q = nI c) : sk_dQ D Q j = c := by
  unfold sk_dQ
  rw [h1, nI_clamp (by omega), h2, nI_clamp (by omega)]
/-- the table of K's stores with n boxes, m of them waiting -/
def sk_TI (K : Nat → Int32) (w n m : Nat) (D Q : Nat → Int32) : Prop :=
  m = sk_cn (fun q => decide (¬ D q < 0)) 4096 ∧
  (∀ j, j < m → ∃ p S c, sk_V K n p S ∧ Q j = nI (sk_xn p S) ∧ D (sk_xn p S) = nI c ∧ c ≤ j ∧ sk_R K w c (p, S)) ∧
  (∀ q, q < 4096 → D q = -1 ∨ ∃ j, j < m ∧ Q j = nI q)
def sk_Ext (d m : Nat) (D Q : Nat → Int32) (m' : Nat) (D' Q' : Nat → Int32) : Prop :=
  m ≤ m' ∧ (∀ j, j < m → Q' j = Q j) ∧ (∀ q, q < 4096 → ¬ D q < 0 → D' q = D q) ∧ (∀ j, m ≤ j → j < m' → ∃ q, q < 4096 ∧ Q' j = nI q ∧ D' q = nI d)
theorem sk_TI_m {K : Nat → Int32} {w n m : Nat} {D Q : Nat → Int32} (h : sk_TI K w n m D Q) : m ≤ 4096 := by
  rw [h.1]; exact sk_cn_le _ _
theorem sk_Ext_rf {d m : Nat} {D Q : Nat → Int32} : sk_Ext d m D Q m D Q :=
  ⟨Nat.le_refl _, fun _ _ => rfl, fun _ _ _ => rfl, fun j h1 h2 => absurd h2 (by omega)⟩
theorem sk_Ext_tr {d m m1 m2 : Nat} {D Q D1 Q1 D2 Q2 : Nat → Int32} (hd : d < 5000) (h : sk_Ext d m D Q m1 D1 Q1) (g : sk_Ext d m1 D1 Q1 m2 D2 Q2) : sk_Ext d m D Q m2 D2 Q2 := by
  obtain ⟨a1, a2, a3, a4⟩ := h
  obtain ⟨b1, b2, b3, b4⟩ := g
  refine ⟨by omega, fun j hj => (b2 j (by omega)).trans (a2 j hj), fun q hq hn => ?_, fun j h1 h2 => ?_⟩
  · have e := a3 q hq hn
    rw [b3 q hq (by rw [e]; exact hn), e]
  · by_cases z : j < m1
    · obtain ⟨q, hq, e1, e2⟩ := a4 j h1 z
      exact ⟨q, hq, (b2 j z).trans e1, (b3 q hq (by rw [e2]; exact nI_pos (by omega))).trans e2⟩
    · exact b4 j (by omega) h2
/-- found at a cost of at most c -/
def sk_A (D : Nat → Int32) (c : Nat) (x : Nat × Int32) : Prop := ∃ c', c' ≤ c ∧ c' < 4096 ∧ D (sk_xn x.1 x.2) = nI c'
theorem sk_A_mono {D : Nat → Int32} {c c' : Nat} {x : Nat × Int32} (h : c ≤ c') (a : sk_A D c x) : sk_A D c' x := by
  obtain ⟨z, h1, h2, h3⟩ := a
  exact ⟨z, by omega, h2, h3⟩
theorem sk_A_ext {d m m' : Nat} {D Q D' Q' : Nat → Int32} {c : Nat} {x : Nat × Int32} (hx : x.1 < 16) (h : sk_Ext d m D Q m' D' Q') (a : sk_A D c x) : sk_A D' c x := by
  obtain ⟨z, h1, h2, h3⟩ := a
  exact ⟨z, h1, h2, (h.2.2.1 _ (sk_xn_lt hx _) (by rw [h3]; exact nI_pos (by omega))).trans h3⟩
theorem sk_fd_ext {d m m' : Nat} {D Q D' Q' : Nat → Int32} {q : Nat} (hq : q < 4096) (h : sk_Ext d m D Q m' D' Q') (a : ¬ D q < 0) : ¬ D' q < 0 := by
  rw [h.2.2.1 q hq a]; exact a
/-- what is found is in the queue -/
theorem sk_TI_fd {K : Nat → Int32} {w n m : Nat} {D Q : Nat → Int32} (h : sk_TI K w n m D Q) {q : Nat} (hq : q < 4096) (a : ¬ D q < 0) :
    ∃ j p S c, j < m ∧ sk_V K n p S ∧ q = sk_xn p S ∧ Q j = nI q ∧ D q = nI c ∧ c ≤ j ∧ sk_dQ D Q j = c ∧ sk_R K w c (p, S) := by
  have hm := sk_TI_m h
  rcases h.2.2 q hq with z | ⟨j, hj, e⟩
  · exact absurd (by rw [z]; decide) a
  · obtain ⟨p, S, c, hv, e1, e2, e3, e4⟩ := h.2.1 j hj
    have ee : q = sk_xn p S := by
      have := sk_xn_lt hv.1 S
      rw [e] at e1
      exact (nI_eq (by omega) (by omega)).mp e1
    subst ee
    exact ⟨j, p, S, c, hj, hv, rfl, e, e2, e3, sk_dQ_eq hq (by omega) e e2, e4⟩
theorem sk_fd_le {K : Nat → Int32} {w n m b : Nat} {D Q : Nat → Int32} (h : sk_TI K w n m D Q) (hb : ∀ j, j < m → sk_dQ D Q j ≤ b) {x : Nat × Int32} (hx : x.1 < 16) (a : ¬ D (sk_xn x.1 x.2) < 0) : sk_A D b x := by
  obtain ⟨j, p, S, c, hj, _, _, _, e2, e3, e4, _⟩ := sk_TI_fd h (sk_xn_lt hx x.2) a
  have := hb j hj
  have := sk_TI_m h
  exact ⟨c, by omega, by omega, e2⟩
/-- dQ under Ext -/
theorem sk_dQ_old {K : Nat → Int32} {w n d m m' : Nat} {D Q D' Q' : Nat → Int32} (h : sk_TI K w n m D Q) (g : sk_Ext d m D Q m' D' Q') {j : Nat} (hj : j < m) : sk_dQ D' Q' j = sk_dQ D Q j := by
  obtain ⟨p, S, c, hv, e1, e2, e3, e4⟩ := h.2.1 j hj
  have := sk_TI_m h
  have hx := sk_xn_lt hv.1 S
  rw [sk_dQ_eq hx (by omega) e1 e2]
  exact sk_dQ_eq hx (by omega) ((g.2.1 j hj).trans e1) ((g.2.2.1 _ hx (by rw [e2]; exact nI_pos (by omega))).trans e2)
theorem sk_dQ_new {d m m' : Nat} {D Q D' Q' : Nat → Int32} (hd : d < 5000) (g : sk_Ext d m D Q m' D' Q') {j : Nat} (h1 : m ≤ j) (h2 : j < m') : sk_dQ D' Q' j = d := by
  obtain ⟨q, hq, e1, e2⟩ := g.2.2.2 j h1 h2
  exact sk_dQ_eq hq hd e1 e2
/-- a store is reached -/
theorem sk_TI_push {K : Nat → Int32} {w n m d p : Nat} {D Q : Nat → Int32} {S : Int32} (h : sk_TI K w n m D Q) (hv : sk_V K n p S) (hd : d ≤ m) (hR : sk_R K w d (p, S)) (hn : D (sk_xn p S) < 0) :
    m < 4096 ∧ sk_TI K w n (m + 1) (upd D (sk_xn p S) (nI d)) (upd Q m (nI (sk_xn p S))) ∧ sk_Ext d m D Q (m + 1) (upd D (sk_xn p S) (nI d)) (upd Q m (nI (sk_xn p S))) := by
  have hx := sk_xn_lt hv.1 S
  have hm : m < 4096 := by
    rw [h.1]
    exact sk_cn_lt hx (by simp [hn])
  have hnd : ¬ nI d < 0 := nI_pos (by omega)
  refine ⟨hm, ⟨?_, ?_, ?_⟩, ⟨by omega, ?_, ?_, ?_⟩⟩
  · rw [h.1]
    refine (sk_cn_set hx (by simp [hn]) ?_ ?_).symm
    · rw [pk_us]; exact decide_eq_true hnd
    · intro i _ hi
      rw [pk_un hi]
  · intro j hj
    by_cases z : j = m
    · exact ⟨p, S, d, hv, by rw [z, pk_us], pk_us, by omega, hR⟩
    · obtain ⟨p', S', c, hv', e1, e2, e3, e4⟩ := h.2.1 j (by omega)
      have ne : sk_xn p' S' ≠ sk_xn p S := by
        intro y
        rw [y] at e2
        rw [e2] at hn
        exact nI_pos (by omega) hn
      exact ⟨p', S', c, hv', by rw [pk_un z]; exact e1, by rw [pk_un ne]; exact e2, e3, e4⟩
  · intro q hq
    by_cases z : q = sk_xn p S
    · exact Or.inr ⟨m, by omega, by rw [pk_us, z]⟩
    · rcases h.2.2 q hq with y | ⟨j, hj, y⟩
      · exact Or.inl (by rw [pk_un z]; exact y)
      · exact Or.inr ⟨j, by omega, by rw [pk_un (by omega)]; exact y⟩
  · intro j hj
    exact pk_un (by omega)
  · intro q hq hq2
    refine pk_un ?_
    intro y
    rw [y] at hq2
    exact hq2 hn
  · intro j h1 h2
    obtain rfl : j = m := by omega
    exact ⟨sk_xn p S, hx, pk_us, pk_us⟩
/-- an answer: the least cost from a source to a done store, or none -/
def sk_An (K : Nat → Int32) (w : Nat) (Src : Nat × Int32 → Prop) (no r : Int32) : Prop :=
  (r = no ∧ ∀ c x, Src x → ¬ sk_R K w c x) ∨ ∃ c, c < 4096 ∧ r = nI c ∧ (∃ x, Src x ∧ sk_R K w c x) ∧ ∀ c' x, c' < c → Src x → ¬ sk_R K w c' x
/-- a right table -/
def sk_T (K : Nat → Int32) (w n : Nat) (D : Nat → Int32) : Prop := ∀ p S, sk_V K n p S → sk_An K w (fun x => x = (p, S)) (-1) (D (sk_xn p S))
/-- closed: all before queue's j are found at its cost and the move's -/
def sk_Cl (K : Nat → Int32) (w n : Nat) (D Q : Nat → Int32) (j : Nat) : Prop :=
  ∀ (x y : Nat × Int32) (e : Nat), sk_V K n x.1 x.2 → sk_V K n y.1 y.2 → Q j = nI (sk_xn y.1 y.2) → sk_Eg K w e x y → sk_A D (e + sk_dQ D Q j) x
def sk_D0 (K : Nat → Int32) (n : Nat) (D : Nat → Int32) : Prop := ∀ x : Nat × Int32, sk_V K n x.1 x.2 → sk_Dn K x.2 → sk_A D 0 x
theorem sk_T_of {K : Nat → Int32} {w n m : Nat} {D Q : Nat → Int32} (hn1 : 1 ≤ n) (hn2 : n ≤ 2) (h : sk_TI K w n m D Q) (h0 : sk_D0 K n D) (hc : ∀ j, j < m → sk_Cl K w n D Q j) : sk_T K w n D := by
  have key := sk_closB (K := K) (w := w) (n := n) (A := sk_A D) h0 (by
    intro x y e c hx hy ⟨c', a1, a2, a3⟩ g
    have hq := sk_xn_lt hy.1 y.2
    obtain ⟨j, p, S, c2, hj, _, _, e1, e2, e3, e4, _⟩ := sk_TI_fd h hq (by rw [a3]; exact nI_pos (by omega))
    have := sk_TI_m h
    have ec : c2 = c' := by
      rw [a3] at e2
      exact ((nI_eq (by omega) (by omega)).mp e2).symm
    have q := hc j hj x y e hx hy e1 g
    rw [e4, ec] at q
    exact sk_A_mono (by omega) q)
  intro p S hv
  have hx := sk_xn_lt hv.1 S
  by_cases z : D (sk_xn p S) < 0
  · refine Or.inl ⟨?_, ?_⟩
    · rcases h.2.2 _ hx with y | ⟨j, hj, y⟩
      · exact y
      · obtain ⟨p', S', c, hv', e1, e2, e3, e4⟩ := h.2.1 j hj
        have := sk_xn_lt hv'.1 S'
        have := sk_TI_m h
        rw [e1] at y
        have ee := (nI_eq (by omega) (by omega)).mp y
        rw [ee] at e2
        rw [e2] at z
        exact absurd z (nI_pos (by omega))
    · intro c x hs hR
      subst hs
      obtain ⟨k, y, hw, hd⟩ := hR
      obtain ⟨c', _, b2, b3⟩ := key k c (p, S) y hv hw hd
      rw [b3] at z
      exact nI_pos (by omega) z
  · obtain ⟨j, p', S', c, hj, hv', e0, e1, e2, e3, e4, e5⟩ := sk_TI_fd h hx z
    have := sk_TI_m h
    refine Or.inr ⟨c, by omega, e2, ⟨(p, S), rfl, ?_⟩, ?_⟩
    · obtain ⟨rfl, rfl⟩ := sk_xn_inj hn1 hn2 hv hv' e0
      exact e5
    · intro c' x hc' hs hR
      subst hs
      obtain ⟨k, y, hw, hd⟩ := hR
      obtain ⟨c2, b1, b2, b3⟩ := key k c' (p, S) y hv hw hd
      rw [b3] at e2
      have := (nI_eq (by omega) (by omega)).mp e2
      omega
end
section
/-! ===== X's walks that fill the table ===== -/
theorem sk_short {d : Nat} (h : d < 32768) : vp_nar .short (nI d).toInt16.toInt32 = nI d := by
  rw [pk_vs, lg_i2s_small (by rw [nI_toInt (by omega)]; omega) (by rw [nI_toInt (by omega)]; omega)]
section
variable {B P md kp pc df : Int32} {K mv : Nat → Int32} {w n : Nat}
theorem xw_reach {post : SX → Prop} {m d p : Nat} {D Q : Nat → Int32} {S : Int32} (hT : sk_TI K w n m D Q) (hv : sk_V K n p S) (hd : d ≤ m) (hR : sk_R K w d (p, S))
    (h : ∀ m' D' Q', sk_TI K w n m' D' Q' → sk_Ext d m D Q m' D' Q' → ¬ D' (sk_xn p S) < 0 → post (B, P, md, kp, pc, df, nI m', K, mv, D', Q')) :
    wpX_reach post (B, P, md, kp, pc, df, nI m, K, mv, D, Q) (nI (sk_xn p S)) (nI d) := by
  have hx := sk_xn_lt hv.1 S
  have hm := sk_TI_m hT
  have ec : (nI (sk_xn p S)).toNatClampNeg = sk_xn p S := nI_clamp (by omega)
  have em : (nI m).toNatClampNeg = m := nI_clamp (by omega)
  refine And.intro (vp_in_nI hx (by decide)) ?_
  by_cases z : D (sk_xn p S) < 0
  · obtain ⟨a1, a2, a3⟩ := sk_TI_push hT hv hd hR z
    refine br_t (by rw [ec]; exact z) (And.intro (vp_in_nI hx (by decide)) (nm_r (e' := upd D (sk_xn p S) (nI d)) (by rw [ec, sk_short (by omega)]) (And.intro (vp_in_nI a1 (by decide)) (nm_r (e' := upd Q m (nI (sk_xn p S))) (by rw [em, sk_short (by omega)]) (nm_r (nI_1 m) ?_)))))
    exact h _ _ _ a2 a3 (by rw [pk_us]; exact nI_pos (by omega))
  · exact br_f (by rw [ec]; exact z) (h _ _ _ hT sk_Ext_rf z)
theorem xw_walkBack_14 {post : SX → Prop} {d p m0 : Nat} {S : Int32} {D0 Q0 : Nat → Int32} (hv : sk_V K n p S) (hd : d < 5000)
    (hR : ∀ e, e < 4 → sk_nx K p (e ^^^ 1) < 16 → bt S (sk_nx K p (e ^^^ 1)) = false → sk_R K w d (sk_nx K p (e ^^^ 1), S))
    (h : ∀ m' D' Q', sk_TI K w n m' D' Q' → sk_Ext d m0 D0 Q0 m' D' Q' → (∀ e, e < 4 → sk_nx K p (e ^^^ 1) < 16 → bt S (sk_nx K p (e ^^^ 1)) = false → ¬ D' (sk_xn (sk_nx K p (e ^^^ 1)) S) < 0) → post (B, P, md, kp, pc, df, nI m', K, mv, D', Q')) :
    ∀ k i, i + k = 4 → ∀ m D Q, sk_TI K w n m D Q → sk_Ext d m0 D0 Q0 m D Q → d ≤ m →
      (∀ e, e < i → sk_nx K p (e ^^^ 1) < 16 → bt S (sk_nx K p (e ^^^ 1)) = false → ¬ D (sk_xn (sk_nx K p (e ^^^ 1)) S) < 0) →
      wX_walkBack_14 post (nI d) (nI p) S (k + 1) (nI i) B P md kp pc df (nI m) K mv D Q := by
  intro k
  induction k with
  | zero =>
    intro i hi m D Q hT hE hm hf
    obtain rfl : i = 4 := by omega
    exact br_t (nI_le (a := 4) (b := 4) (by omega) (by decide)) (h m D Q hT hE hf)
  | succ k ih =>
    intro i hi m D Q hT hE hm hf
    refine br_f (nI_ge (b := 4) (by omega) (by decide)) (xw_cameFrom hv.1 (by omega) ?_ ?_)
    · intro h1 h2
      have hw := sk_wk_back hv (by omega) h1 h2
      refine br_f (nI_pos (by omega)) (xw_stateOf (xw_reach hT hw.1 hm (hR i (by omega) h1 h2) ?_))
      intro m' D' Q' hT' hE' hf'
      refine nm_r (nI_1 i) (ih (i + 1) (by omega) m' D' Q' hT' (sk_Ext_tr hd hE hE') (by have := hE'.1; omega) (lt_s ?_ ?_))
      · intro e he g1 g2
        exact sk_fd_ext (sk_xn_lt g1 S) hE' (hf e he g1 g2)
      · intro g1 g2
        exact hf'
    · intro h0
      refine br_t (by decide) (nm_r (nI_1 i) (ih (i + 1) (by omega) m D Q hT hE hm (lt_s hf ?_)))
      intro g1 g2
      rw [h0 g1] at g2
      cases g2
theorem xw_walkBack {post : SX → Prop} {d p m : Nat} {S : Int32} {D Q : Nat → Int32} (hn1 : 1 ≤ n) (hn2 : n ≤ 2) (hv : sk_V K n p S) (hd : d < 5000) (hT : sk_TI K w n m D Q) (hm : d ≤ m)
    (hR : ∀ (x : Nat × Int32) (e : Nat), e < 4 → sk_Wk K e x.1 x.2 p S → sk_R K w d x)
    (h : ∀ m' D' Q', sk_TI K w n m' D' Q' → sk_Ext d m D Q m' D' Q' → (∀ (x : Nat × Int32) (e : Nat), sk_V K n x.1 x.2 → e < 4 → sk_Wk K e x.1 x.2 p S → ¬ D' (sk_xn x.1 x.2) < 0) → post (B, P, md, kp, pc, df, nI m', K, mv, D', Q')) :
    wpX_walkBack post (B, P, md, kp, pc, df, nI m, K, mv, D, Q) (nI (sk_xn p S)) (nI d) := by
  refine nm_r (sk_and15' hv.1) (xw_boxesOf' hv hn1 hn2 ⟨5, ?_⟩)
  refine xw_walkBack_14 (w := w) (n := n) (m0 := m) (D0 := D) (Q0 := Q) hv hd ?_ ?_ 4 0 rfl m D Q hT sk_Ext_rf hm (fun e he => absurd he (by omega))
  · intro e he h1 h2
    exact hR (_, S) e he (sk_wk_back hv he h1 h2).2
  · intro m' D' Q' hT' hE' hf
    refine h m' D' Q' hT' hE' ?_
    intro x e hx he hw
    obtain ⟨b1, b2, b3⟩ := sk_wk_only hx he hw
    rw [b1, b2]
    exact hf e he (by rw [← b2]; exact hx.1) b3
theorem xw_pullBack_14 {post : SX → Prop} {d p m0 : Nat} {S : Int32} {D0 Q0 : Nat → Int32} (hv : sk_V K n p S) (hd : d < 5000)
    (hR : ∀ e, e < 4 → sk_nx K p (e ^^^ 1) < 16 → bt S (sk_nx K p (e ^^^ 1)) = false → sk_nx K p e < 16 → bt S (sk_nx K p e) = true → sk_R K w d (sk_nx K p (e ^^^ 1), sk_mvb S (sk_nx K p e) p))
    (h : ∀ m' D' Q', sk_TI K w n m' D' Q' → sk_Ext d m0 D0 Q0 m' D' Q' → (∀ e, e < 4 → sk_nx K p (e ^^^ 1) < 16 → bt S (sk_nx K p (e ^^^ 1)) = false → sk_nx K p e < 16 → bt S (sk_nx K p e) = true → ¬ D' (sk_xn (sk_nx K p (e ^^^ 1)) (sk_mvb S (sk_nx K p e) p)) < 0) → post (B, P, md, kp, pc, df, nI m', K, mv, D', Q')) :
    ∀ k i, i + k = 4 → ∀ m D Q, sk_TI K w n m D Q → sk_Ext d m0 D0 Q0 m D Q → d ≤ m →
      (∀ e, e < i → sk_nx K p (e ^^^ 1) < 16 → bt S (sk_nx K p (e ^^^ 1)) = false → sk_nx K p e < 16 → bt S (sk_nx K p e) = true → ¬ D (sk_xn (sk_nx K p (e ^^^ 1)) (sk_mvb S (sk_nx K p e) p)) < 0) →
      wX_pullBack_14 post (nI d) (nI p) S (k + 1) (nI i) B P md kp pc df (nI m) K mv D Q := by
  intro k
  induction k with
  | zero =>
    intro i hi m D Q hT hE hm hf
    obtain rfl : i = 4 := by omega
    exact br_t (nI_le (a := 4) (b := 4) (by omega) (by decide)) (h m D Q hT hE hf)
  | succ k ih =>
    intro i hi m D Q hT hE hm hf
    have hno : ∀ (hz : sk_nx K p (i ^^^ 1) < 16 → bt S (sk_nx K p (i ^^^ 1)) = false → sk_nx K p i < 16 → bt S (sk_nx K p i) = true → False), wX_pullBack_14 post (nI d) (nI p) S (k + 1) (nI (i + 1)) B P md kp pc df (nI m) K mv D Q := by
      intro hz
      exact ih (i + 1) (by omega) m D Q hT hE hm (lt_s hf (fun g1 g2 g3 g4 => absurd (hz g1 g2 g3 g4) (fun z => z)))
    refine br_f (nI_ge (b := 4) (by omega) (by decide)) (xw_cameFrom hv.1 (by omega) ?_ ?_)
    · intro h1 h2
      refine xw_step hv.1 (by omega) (br_f (nI_pos (by omega)) ?_)
      by_cases z : sk_nx K p i < 16
      · rw [sk_en_lt z]
        refine br_f (nI_pos (by omega)) ?_
        cases b : bt S (sk_nx K p i)
        · exact xw_in0 z b (br_t rfl (nm_r (nI_1 i) (hno (fun _ _ _ g => by rw [b] at g; cases g))))
        · have hw := sk_pu_back hv (by omega) h1 h2 z b
          refine xw_in1 z b (br_f (by decide) (xw_stateOf (xw_reach hT hw.1 hm (hR i (by omega) h1 h2 z b) ?_)))
          intro m' D' Q' hT' hE' hf'
          refine nm_r (nI_1 i) (ih (i + 1) (by omega) m' D' Q' hT' (sk_Ext_tr hd hE hE') (by have := hE'.1; omega) (lt_s ?_ ?_))
          · intro e he g1 g2 g3 g4
            exact sk_fd_ext (sk_xn_lt g1 _) hE' (hf e he g1 g2 g3 g4)
          · intro _ _ _ _
            exact hf'
      · rw [sk_en_16 z]
        exact br_t (by decide) (nm_r (nI_1 i) (hno (fun _ _ g _ => z g)))
    · intro h0
      refine xw_step hv.1 (by omega) (br_t (by decide) (nm_r (nI_1 i) (hno ?_)))
      intro g1 g2 _ _
      rw [h0 g1] at g2
      cases g2
theorem xw_pullBack {post : SX → Prop} {d p m : Nat} {S : Int32} {D Q : Nat → Int32} (hn1 : 1 ≤ n) (hn2 : n ≤ 2) (hv : sk_V K n p S) (hd : d < 5000) (hT : sk_TI K w n m D Q) (hm : d ≤ m)
    (hR : ∀ (x : Nat × Int32) (e : Nat), e < 4 → sk_Pu K e x.1 x.2 p S → sk_R K w d x)
    (h : ∀ m' D' Q', sk_TI K w n m' D' Q' → sk_Ext d m D Q m' D' Q' → (∀ (x : Nat × Int32) (e : Nat), sk_V K n x.1 x.2 → e < 4 → sk_Pu K e x.1 x.2 p S → ¬ D' (sk_xn x.1 x.2) < 0) → post (B, P, md, kp, pc, df, nI m', K, mv, D', Q')) :
    wpX_pullBack post (B, P, md, kp, pc, df, nI m, K, mv, D, Q) (nI (sk_xn p S)) (nI d) := by
  refine nm_r (sk_and15' hv.1) (xw_boxesOf' hv hn1 hn2 ⟨5, ?_⟩)
  refine xw_pullBack_14 (w := w) (n := n) (m0 := m) (D0 := D) (Q0 := Q) hv hd ?_ ?_ 4 0 rfl m D Q hT sk_Ext_rf hm (fun e he => absurd he (by omega))
  · intro e he h1 h2 h3 h4
    exact hR (_, _) e he (sk_pu_back hv he h1 h2 h3 h4).2
  · intro m' D' Q' hT' hE' hf
    refine h m' D' Q' hT' hE' ?_
    intro x e hx he hw
    obtain ⟨b1, b2, b3, b4, b5⟩ := sk_pu_only hx he hw
    rw [b1, b5]
    exact hf e he (by rw [← b1]; exact hx.1) b2 b3 b4
end
end
section
/-! ===== X: all done stores ===== -/
theorem sk_cn_none {P : Nat → Bool} {N : Nat} (h : ∀ i, i < N → P i = false) : sk_cn P N = 0 := by
  rcases Nat.eq_zero_or_pos (sk_cn P N) with z | z
  · exact z
  · obtain ⟨q, hq, e⟩ := sk_cn_ex z
    rw [h q hq] at e
    cases e
theorem sk_bn_pr : ∀ a, a < 16 → ∀ b, b < 16 → sk_bn (sk_pr a b) = if a = b then 1 else 2 := by decide +kernel
theorem sk_bt_pr {a b : Nat} (ha : a < 16) (hb : b < 16) (i : Nat) : bt (sk_pr a b) i = (decide (i = a) || decide (i = b)) := by
  show bt (sk_b a ||| sk_b b) i = _
  rw [b_or, sk_bt_b (by omega), sk_bt_b (by omega)]
/-- a pair that is done, with n boxes -/
def sk_RQ (K : Nat → Int32) (n a b : Nat) : Prop := K a = 2 ∧ K b = 2 ∧ (n = 1 ↔ a = b)
def sk_Fd (K : Nat → Int32) (n : Nat) (D : Nat → Int32) (S : Int32) : Prop := ∀ p, sk_V K n p S → ¬ D (sk_xn p S) < 0
theorem sk_Fd_ext {K : Nat → Int32} {n d m m' : Nat} {D Q D' Q' : Nat → Int32} {S : Int32} (h : sk_Ext d m D Q m' D' Q') (a : sk_Fd K n D S) : sk_Fd K n D' S :=
  fun p hv => sk_fd_ext (sk_xn_lt hv.1 S) h (a p hv)
theorem sk_RQ_S {K : Nat → Int32} {n a b : Nat} (hn1 : 1 ≤ n) (hn2 : n ≤ 2) (ha : a < 16) (hb : b < 16) (h : sk_RQ K n a b) :
    sk_Dn K (sk_pr a b) ∧ (∀ i, bt (sk_pr a b) i = true → i < 16 ∧ K i ≠ 1) ∧ sk_bn (sk_pr a b) = n := by
  have e : ∀ i, bt (sk_pr a b) i = true → i = a ∨ i = b := by
    intro i hi
    rw [sk_bt_pr ha hb] at hi
    simpa using hi
  refine ⟨fun i hi => ?_, fun i hi => ?_, ?_⟩
  · rcases e i hi with rfl | rfl
    · exact h.1
    · exact h.2.1
  · rcases e i hi with rfl | rfl
    · exact ⟨ha, by rw [h.1]; decide⟩
    · exact ⟨hb, by rw [h.2.1]; decide⟩
  · rw [sk_bn_pr a ha b hb]
    by_cases z : a = b
    · rw [if_pos z]; exact (h.2.2.mpr z).symm
    · rw [if_neg z]
      have : n ≠ 1 := fun y => z (h.2.2.mp y)
      omega
section
variable {B P md kp pc df : Int32} {K mv : Nat → Int32} {w n : Nat}
theorem xw_startWith_2 {post : SX → Prop} {m0 : Nat} {S : Int32} {D0 Q0 : Nat → Int32} (hd : sk_Dn K S) (hS : ∀ i, bt S i = true → i < 16 ∧ K i ≠ 1) (hn : sk_bn S = n)
    (h : ∀ m' D' Q', sk_TI K w n m' D' Q' → sk_Ext 0 m0 D0 Q0 m' D' Q' → sk_Fd K n D' S → post (B, P, md, kp, pc, df, nI m', K, mv, D', Q')) :
    ∀ k i, i + k = 16 → ∀ m D Q, sk_TI K w n m D Q → sk_Ext 0 m0 D0 Q0 m D Q → (∀ p, p < i → sk_V K n p S → ¬ D (sk_xn p S) < 0) →
      wX_startWith_2 post S (k + 1) (nI i) B P md kp pc df (nI m) K mv D Q := by
  intro k
  induction k with
  | zero =>
    intro i hi m D Q hT hE hf
    obtain rfl : i = 16 := by omega
    exact br_t (nI_le (a := 16) (b := 16) (by omega) (by decide)) (h m D Q hT hE (fun p hv => hf p hv.1 hv))
  | succ k ih =>
    intro i hi m D Q hT hE hf
    have ec : (nI i).toNatClampNeg = i := nI_clamp (by omega)
    refine br_f (nI_ge (b := 16) (by omega) (by decide)) (And.intro (vp_in_nI (by omega) (by decide)) ?_)
    by_cases z : K i = 1
    · exact br_t (by rw [ec]; exact z) (nm_r (nI_1 i) (ih (i + 1) (by omega) m D Q hT hE (lt_s hf (fun hv => absurd z hv.2.1))))
    · refine br_f (by rw [ec]; exact z) ?_
      cases b : bt S i
      · have hv : sk_V K n i S := ⟨by omega, z, b, hS, hn⟩
        refine xw_in0 (by omega) b (br_t rfl (xw_stateOf (xw_reach (d := 0) hT hv (by omega) (sk_R_0 hd) ?_)))
        intro m' D' Q' hT' hE' hf'
        refine nm_r (nI_1 i) (ih (i + 1) (by omega) m' D' Q' hT' (sk_Ext_tr (by omega) hE hE') (lt_s ?_ (fun _ => hf')))
        intro p hp hv'
        exact sk_fd_ext (sk_xn_lt hv'.1 S) hE' (hf p hp hv')
      · refine xw_in1 (by omega) b (br_f (by decide) (nm_r (nI_1 i) (ih (i + 1) (by omega) m D Q hT hE (lt_s hf ?_))))
        intro hv
        have := hv.2.2.1
        rw [b] at this
        cases this
theorem xw_startWith {post : SX → Prop} {m : Nat} {S : Int32} {D Q : Nat → Int32} (hd : sk_Dn K S) (hS : ∀ i, bt S i = true → i < 16 ∧ K i ≠ 1) (hn : sk_bn S = n) (hT : sk_TI K w n m D Q)
    (h : ∀ m' D' Q', sk_TI K w n m' D' Q' → sk_Ext 0 m D Q m' D' Q' → sk_Fd K n D' S → post (B, P, md, kp, pc, df, nI m', K, mv, D', Q')) :
    wpX_startWith post (B, P, md, kp, pc, df, nI m, K, mv, D, Q) S :=
  ⟨16 + 1, xw_startWith_2 hd hS hn h 16 0 rfl m D Q hT sk_Ext_rf (fun p hp => absurd hp (by omega))⟩
theorem xw_start_10 {post : SX → Prop} {m0 a : Nat} {D0 Q0 : Nat → Int32} {J2 : Int32 → Int32 → Int32 → Int32 → Int32 → Int32 → Int32 → Int32 → (Nat → Int32) → (Nat → Int32) → (Nat → Int32) → (Nat → Int32) → Prop}
    (hn1 : 1 ≤ n) (hn2 : n ≤ 2) (ha : a < 16)
    (hJ : ∀ m' D' Q', sk_TI K w n m' D' Q' → sk_Ext 0 m0 D0 Q0 m' D' Q' → (∀ b, b < 16 → a ≤ b → sk_RQ K n a b → sk_Fd K n D' (sk_pr a b)) → J2 (nI (a + 1)) B P md kp pc df (nI m') K mv D' Q') :
    ∀ k b, b + k = 16 → a ≤ b → ∀ m D Q, sk_TI K w n m D Q → sk_Ext 0 m0 D0 Q0 m D Q → (∀ b', b' < b → a ≤ b' → sk_RQ K n a b' → sk_Fd K n D (sk_pr a b')) →
      wX_startFromDone_10 post J2 (nI n) (nI a) (k + 1) (nI b) B P md kp pc df (nI m) K mv D Q := by
  intro k
  induction k with
  | zero =>
    intro b hb hab m D Q hT hE hf
    obtain rfl : b = 16 := by omega
    exact br_t (nI_le (a := 16) (b := 16) (by omega) (by decide)) (nm_r (nI_1 a) (hJ m D Q hT hE hf))
  | succ k ih =>
    intro b hb hab m D Q hT hE hf
    have ea : (nI a).toNatClampNeg = a := nI_clamp (by omega)
    have eb : (nI b).toNatClampNeg = b := nI_clamp (by omega)
    have hno : ¬ sk_RQ K n a b → wX_startFromDone_10 post J2 (nI n) (nI a) (k + 1) (nI (b + 1)) B P md kp pc df (nI m) K mv D Q := fun z =>
      ih (b + 1) (by omega) (by omega) m D Q hT hE (lt_s hf (fun _ g => absurd g z))
    have hyes : sk_RQ K n a b → wpX_startWith (fun u => match u with | (f_boxes_13, f_pusher_14, f_made_15, f_kept_16, f_pushCount_17, f_distancesFor_18, f_waiting_19, a_kinds_20, a_moves_21, a_distance_22, a_queue_23) => (∀ x3_24 : Int32, x3_24 = nI b + 1 → (wX_startFromDone_10 post J2 (nI n) (nI a) (k + 1) x3_24 f_boxes_13 f_pusher_14 f_made_15 f_kept_16 f_pushCount_17 f_distancesFor_18 f_waiting_19 a_kinds_20 a_moves_21 a_distance_22 a_queue_23))) (B, P, md, kp, pc, df, nI m, K, mv, D, Q) (sk_pr a b) := by
      intro g
      obtain ⟨g1, g2, g3⟩ := sk_RQ_S hn1 hn2 ha (by omega) g
      refine xw_startWith g1 g2 g3 hT ?_
      intro m' D' Q' hT' hE' hf'
      refine nm_r (nI_1 b) (ih (b + 1) (by omega) (by omega) m' D' Q' hT' (sk_Ext_tr (by omega) hE hE') (lt_s ?_ (fun _ _ => hf')))
      intro b' hb' h1 h2
      exact sk_Fd_ext hE' (hf b' hb' h1 h2)
    refine br_f (nI_ge (b := 16) (by omega) (by decide)) (And.intro (vp_in_nI ha (by decide)) ?_)
    by_cases za : K a = 2
    · refine br_t (by rw [ea]; exact za) (And.intro (vp_in_nI (by omega) (by decide)) ?_)
      by_cases zb : K b = 2
      · refine br_t (by rw [eb]; exact zb) (br_f (by decide) ?_)
        by_cases zn : n = 1
        · refine br_t (by rw [zn]; rfl) ?_
          by_cases zab : a = b
          · exact br_t (by rw [zab]) (br_t rfl (hyes ⟨za, zb, by omega⟩))
          · exact br_f (fun y => zab ((nI_eq (by omega) (by omega)).mp y)) (br_f (by decide) (nm_r (nI_1 b) (hno (fun g => zab (g.2.2.mp zn)))))
        · refine br_f (fun y => zn ((nI_eq (b := 1) (by omega) (by decide)).mp y)) ?_
          by_cases zab : a = b
          · exact br_t (by rw [zab]) (br_f (by decide) (nm_r (nI_1 b) (hno (fun g => zn (g.2.2.mpr zab)))))
          · exact br_f (fun y => zab ((nI_eq (by omega) (by omega)).mp y)) (br_t rfl (hyes ⟨za, zb, by omega⟩))
      · exact br_f (by rw [eb]; exact zb) (br_t rfl (nm_r (nI_1 b) (hno (fun g => zb g.2.1))))
    · exact br_f (by rw [ea]; exact za) (br_t rfl (nm_r (nI_1 b) (hno (fun g => za g.1))))
theorem xw_start_2 {post : SX → Prop} {m0 : Nat} {D0 Q0 : Nat → Int32} (hn1 : 1 ≤ n) (hn2 : n ≤ 2)
    (h : ∀ m' D' Q', sk_TI K w n m' D' Q' → sk_Ext 0 m0 D0 Q0 m' D' Q' → (∀ a, a < 16 → ∀ b, b < 16 → a ≤ b → sk_RQ K n a b → sk_Fd K n D' (sk_pr a b)) → post (B, P, md, kp, pc, df, nI m', K, mv, D', Q')) :
    ∀ k a, a + k = 16 → ∀ m D Q, sk_TI K w n m D Q → sk_Ext 0 m0 D0 Q0 m D Q → (∀ a', a' < a → ∀ b, b < 16 → a' ≤ b → sk_RQ K n a' b → sk_Fd K n D (sk_pr a' b)) →
      wX_startFromDone_2 post (nI n) (k + 1) (nI a) B P md kp pc df (nI m) K mv D Q := by
  intro k
  induction k with
  | zero =>
    intro a ha m D Q hT hE hf
    obtain rfl : a = 16 := by omega
    exact br_t (nI_le (a := 16) (b := 16) (by omega) (by decide)) (h m D Q hT hE hf)
  | succ k ih =>
    intro a ha m D Q hT hE hf
    refine br_f (nI_ge (b := 16) (by omega) (by decide)) ⟨(16 - a) + 1, ?_⟩
    refine xw_start_10 (w := w) (n := n) (m0 := m) (D0 := D) (Q0 := Q) hn1 hn2 (by omega) ?_ (16 - a) a (by omega) (by omega) m D Q hT sk_Ext_rf (fun b' h1 h2 => absurd h1 (by omega))
    intro m' D' Q' hT' hE' hf'
    refine ih (a + 1) (by omega) m' D' Q' hT' (sk_Ext_tr (by omega) hE hE') (lt_s ?_ hf')
    intro a' ha' b hb h1 h2
    exact sk_Fd_ext hE' (hf a' ha' b hb h1 h2)
theorem xw_start {post : SX → Prop} {D Q : Nat → Int32} (hn1 : 1 ≤ n) (hn2 : n ≤ 2) (hD : ∀ q, q < 4096 → D q = -1)
    (h : ∀ m' D' Q', sk_TI K w n m' D' Q' → (∀ j, j < m' → sk_dQ D' Q' j = 0) → sk_D0 K n D' → post (B, P, md, kp, pc, df, nI m', K, mv, D', Q')) :
    wpX_startFromDone post (B, P, md, kp, pc, df, 0, K, mv, D, Q) (nI n) := by
  have hT : sk_TI K w n 0 D Q := by
    refine ⟨(sk_cn_none ?_).symm, fun j hj => absurd hj (by omega), fun q hq => Or.inl (hD q hq)⟩
    intro i hi
    rw [hD i hi]
    decide
  refine ⟨16 + 1, xw_start_2 (w := w) (m0 := 0) (D0 := D) (Q0 := Q) hn1 hn2 ?_ 16 0 rfl 0 D Q hT sk_Ext_rf (fun a' ha' => absurd ha' (by omega))⟩
  intro m' D' Q' hT' hE' hf'
  have h0 : ∀ j, j < m' → sk_dQ D' Q' j = 0 := fun j hj => sk_dQ_new (by omega) hE' (by omega) hj
  refine h m' D' Q' hT' h0 ?_
  intro x hv hd
  refine sk_fd_le hT' (fun j hj => by rw [h0 j hj]; exact Nat.le_refl _) hv.1 ?_
  obtain ⟨a, b, ha, hb, e⟩ := sk_pr_ex (sk_V_lo hv) (by rw [hv.2.2.2.2]; exact hn1) (by rw [hv.2.2.2.2]; exact hn2)
  obtain ⟨a, b, ha, hb, hab, e⟩ : ∃ a b, a < 16 ∧ b < 16 ∧ a ≤ b ∧ x.2 = sk_pr a b := by
    rcases Nat.le_total a b with z | z
    · exact ⟨a, b, ha, hb, z, e⟩
    · exact ⟨b, a, hb, ha, z, by rw [e, sk_pr_comm]⟩
  have hbn := hv.2.2.2.2
  rw [e, sk_bn_pr a ha b hb] at hbn
  have ka : K a = 2 := hd a (by rw [e, sk_bt_pr ha hb]; simp)
  have kb : K b = 2 := hd b (by rw [e, sk_bt_pr ha hb]; simp)
  have hRQ : sk_RQ K n a b := by
    refine ⟨ka, kb, ?_⟩
    by_cases z : a = b
    · rw [if_pos z] at hbn; omega
    · rw [if_neg z] at hbn; omega
  have q := hf' a ha b hb hab hRQ
  rw [← e] at q
  exact q x.1 hv
end
end
section
/-! ===== X: fillMoves, fillPushes, fill, distanceOf ===== -/
theorem sk_Cl_ext {K : Nat → Int32} {w n d m m' j : Nat} {D Q D' Q' : Nat → Int32} (hT : sk_TI K w n m D Q) (hE : sk_Ext d m D Q m' D' Q') (hj : j < m) (h : sk_Cl K w n D Q j) : sk_Cl K w n D' Q' j := by
  intro x y e hx hy hq g
  rw [sk_dQ_old hT hE hj]
  rw [hE.2.1 j hj] at hq
  exact sk_A_ext hx.1 hE (h x y e hx hy hq g)
/-- the walks' part, the pushes' part (w 1) -/
def sk_Cw (K : Nat → Int32) (n : Nat) (D Q : Nat → Int32) (j : Nat) : Prop :=
  ∀ (x y : Nat × Int32) (e : Nat), sk_V K n x.1 x.2 → sk_V K n y.1 y.2 → Q j = nI (sk_xn y.1 y.2) → e < 4 → sk_Wk K e x.1 x.2 y.1 y.2 → sk_A D (sk_dQ D Q j) x
def sk_Cp (K : Nat → Int32) (n : Nat) (D Q : Nat → Int32) (j : Nat) : Prop :=
  ∀ (x y : Nat × Int32) (e : Nat), sk_V K n x.1 x.2 → sk_V K n y.1 y.2 → Q j = nI (sk_xn y.1 y.2) → e < 4 → sk_Pu K e x.1 x.2 y.1 y.2 → sk_A D (1 + sk_dQ D Q j) x
theorem sk_Cw_ext {K : Nat → Int32} {w n d m m' j : Nat} {D Q D' Q' : Nat → Int32} (hT : sk_TI K w n m D Q) (hE : sk_Ext d m D Q m' D' Q') (hj : j < m) (h : sk_Cw K n D Q j) : sk_Cw K n D' Q' j := by
  intro x y e hx hy hq he g
  rw [sk_dQ_old hT hE hj]
  rw [hE.2.1 j hj] at hq
  exact sk_A_ext hx.1 hE (h x y e hx hy hq he g)
theorem sk_Cp_ext {K : Nat → Int32} {w n d m m' j : Nat} {D Q D' Q' : Nat → Int32} (hT : sk_TI K w n m D Q) (hE : sk_Ext d m D Q m' D' Q') (hj : j < m) (h : sk_Cp K n D Q j) : sk_Cp K n D' Q' j := by
  intro x y e hx hy hq he g
  rw [sk_dQ_old hT hE hj]
  rw [hE.2.1 j hj] at hq
  exact sk_A_ext hx.1 hE (h x y e hx hy hq he g)
theorem sk_Cl_1 {K : Nat → Int32} {n j : Nat} {D Q : Nat → Int32} (h1 : sk_Cw K n D Q j) (h2 : sk_Cp K n D Q j) : sk_Cl K 1 n D Q j := by
  intro x y e hx hy hq g
  obtain ⟨d, hd, ⟨g, rfl⟩ | ⟨g, rfl⟩⟩ := g
  · rw [show 1 - 1 + sk_dQ D Q j = sk_dQ D Q j by omega]
    exact h1 x y d hx hy hq hd g
  · exact h2 x y d hx hy hq hd g
theorem sk_D0_ext {K : Nat → Int32} {n d m m' : Nat} {D Q D' Q' : Nat → Int32} (hE : sk_Ext d m D Q m' D' Q') (h : sk_D0 K n D) : sk_D0 K n D' :=
  fun x hv hd => sk_A_ext hv.1 hE (h x hv hd)
/-- the queue's j is y -/
theorem sk_Q_eq {K : Nat → Int32} {n p : Nat} {S : Int32} {y : Nat × Int32} {z : Int32} (hn1 : 1 ≤ n) (hn2 : n ≤ 2) (hv : sk_V K n p S) (hy : sk_V K n y.1 y.2) (h1 : z = nI (sk_xn p S)) (h2 : z = nI (sk_xn y.1 y.2)) : y = (p, S) := by
  have a := sk_xn_lt hv.1 S
  have b := sk_xn_lt hy.1 y.2
  rw [h1] at h2
  obtain ⟨e1, e2⟩ := sk_xn_inj hn1 hn2 hv hy ((nI_eq (by omega) (by omega)).mp h2)
  rw [e1, e2]
section
variable {B P md kp pc df : Int32} {K mv : Nat → Int32} {w n : Nat}
def sk_FM (K : Nat → Int32) (n i m : Nat) (D Q : Nat → Int32) : Prop :=
  sk_TI K 0 n m D Q ∧ i ≤ m ∧ sk_D0 K n D ∧ (∀ j, j < i → sk_Cl K 0 n D Q j) ∧ (∀ j j', j ≤ j' → j' < m → sk_dQ D Q j ≤ sk_dQ D Q j') ∧ (i < m → ∀ j, j < m → sk_dQ D Q j ≤ sk_dQ D Q i + 1)
theorem sk_FM_s {i m m' p c : Nat} {D Q D' Q' : Nat → Int32} {S : Int32} (hn1 : 1 ≤ n) (hn2 : n ≤ 2) (h : sk_FM K n i m D Q) (him : i < m) (hT' : sk_TI K 0 n m' D' Q') (hE : sk_Ext (c + 1) m D Q m' D' Q')
    (hv : sk_V K n p S) (hq : Q i = nI (sk_xn p S)) (hc : sk_dQ D Q i = c) (hc2 : c + 1 < 5000)
    (hw : ∀ (x : Nat × Int32) (e : Nat), sk_V K n x.1 x.2 → e < 4 → sk_Wk K e x.1 x.2 p S → ¬ D' (sk_xn x.1 x.2) < 0)
    (hp : ∀ (x : Nat × Int32) (e : Nat), sk_V K n x.1 x.2 → e < 4 → sk_Pu K e x.1 x.2 p S → ¬ D' (sk_xn x.1 x.2) < 0) : sk_FM K n (i + 1) m' D' Q' := by
  obtain ⟨a1, a2, a3, a4, a5, a6⟩ := h
  have hmm := hE.1
  have old : ∀ j, j < m → sk_dQ D' Q' j = sk_dQ D Q j := fun j hj => sk_dQ_old a1 hE hj
  have new : ∀ j, m ≤ j → j < m' → sk_dQ D' Q' j = c + 1 := fun j h1 h2 => sk_dQ_new hc2 hE h1 h2
  have all : ∀ j, j < m' → sk_dQ D' Q' j ≤ c + 1 := by
    intro j hj
    rcases Nat.lt_or_ge j m with z | z
    · rw [old j z]; have := a6 him j z; omega
    · rw [new j z hj]; exact Nat.le_refl _
  refine ⟨hT', by omega, sk_D0_ext hE a3, lt_s (fun j hj => sk_Cl_ext a1 hE (by omega) (a4 j hj)) ?_, ?_, ?_⟩
  · intro x y e hx hy hy2 g
    rw [hE.2.1 i him] at hy2
    have ey := sk_Q_eq hn1 hn2 hv hy hq hy2
    subst ey
    rw [old i him, hc]
    obtain ⟨d, hd, ⟨g, rfl⟩ | ⟨g, rfl⟩⟩ := g
    · exact sk_A_mono (by omega) (sk_fd_le hT' all hx.1 (hw x d hx hd g))
    · exact sk_A_mono (by omega) (sk_fd_le hT' all hx.1 (hp x d hx hd g))
  · intro j j' h1 h2
    rcases Nat.lt_or_ge j' m with z | z
    · rw [old j (by omega), old j' z]; exact a5 j j' h1 z
    · rw [new j' z h2]; exact all j (by omega)
  · intro h1 j hj
    have q : c ≤ sk_dQ D' Q' (i + 1) := by
      rcases Nat.lt_or_ge (i + 1) m with z | z
      · rw [old (i + 1) z, ← hc]; exact a5 i (i + 1) (by omega) z
      · rw [new (i + 1) z h1]; omega
    have := all j hj
    omega
theorem xw_fillMoves_2 {post : SX → Prop} (hn1 : 1 ≤ n) (hn2 : n ≤ 2)
    (h : ∀ m' D' Q', sk_T K 0 n D' → post (B, P, md, kp, pc, df, nI m', K, mv, D', Q')) :
    ∀ k i m D Q, sk_FM K n i m D Q → 4096 < k + i → wX_fillMoves_2 post k (nI i) B P md kp pc df (nI m) K mv D Q := by
  intro k
  induction k with
  | zero =>
    intro i m D Q hF hk
    have := sk_TI_m hF.1
    have := hF.2.1
    omega
  | succ k ih =>
    intro i m D Q hF hk
    have hm := sk_TI_m hF.1
    have him := hF.2.1
    rcases Nat.lt_or_ge i m with z | z
    · obtain ⟨p, S, c, hv, e1, e2, e3, e4⟩ := hF.1.2.1 i z
      have hx := sk_xn_lt hv.1 S
      have hc : sk_dQ D Q i = c := sk_dQ_eq hx (by omega) e1 e2
      have ed : D (nI (sk_xn p S)).toNatClampNeg + 1 = nI (c + 1) := by rw [nI_clamp (by omega), e2, nI_1]
      have hcm : c + 1 ≤ m := by omega
      have hc2 : c + 1 < 5000 := by omega
      refine br_f (nI_ge z (by omega)) (And.intro (vp_in_nI (by omega) (by decide)) (nm_r (e' := nI (sk_xn p S)) (by rw [nI_clamp (by omega)]; exact e1) (And.intro (vp_in_nI hx (by decide)) ?_)))
      rw [ed]
      refine xw_walkBack (w := 0) hn1 hn2 hv hc2 hF.1 hcm ?_ ?_
      · intro x e he hw
        have := sk_R_s (w := 0) (e := 1) (x := x) (z := (p, S)) ⟨e, he, Or.inl ⟨hw, rfl⟩⟩ e4
        rw [Nat.add_comm] at this
        exact this
      · intro m1 D1 Q1 hT1 hE1 hw1
        have ed1 : D1 (nI (sk_xn p S)).toNatClampNeg + 1 = nI (c + 1) := by
          rw [nI_clamp (by omega), hE1.2.2.1 _ hx (by rw [e2]; exact nI_pos (by omega)), e2, nI_1]
        refine And.intro (vp_in_nI hx (by decide)) ?_
        rw [ed1]
        refine xw_pullBack (w := 0) hn1 hn2 hv hc2 hT1 (by have := hE1.1; omega) ?_ ?_
        · intro x e he hw
          have := sk_R_s (w := 0) (e := 1) (x := x) (z := (p, S)) ⟨e, he, Or.inr ⟨hw, rfl⟩⟩ e4
          rw [Nat.add_comm] at this
          exact this
        · intro m2 D2 Q2 hT2 hE2 hp2
          refine nm_r (nI_1 i) (ih (i + 1) m2 D2 Q2 (sk_FM_s hn1 hn2 hF z hT2 (sk_Ext_tr hc2 hE1 hE2) hv e1 hc hc2 ?_ hp2) (by omega))
          intro x e hx' he hw
          exact sk_fd_ext (sk_xn_lt hx'.1 _) hE2 (hw1 x e hx' he hw)
    · obtain rfl : i = m := by omega
      exact br_t (nI_le (by omega) (by omega)) (h _ _ _ (sk_T_of hn1 hn2 hF.1 hF.2.2.1 hF.2.2.2.1))
end
end
section
/-! ===== X: fillPushes, fill, distanceOf ===== -/
section
variable {B P md kp pc df : Int32} {K mv : Nat → Int32} {w n : Nat}
/-- at the head of a level d whose stores begin at f -/
def sk_FP (K : Nat → Int32) (n f d m : Nat) (D Q : Nat → Int32) : Prop :=
  sk_TI K 1 n m D Q ∧ f ≤ m ∧ d ≤ f ∧ sk_D0 K n D ∧ (∀ j, j < f → sk_dQ D Q j ≤ d) ∧ (∀ j, f ≤ j → j < m → sk_dQ D Q j = d) ∧ (∀ j, j < f → sk_Cw K n D Q j) ∧ (∀ j, j < f → sk_Cp K n D Q j)
/-- while walking -/
def sk_FW (K : Nat → Int32) (n f d i m : Nat) (D Q : Nat → Int32) : Prop :=
  sk_TI K 1 n m D Q ∧ f ≤ i ∧ i ≤ m ∧ f < m ∧ d ≤ f ∧ sk_D0 K n D ∧ (∀ j, j < f → sk_dQ D Q j ≤ d) ∧ (∀ j, f ≤ j → j < m → sk_dQ D Q j = d) ∧ (∀ j, j < i → sk_Cw K n D Q j) ∧ (∀ j, j < f → sk_Cp K n D Q j)
/-- while pulling -/
def sk_FU (K : Nat → Int32) (n f d i en m : Nat) (D Q : Nat → Int32) : Prop :=
  sk_TI K 1 n m D Q ∧ f ≤ i ∧ i ≤ en ∧ en ≤ m ∧ f < en ∧ d ≤ f ∧ sk_D0 K n D ∧ (∀ j, j < f → sk_dQ D Q j ≤ d) ∧ (∀ j, f ≤ j → j < en → sk_dQ D Q j = d) ∧ (∀ j, en ≤ j → j < m → sk_dQ D Q j = d + 1) ∧ (∀ j, j < en → sk_Cw K n D Q j) ∧ (∀ j, j < i → sk_Cp K n D Q j)
theorem sk_FW_s {f d i m m' p : Nat} {D Q D' Q' : Nat → Int32} {S : Int32} (hn1 : 1 ≤ n) (hn2 : n ≤ 2) (h : sk_FW K n f d i m D Q) (him : i < m) (hT' : sk_TI K 1 n m' D' Q') (hE : sk_Ext d m D Q m' D' Q')
    (hv : sk_V K n p S) (hq : Q i = nI (sk_xn p S)) (hd : d < 5000)
    (hw : ∀ (x : Nat × Int32) (e : Nat), sk_V K n x.1 x.2 → e < 4 → sk_Wk K e x.1 x.2 p S → ¬ D' (sk_xn x.1 x.2) < 0) : sk_FW K n f d (i + 1) m' D' Q' := by
  obtain ⟨a1, a2, a3, a4, a5, a6, a7, a8, a9, a10⟩ := h
  have hmm := hE.1
  have old : ∀ j, j < m → sk_dQ D' Q' j = sk_dQ D Q j := fun j hj => sk_dQ_old a1 hE hj
  have new : ∀ j, m ≤ j → j < m' → sk_dQ D' Q' j = d := fun j h1 h2 => sk_dQ_new hd hE h1 h2
  have all : ∀ j, j < m' → sk_dQ D' Q' j ≤ d := by
    intro j hj
    rcases Nat.lt_or_ge j m with z | z
    · rw [old j z]
      rcases Nat.lt_or_ge j f with y | y
      · exact a7 j y
      · rw [a8 j y z]; exact Nat.le_refl _
    · rw [new j z hj]; exact Nat.le_refl _
  refine ⟨hT', by omega, by omega, by omega, a5, sk_D0_ext hE a6, ?_, ?_, lt_s (fun j hj => sk_Cw_ext a1 hE (by omega) (a9 j hj)) ?_, fun j hj => sk_Cp_ext a1 hE (by omega) (a10 j hj)⟩
  · intro j hj
    exact all j (by omega)
  · intro j h1 h2
    rcases Nat.lt_or_ge j m with z | z
    · rw [old j z]; exact a8 j h1 z
    · exact new j z h2
  · intro x y e hx hy hy2 he g
    rw [hE.2.1 i him] at hy2
    have ey := sk_Q_eq hn1 hn2 hv hy hq hy2
    subst ey
    rw [old i him, a8 i a2 him]
    exact sk_fd_le hT' all hx.1 (hw x e hx he g)
theorem sk_FU_s {f d i en m m' p : Nat} {D Q D' Q' : Nat → Int32} {S : Int32} (hn1 : 1 ≤ n) (hn2 : n ≤ 2) (h : sk_FU K n f d i en m D Q) (him : i < en) (hT' : sk_TI K 1 n m' D' Q') (hE : sk_Ext (d + 1) m D Q m' D' Q')
    (hv : sk_V K n p S) (hq : Q i = nI (sk_xn p S)) (hd : d + 1 < 5000)
    (hw : ∀ (x : Nat × Int32) (e : Nat), sk_V K n x.1 x.2 → e < 4 → sk_Pu K e x.1 x.2 p S → ¬ D' (sk_xn x.1 x.2) < 0) : sk_FU K n f d (i + 1) en m' D' Q' := by
  obtain ⟨a1, a2, a3, a4, a4', a5, a6, a7, a8, a8', a9, a10⟩ := h
  have hmm := hE.1
  have old : ∀ j, j < m → sk_dQ D' Q' j = sk_dQ D Q j := fun j hj => sk_dQ_old a1 hE hj
  have new : ∀ j, m ≤ j → j < m' → sk_dQ D' Q' j = d + 1 := fun j h1 h2 => sk_dQ_new hd hE h1 h2
  have all : ∀ j, j < m' → sk_dQ D' Q' j ≤ d + 1 := by
    intro j hj
    rcases Nat.lt_or_ge j m with z | z
    · rw [old j z]
      rcases Nat.lt_or_ge j f with y | y
      · have := a7 j y; omega
      · rcases Nat.lt_or_ge j en with y2 | y2
        · rw [a8 j y y2]; omega
        · rw [a8' j y2 z]; exact Nat.le_refl _
    · rw [new j z hj]; exact Nat.le_refl _
  refine ⟨hT', by omega, by omega, by omega, a4', a5, sk_D0_ext hE a6, ?_, ?_, ?_, fun j hj => sk_Cw_ext a1 hE (by omega) (a9 j hj), lt_s (fun j hj => sk_Cp_ext a1 hE (by omega) (a10 j hj)) ?_⟩
  · intro j hj
    rw [old j (by omega)]; exact a7 j hj
  · intro j h1 h2
    rw [old j (by omega)]; exact a8 j h1 h2
  · intro j h1 h2
    rcases Nat.lt_or_ge j m with z | z
    · rw [old j z]; exact a8' j h1 z
    · exact new j z h2
  · intro x y e hx hy hy2 he g
    rw [hE.2.1 i (by omega)] at hy2
    have ey := sk_Q_eq hn1 hn2 hv hy hq hy2
    subst ey
    rw [old i (by omega), a8 i a2 him]
    exact sk_A_mono (by omega) (sk_fd_le hT' all hx.1 (hw x e hx he g))
theorem xw_fillPushes_55 {post : SX → Prop} {f d en : Nat} {J4 : Int32 → Int32 → Int32 → Int32 → Int32 → Int32 → Int32 → Int32 → Int32 → (Nat → Int32) → (Nat → Int32) → (Nat → Int32) → (Nat → Int32) → Prop} (hn1 : 1 ≤ n) (hn2 : n ≤ 2)
    (h : ∀ m' D' Q', sk_FU K n f d en en m' D' Q' → J4 (nI en) (nI (d + 1)) B P md kp pc df (nI m') K mv D' Q') :
    ∀ k i, i + k = en → ∀ m D Q, sk_FU K n f d i en m D Q → wX_fillPushes_55 post J4 (nI d) (nI en) (k + 1) (nI i) B P md kp pc df (nI m) K mv D Q := by
  intro k
  induction k with
  | zero =>
    intro i hi m D Q hF
    obtain rfl : i = en := by omega
    have := sk_TI_m hF.1
    have := hF.2.2.2.1
    exact br_t (nI_le (by omega) (by omega)) (nm_r (nI_1 d) (h m D Q hF))
  | succ k ih =>
    intro i hi m D Q hF
    have hm := sk_TI_m hF.1
    have hen := hF.2.2.2.1
    have hfi := hF.2.1
    have hdf := hF.2.2.2.2.2.1
    have him : i < m := by omega
    obtain ⟨p, S, c, hv, e1, e2, e3, e4⟩ := hF.1.2.1 i him
    have hx := sk_xn_lt hv.1 S
    have hc : sk_dQ D Q i = c := sk_dQ_eq hx (by omega) e1 e2
    have hcd : c = d := by rw [← hc]; exact hF.2.2.2.2.2.2.2.2.1 i hfi (by omega)
    rw [hcd] at e4
    refine br_f (nI_ge (by omega) (by omega)) (And.intro (vp_in_nI (by omega) (by decide)) ?_)
    rw [show Q (nI i).toNatClampNeg = nI (sk_xn p S) by rw [nI_clamp (by omega)]; exact e1, nI_1 d]
    refine xw_pullBack (w := 1) hn1 hn2 hv (by omega) hF.1 (by omega) ?_ ?_
    · intro x e he hw
      have := sk_R_s (w := 1) (e := 1) (x := x) (z := (p, S)) ⟨e, he, Or.inr ⟨hw, rfl⟩⟩ e4
      rw [Nat.add_comm] at this
      exact this
    · intro m' D' Q' hT' hE' hw'
      exact nm_r (nI_1 i) (ih (i + 1) (by omega) m' D' Q' (sk_FU_s hn1 hn2 hF (by omega) hT' hE' hv e1 (by omega) hw'))
theorem xw_fillPushes_21 {post : SX → Prop} {f d : Nat} {J4 : Int32 → Int32 → Int32 → Int32 → Int32 → Int32 → Int32 → Int32 → Int32 → (Nat → Int32) → (Nat → Int32) → (Nat → Int32) → (Nat → Int32) → Prop} (hn1 : 1 ≤ n) (hn2 : n ≤ 2)
    (h : ∀ en m' D' Q', sk_FU K n f d en en m' D' Q' → J4 (nI en) (nI (d + 1)) B P md kp pc df (nI m') K mv D' Q') :
    ∀ k i m D Q, sk_FW K n f d i m D Q → 4096 < k + i → wX_fillPushes_21 post J4 (nI f) (nI d) k (nI i) B P md kp pc df (nI m) K mv D Q := by
  intro k
  induction k with
  | zero =>
    intro i m D Q hF hk
    have := sk_TI_m hF.1
    have := hF.2.2.1
    omega
  | succ k ih =>
    intro i m D Q hF hk
    have hm := sk_TI_m hF.1
    have him := hF.2.2.1
    have hfi := hF.2.1
    have hfm := hF.2.2.2.1
    have hdf := hF.2.2.2.2.1
    rcases Nat.lt_or_ge i m with z | z
    · obtain ⟨p, S, c, hv, e1, e2, e3, e4⟩ := hF.1.2.1 i z
      have hx := sk_xn_lt hv.1 S
      have hc : sk_dQ D Q i = c := sk_dQ_eq hx (by omega) e1 e2
      have hcd : c = d := by rw [← hc]; exact hF.2.2.2.2.2.2.2.1 i hfi z
      rw [hcd] at e4
      refine br_f (nI_ge (by omega) (by omega)) (And.intro (vp_in_nI (by omega) (by decide)) ?_)
      rw [show Q (nI i).toNatClampNeg = nI (sk_xn p S) by rw [nI_clamp (by omega)]; exact e1]
      refine xw_walkBack (w := 1) hn1 hn2 hv (by omega) hF.1 (by omega) ?_ ?_
      · intro x e he hw
        have := sk_R_s (w := 1) (e := 0) (x := x) (z := (p, S)) ⟨e, he, Or.inl ⟨hw, rfl⟩⟩ e4
        rw [Nat.zero_add] at this
        exact this
      · intro m' D' Q' hT' hE' hw'
        exact nm_r (nI_1 i) (ih (i + 1) m' D' Q' (sk_FW_s hn1 hn2 hF z hT' hE' hv e1 (by omega) hw') (by omega))
    · obtain rfl : i = m := by omega
      refine br_t (nI_le (by omega) (by omega)) ⟨(i - f) + 1, ?_⟩
      refine xw_fillPushes_55 hn1 hn2 (fun m' D' Q' hU => h i m' D' Q' hU) (i - f) f (by omega) i D Q ?_
      obtain ⟨a1, a2, a3, a4, a5, a6, a7, a8, a9, a10⟩ := hF
      exact ⟨a1, by omega, by omega, by omega, a4, a5, a6, a7, a8, fun j h1 h2 => absurd h2 (by omega), a9, a10⟩
theorem xw_fillPushes_4 {post : SX → Prop} (hn1 : 1 ≤ n) (hn2 : n ≤ 2)
    (h : ∀ m' D' Q', sk_T K 1 n D' → post (B, P, md, kp, pc, df, nI m', K, mv, D', Q')) :
    ∀ k f d m D Q, sk_FP K n f d m D Q → 4096 < k + f → wX_fillPushes_4 post k (nI f) (nI d) B P md kp pc df (nI m) K mv D Q := by
  intro k
  induction k with
  | zero =>
    intro f d m D Q hF hk
    have := sk_TI_m hF.1
    have := hF.2.1
    omega
  | succ k ih =>
    intro f d m D Q hF hk
    have hm := sk_TI_m hF.1
    have hfm := hF.2.1
    have hdf := hF.2.2.1
    have fin : m ≤ f → post (B, P, md, kp, pc, df, nI m, K, mv, D, Q) := by
      intro z
      obtain rfl : f = m := by omega
      exact h _ _ _ (sk_T_of hn1 hn2 hF.1 hF.2.2.2.1 (fun j hj => sk_Cl_1 (hF.2.2.2.2.2.2.1 j hj) (hF.2.2.2.2.2.2.2 j hj)))
    by_cases zd : 4096 ≤ d
    · exact br_t (nI_le (a := 4096) zd (by omega)) (fin (by omega))
    · refine br_f (nI_ge (b := 4096) (by omega) (by decide)) ?_
      rcases Nat.lt_or_ge f m with z | z
      · refine br_f (nI_ge z (by omega)) ⟨4097, ?_⟩
        obtain ⟨a1, a2, a3, a4, a5, a6, a7, a8⟩ := hF
        refine xw_fillPushes_21 hn1 hn2 ?_ 4097 f m D Q ⟨a1, by omega, a2, z, a3, a4, a5, a6, a7, a8⟩ (by omega)
        intro en m' D' Q' hU
        obtain ⟨b1, b2, b3, b4, b4', b5, b6, b7, b8, b8', b9, b10⟩ := hU
        refine ih en (d + 1) m' D' Q' ⟨b1, b4, by omega, b6, ?_, b8', b9, b10⟩ (by omega)
        intro j hj
        rcases Nat.lt_or_ge j f with y | y
        · have := b7 j y; omega
        · have := b8 j y hj; omega
      · exact br_t (nI_le z (by omega)) (fin z)
/-! fill -/
theorem xw_fill_2 {post : SX → Prop} {wt : Int32} {Q : Nat → Int32} (hw : w < 2) (hn1 : 1 ≤ n) (hn2 : n ≤ 2)
    (h : ∀ m' D' Q', sk_T K w n D' → post (B, P, md, kp, pc, nI (w + 2 * n), nI m', K, mv, D', Q')) :
    ∀ k i, i + k = 4096 → ∀ D, (∀ q, q < i → D q = -1) → wX_fill_2 post (nI w) (nI n) B P md kp pc df wt (k + 1) (nI i) K mv D Q := by
  intro k
  induction k with
  | zero =>
    intro i hi D hD
    obtain rfl : i = 4096 := by omega
    have e47 : nI w + 2 * nI n = nI (w + 2 * n) := by
      rw [show (2 : Int32) = nI 2 from rfl, pk_mul, nI_add]
    refine br_t (nI_le (a := 4096) (b := 4096) (by omega) (by decide)) (xw_start (w := w) hn1 hn2 hD ?_)
    intro m1 D1 Q1 hT1 h01 hD1
    by_cases z : w = 0
    · subst z
      refine br_t rfl ⟨4097, xw_fillMoves_2 hn1 hn2 (fun m' D' Q' hT' => nm_r e47 (h m' D' Q' hT')) 4097 0 m1 D1 Q1 ?_ (by omega)⟩
      refine ⟨hT1, by omega, hD1, fun j hj => absurd hj (by omega), ?_, ?_⟩
      · intro j j' h1 h2
        rw [h01 j (by omega), h01 j' h2]; exact Nat.le_refl _
      · intro _ j hj
        rw [h01 j hj]; omega
    · obtain rfl : w = 1 := by omega
      refine br_f (by decide) ⟨4097, xw_fillPushes_4 hn1 hn2 (fun m' D' Q' hT' => nm_r e47 (h m' D' Q' hT')) 4097 0 0 m1 D1 Q1 ?_ (by omega)⟩
      exact ⟨hT1, by omega, by omega, hD1, fun j hj => absurd hj (by omega), fun j _ hj => h01 j hj, fun j hj => absurd hj (by omega), fun j hj => absurd hj (by omega)⟩
  | succ k ih =>
    intro i hi D hD
    refine br_f (nI_ge (b := 4096) (by omega) (by decide)) (And.intro (vp_in_nI (by omega) (by decide)) (nm_r (e' := upd D i (-1)) ?_ (nm_r (nI_1 i) (ih (i + 1) (by omega) _ (lt_s ?_ pk_us)))))
    · rw [nI_clamp (by omega), vp_nar_short]; rfl
    · intro q hq
      rw [pk_un (by omega)]; exact hD q hq
theorem xw_fill {post : SX → Prop} {wt : Int32} {D Q : Nat → Int32} (hw : w < 2) (hn1 : 1 ≤ n) (hn2 : n ≤ 2)
    (h : ∀ m' D' Q', sk_T K w n D' → post (B, P, md, kp, pc, nI (w + 2 * n), nI m', K, mv, D', Q')) :
    wpX_fill post (B, P, md, kp, pc, df, wt, K, mv, D, Q) (nI w) (nI n) :=
  ⟨4096 + 1, xw_fill_2 hw hn1 hn2 h 4096 0 rfl D (fun q hq => absurd hq (by omega))⟩
/-- what X keeps -/
def sk_Ch (K : Nat → Int32) (df : Int32) (D : Nat → Int32) : Prop := df = -1 ∨ ∃ w n, w < 2 ∧ 1 ≤ n ∧ n ≤ 2 ∧ df = nI (w + 2 * n) ∧ sk_T K w n D
theorem sk_An_0 {p : Nat} {S : Int32} {no : Int32} (hv : sk_V K 0 p S) : sk_An K w (fun x => x = (p, S)) no 0 := by
  refine Or.inr ⟨0, by omega, rfl, ⟨(p, S), rfl, sk_R_0 ?_⟩, fun c' x h => absurd h (by omega)⟩
  intro i hi
  have a := (hv.2.2.2.1 i hi).1
  have b := sk_cn_zero hv.2.2.2.2 i a
  rw [hi] at b
  cases b
theorem xw_distanceOf {post : Int32 → SX → Prop} {p : Nat} {S wt : Int32} {D Q : Nat → Int32} (hw : w < 2) (hn : n ≤ 2) (hv : sk_V K n p S) (hC : sk_Ch K df D)
    (h : ∀ r df' wt' D' Q', sk_Ch K df' D' → sk_An K w (fun x => x = (p, S)) (-1) r → post r (B, P, md, kp, pc, df', wt', K, mv, D', Q')) :
    wpX_distanceOf post (B, P, md, kp, pc, df, wt, K, mv, D, Q) (nI p) S (nI w) := by
  have hx := sk_xn_lt hv.1 S
  have e47 : nI w + 2 * nI n = nI (w + 2 * n) := by
    rw [show (2 : Int32) = nI 2 from rfl, pk_mul, nI_add]
  refine xw_bits ?_
  rw [hv.2.2.2.2]
  by_cases z : n = 0
  · subst z
    exact br_t rfl (h 0 df wt D Q hC (sk_An_0 hv))
  · refine br_f (nI_ne0 (by omega) (by omega)) ?_
    rw [e47]
    have at_ : ∀ df' wt' D' Q', sk_Ch K df' D' → sk_T K w n D' → wX_distanceOf_33 post (nI p) S B P md kp pc df' wt' K mv D' Q' := by
      intro df' wt' D' Q' hC' hT'
      refine xw_stateOf (And.intro (vp_in_nI hx (by decide)) ?_)
      rw [nI_clamp (by omega)]
      exact h _ _ _ _ _ hC' (hT' p S hv)
    by_cases y : df = nI (w + 2 * n)
    · refine br_t y (at_ _ _ _ _ hC ?_)
      rcases hC with c | ⟨w', n', c1, c2, c3, c4, c5⟩
      · rw [c] at y
        exact absurd (y ▸ (by decide : (-1 : Int32) < 0)) (nI_pos (by omega))
      · rw [c4] at y
        have e := (nI_eq (by omega) (by omega)).mp y
        obtain rfl : w' = w := by omega
        obtain rfl : n' = n := by omega
        exact c5
    · refine br_f y (xw_fill hw (by omega) hn ?_)
      intro m' D' Q' hT'
      exact at_ _ _ _ _ (Or.inr ⟨w, n, hw, by omega, hn, rfl, hT'⟩) hT'
end
end
section
/-! ===== Y's levels: the pure side ===== -/
def sk_nd (s : Nat) : Nat × Int32 := (s % 16, sk_ys (s / 16))
theorem sk_nd_at {m p : Nat} (hp : p < 16) : sk_nd (16 * m + p) = (p, sk_ys m) := by
  unfold sk_nd
  rw [show (16 * m + p) % 16 = p by omega, show (16 * m + p) / 16 = m by omega]
/-- at a level of at most c -/
def sk_in (l : Nat → Int32) (t c : Nat) : Prop := ∃ c', c' ≤ c ∧ c' < 4096 ∧ l t = nI c'
def sk_inb (l : Nat → Int32) (t c : Nat) : Bool := decide (¬ l t < 0 ∧ l t ≤ nI c)
theorem sk_inb_iff {l : Nat → Int32} {t c : Nat} (hc : c < 4096) : sk_inb l t c = true ↔ sk_in l t c := by
  unfold sk_inb
  rw [decide_eq_true_iff]
  constructor
  · rintro ⟨h1, h2⟩
    obtain ⟨j, hj, e⟩ := nI_of h1
    rw [e, nI_leI hj (by omega)] at h2
    exact ⟨j, h2, by omega, e⟩
  · rintro ⟨c', h1, h2, e⟩
    rw [e]
    exact ⟨nI_pos (by omega), nI_le h1 (by omega)⟩
theorem sk_in_mono {l : Nat → Int32} {t c c' : Nat} (h : c ≤ c') (a : sk_in l t c) : sk_in l t c' := by
  obtain ⟨z, h1, h2, h3⟩ := a
  exact ⟨z, by omega, h2, h3⟩
/-- where a step leads from a number, and its cost -/
def sk_Tg (K : Nat → Int32) (w d s t e : Nat) : Prop :=
  (∃ p', sk_Wk K d (sk_nd s).1 (sk_nd s).2 p' (sk_nd s).2 ∧ t = 16 * (s / 16) + p' ∧ e = 1 - w) ∨
  (∃ p' S', sk_Pu K d (sk_nd s).1 (sk_nd s).2 p' S' ∧ t = 16 * sk_nu S' + p' ∧ e = 1)
theorem sk_Tg_u {K : Nat → Int32} {w d s t e t' e' : Nat} (h : sk_Tg K w d s t e) (h' : sk_Tg K w d s t' e') : t = t' ∧ e = e' := by
  rcases h with ⟨p, a, rfl, rfl⟩ | ⟨p, S, a, rfl, rfl⟩ <;> rcases h' with ⟨p', b, rfl, rfl⟩ | ⟨p', S', b, rfl, rfl⟩
  · rw [a.1, b.1]; exact ⟨rfl, rfl⟩
  · exfalso
    have x := a.2.2.1
    have y := b.2.2.1
    rw [a.1] at x
    rw [b.1, x] at y
    cases y
  · exfalso
    have x := a.2.2.1
    have y := b.2.2.1
    rw [a.1] at x
    rw [b.1, x] at y
    cases y
  · have e1 : p = p' := by rw [a.1, b.1]
    subst e1
    rw [a.2.2.2.2.2, b.2.2.2.2.2]
    exact ⟨rfl, rfl⟩
theorem sk_Tg_ok {K : Nat → Int32} {w n d s t e : Nat} (hs : s < 2192) (hn : n ≤ 2) (hd : d < 4) (hv : sk_V K n (sk_nd s).1 (sk_nd s).2) (h : sk_Tg K w d s t e) :
    t < 2192 ∧ sk_Eg K w e (sk_nd s) (sk_nd t) ∧ sk_V K n (sk_nd t).1 (sk_nd t).2 ∧ e ≤ 1 ∧ (e = 0 → t / 16 = s / 16) := by
  have g : t < 2192 ∧ sk_Eg K w e (sk_nd s) (sk_nd t) ∧ e ≤ 1 ∧ (e = 0 → t / 16 = s / 16) := by
    rcases h with ⟨p, a, rfl, rfl⟩ | ⟨p, S, a, rfl, rfl⟩
    · have hp := a.2.1
      refine ⟨by omega, ?_, by omega, fun _ => by omega⟩
      rw [sk_nd_at hp]
      exact ⟨d, hd, Or.inl ⟨a, rfl⟩⟩
    · have hp := a.2.1
      have hv' := sk_V_pu hv a
      have q := sk_nu_ok (sk_V_lo hv') (by rw [hv'.2.2.2.2]; exact hn)
      refine ⟨by omega, ?_, by omega, fun z => absurd z (by omega)⟩
      rw [sk_nd_at hp, q.2]
      exact ⟨d, hd, Or.inr ⟨a, rfl⟩⟩
  exact ⟨g.1, g.2.1, sk_V_eg hv g.2.1, g.2.2.1, g.2.2.2⟩
theorem sk_Eg_Tg {K : Nat → Int32} {w n s e : Nat} {y : Nat × Int32} (hn : n ≤ 2) (hv : sk_V K n (sk_nd s).1 (sk_nd s).2) (h : sk_Eg K w e (sk_nd s) y) :
    ∃ d t, d < 4 ∧ sk_Tg K w d s t e ∧ sk_nd t = y := by
  obtain ⟨d, hd, ⟨g, rfl⟩ | ⟨g, rfl⟩⟩ := h
  · have e4 := g.2.2.2
    refine ⟨d, 16 * (s / 16) + y.1, hd, Or.inl ⟨y.1, ?_, rfl, rfl⟩, ?_⟩
    · rw [e4] at g; exact g
    · rw [sk_nd_at g.2.1]
      show (y.1, (sk_nd s).2) = y
      rw [← e4]
  · have hv' := sk_V_pu hv g
    have q := sk_nu_ok (sk_V_lo hv') (by rw [hv'.2.2.2.2]; exact hn)
    refine ⟨d, 16 * sk_nu y.2 + y.1, hd, Or.inr ⟨y.1, y.2, g, rfl, rfl⟩, ?_⟩
    rw [sk_nd_at g.2.1, q.2]
/-- every number at a level of at most M is a store that may be, and is reached at that cost -/
def sk_LI (K : Nat → Int32) (w n : Nat) (Src : Nat × Int32 → Prop) (M : Nat) (l : Nat → Int32) : Prop :=
  ∀ s, s < 2192 → l s = -1 ∨ ∃ c, c ≤ M ∧ l s = nI c ∧ sk_V K n (sk_nd s).1 (sk_nd s).2 ∧ sk_F K w Src c (sk_nd s)
theorem sk_LI_at {K : Nat → Int32} {w n M s c : Nat} {Src : Nat × Int32 → Prop} {l : Nat → Int32} (h : sk_LI K w n Src M l) (hs : s < 2192) (hM : M < 4096) (hc : c < 4096) (e : l s = nI c) :
    c ≤ M ∧ sk_V K n (sk_nd s).1 (sk_nd s).2 ∧ sk_F K w Src c (sk_nd s) := by
  rcases h s hs with z | ⟨c', h1, h2, h3, h4⟩
  · rw [z] at e
    exact absurd (e ▸ (by decide : (-1 : Int32) < 0)) (nI_pos (by omega))
  · rw [h2] at e
    obtain rfl := (nI_eq (by omega) (by omega)).mp e
    exact ⟨h1, h3, h4⟩
/-- block m is closed under walks at level L -/
def sk_CB (K : Nat → Int32) (w L : Nat) (l : Nat → Int32) (m : Nat) : Prop :=
  ∀ p, p < 16 → l (16 * m + p) = nI L → ∀ d t, d < 4 → sk_Tg K w d (16 * m + p) t 0 → sk_in l t L
/-- what a sweep at level L keeps -/
def sk_SI (K : Nat → Int32) (w n : Nat) (Src : Nat × Int32 → Prop) (L : Nat) (l0 l : Nat → Int32) (mo : Nat) : Prop :=
  sk_LI K w n Src (L + 1) l ∧
  (∀ s, s < 2192 → sk_in l0 s L → l s = l0 s) ∧
  (∀ s, s < 2192 → ∀ c, sk_in l0 s c → sk_in l s c) ∧
  (mo = 0 → ∀ s, s < 2192 → l s = nI L → l0 s = nI L) ∧
  (∀ m, m < 137 → sk_CB K w L l0 m → ∀ p, p < 16 → l (16 * m + p) = nI L → l0 (16 * m + p) = nI L) ∧
  (∀ s, s < 2192 → ∀ c, c < L → l s = nI c → l0 s = nI c) ∧ mo < 2
theorem sk_SI_0 {K : Nat → Int32} {w n L : Nat} {Src : Nat × Int32 → Prop} {l : Nat → Int32} (h : sk_LI K w n Src (L + 1) l) : sk_SI K w n Src L l l 0 :=
  ⟨h, fun _ _ _ => rfl, fun _ _ _ a => a, fun _ _ _ a => a, fun _ _ _ _ _ a => a, fun _ _ _ _ a => a, by omega⟩
theorem sk_SI_s {K : Nat → Int32} {w n L s d t e mo : Nat} {Src : Nat × Int32 → Prop} {l0 l : Nat → Int32} (hL : L < 4000) (hn : n ≤ 2) (h : sk_SI K w n Src L l0 l mo) (hs : s < 2192) (hd : d < 4) (hl : l s = nI L) (hT : sk_Tg K w d s t e) (hno : ¬ sk_in l t (L + e)) :
    sk_SI K w n Src L l0 (upd l t (nI (L + e))) (if e = 0 then 1 else mo) := by
  obtain ⟨a1, a2, a3, a4, a5, a6, a7⟩ := h
  obtain ⟨_, hv, hF⟩ := sk_LI_at a1 hs (by omega) (by omega) hl
  obtain ⟨t1, t2, t3, t4, t5⟩ := sk_Tg_ok hs hn hd hv hT
  have hnL : ¬ sk_in l t L := fun z => hno (sk_in_mono (by omega) z)
  have hnL0 : ¬ sk_in l0 t L := fun z => hnL (a3 t t1 L z)
  refine ⟨?_, ?_, ?_, ?_, ?_, ?_, ?_⟩
  · intro s' hs'
    by_cases z : s' = t
    · subst z
      exact Or.inr ⟨L + e, by omega, pk_us, t3, sk_F_s hF t2⟩
    · rw [pk_un z]; exact a1 s' hs'
  · intro s' hs' hi
    by_cases z : s' = t
    · subst z; exact absurd hi hnL0
    · rw [pk_un z]; exact a2 s' hs' hi
  · intro s' hs' c hi
    have g := a3 s' hs' c hi
    by_cases z : s' = t
    · subst z
      obtain ⟨c1, b1, b2, b3⟩ := g
      have : ¬ c1 ≤ L + e := fun y => hno ⟨c1, y, b2, b3⟩
      exact ⟨L + e, by omega, by omega, pk_us⟩
    · obtain ⟨c1, b1, b2, b3⟩ := g
      exact ⟨c1, b1, b2, by rw [pk_un z]; exact b3⟩
  · intro hm s' hs' hl'
    have he : ¬ e = 0 := by
      intro z
      rw [if_pos z] at hm
      omega
    rw [if_neg he] at hm
    by_cases z : s' = t
    · subst z
      rw [pk_us] at hl'
      have := (nI_eq (by omega) (by omega)).mp hl'
      omega
    · rw [pk_un z] at hl'
      exact a4 hm s' hs' hl'
  · intro m hm hcb p hp hl'
    by_cases z : 16 * m + p = t
    · exfalso
      rw [z, pk_us] at hl'
      have := (nI_eq (by omega) (by omega)).mp hl'
      have he : e = 0 := by omega
      have hb := t5 he
      have es : s = 16 * m + s % 16 := by omega
      subst he
      rw [es] at hl hT
      have h0 := a5 m hm hcb (s % 16) (by omega) hl
      exact hnL0 (hcb (s % 16) (by omega) h0 d t hd hT)
    · rw [pk_un z] at hl'
      exact a5 m hm hcb p hp hl'
  · intro s' hs' c hc hl'
    by_cases z : s' = t
    · subst z
      rw [pk_us] at hl'
      have := (nI_eq (by omega) (by omega)).mp hl'
      omega
    · rw [pk_un z] at hl'
      exact a6 s' hs' c hc hl'
  · split <;> omega
/-- all that a number at level L leads to is there -/
def sk_FC (K : Nat → Int32) (w : Nat) (l : Nat → Int32) (s c : Nat) : Prop := ∀ d t e, d < 4 → sk_Tg K w d s t e → sk_in l t (c + e)
def sk_bm (l : Nat → Int32) (L m : Nat) : Nat := sk_cn (fun p => sk_inb l (16 * m + p) L) 16
/-- between sweeps: k of them are made -/
def sk_AI (K : Nat → Int32) (w n : Nat) (Src : Nat × Int32 → Prop) (L : Nat) (l0 l : Nat → Int32) (k mo : Nat) : Prop :=
  sk_LI K w n Src (L + 1) l ∧
  (∀ s, s < 2192 → ∀ c, sk_in l0 s c → sk_in l s c) ∧
  (∀ s, s < 2192 → ∀ c, c < L → l s = nI c → l0 s = nI c) ∧
  (∀ m, m < 137 → sk_CB K w L l m ∨ k ≤ sk_bm l L m) ∧
  (mo = 0 ∨ 17 ≤ k → ∀ s, s < 2192 → l s = nI L → sk_FC K w l s L)
theorem sk_AI_s {K : Nat → Int32} {w n L k mo : Nat} {Src : Nat × Int32 → Prop} {lI l0 l : Nat → Int32} (hL : L < 4000) (hn : n ≤ 2) (h : sk_AI K w n Src L lI l0 k 1) (hk : k < 17) (g : sk_SI K w n Src L l0 l mo)
    (hc : ∀ s, s < 2192 → l0 s = nI L → sk_FC K w l s L) : sk_AI K w n Src L lI l (k + 1) mo := by
  obtain ⟨a1, a2, a3, a4, a5⟩ := h
  obtain ⟨b1, b2, b3, b4, b5, b6, b7⟩ := g
  refine ⟨b1, fun s hs c hi => b3 s hs c (a2 s hs c hi), fun s hs c hc' e => a3 s hs c hc' (b6 s hs c hc' e), ?_, ?_⟩
  · intro m hm
    by_cases z : sk_CB K w L l0 m
    · left
      intro p hp hl d t hd hT
      have h0 := b5 m hm z p hp hl
      have ht := z p hp h0 d t hd hT
      have hv := (sk_LI_at a1 (by omega) (by omega) (by omega) h0).2.1
      exact b3 t (sk_Tg_ok (by omega) hn hd hv hT).1 L ht
    · right
      have hk0 : k ≤ sk_bm l0 L m := (a4 m hm).resolve_left z
      have : ∃ p d t, p < 16 ∧ d < 4 ∧ l0 (16 * m + p) = nI L ∧ sk_Tg K w d (16 * m + p) t 0 ∧ ¬ sk_in l0 t L := by
        apply Classical.byContradiction
        intro y
        apply z
        intro p hp hl d t hd hT
        apply Classical.byContradiction
        intro y2
        exact y ⟨p, d, t, hp, hd, hl, hT, y2⟩
      obtain ⟨p, d, t, hp, hd, hl, hT, hni⟩ := this
      have hv := (sk_LI_at a1 (by omega) (by omega) (by omega) hl).2.1
      obtain ⟨t1, t2, t3, t4, t5⟩ := sk_Tg_ok (by omega) hn hd hv hT
      have tb := t5 rfl
      have tt : t = 16 * m + t % 16 := by omega
      have hin : sk_in l t L := hc (16 * m + p) (by omega) hl d t 0 hd hT
      have q : sk_bm l0 L m + 1 ≤ sk_bm l L m := by
        refine sk_cn_smono (q := t % 16) (by omega) ?_ ?_ ?_
        · rw [← tt]
          cases y : sk_inb l0 t L
          · rfl
          · exact absurd ((sk_inb_iff (by omega)).mp y) hni
        · rw [← tt]
          exact (sk_inb_iff (by omega)).mpr hin
        · intro i hi hy
          exact (sk_inb_iff (by omega)).mpr (b3 _ (by omega) L ((sk_inb_iff (by omega)).mp hy))
      omega
  · intro hz s hs hl
    have h0 : l0 s = nI L := by
      rcases hz with hz | hz
      · exact b4 hz s hs hl
      · have hcb : sk_CB K w L l0 (s / 16) := by
          rcases a4 (s / 16) (by omega) with y | y
          · exact y
          · intro p hp hl2 d t hd hT
            have hv := (sk_LI_at a1 (by omega) (by omega) (by omega) hl2).2.1
            obtain ⟨t1, t2, t3, t4, t5⟩ := sk_Tg_ok (by omega) hn hd hv hT
            have tb := t5 rfl
            have f := sk_cn_full (P := fun p => sk_inb l0 (16 * (s / 16) + p) L) (N := 16) (by
              have : k ≤ sk_bm l0 L (s / 16) := y
              show 16 ≤ sk_bm l0 L (s / 16)
              omega) (t % 16) (by omega)
            have f2 := (sk_inb_iff (by omega)).mp f
            rw [show 16 * (s / 16) + t % 16 = t by omega] at f2
            exact f2
        have es : s = 16 * (s / 16) + s % 16 := by omega
        rw [es] at hl ⊢
        exact b5 (s / 16) (by omega) hcb (s % 16) (by omega) hl
    exact hc s hs h0
/-- at the head of level L -/
def sk_QI (K : Nat → Int32) (w n : Nat) (Src : Nat × Int32 → Prop) (L : Nat) (l : Nat → Int32) : Prop :=
  sk_LI K w n Src L l ∧
  (∀ x, Src x → ∃ s, s < 2192 ∧ sk_nd s = x ∧ sk_in l s 0) ∧
  (∀ s c, s < 2192 → c < L → l s = nI c → sk_FC K w l s c ∧ ¬ sk_Dn K (sk_nd s).2) ∧
  L ≤ sk_cn (fun s => sk_inb l s L) 2192
theorem sk_QI_L {K : Nat → Int32} {w n L : Nat} {Src : Nat × Int32 → Prop} {l : Nat → Int32} (hL : L < 4000) (hn : n ≤ 2) (h : sk_QI K w n Src L l) : L ≤ 1920 := by
  refine Nat.le_trans h.2.2.2 (Nat.le_trans (sk_cn_mono ?_) (sk_ys_cnt2 (n := n) (by omega)))
  intro i hi hb
  obtain ⟨c, c1, c2, c3⟩ := (sk_inb_iff (by omega)).mp hb
  have hv := (sk_LI_at h.1 hi (by omega) c2 c3).2.1
  exact decide_eq_true hv.2.2.2.2
theorem sk_QI_A {K : Nat → Int32} {w n L : Nat} {Src : Nat × Int32 → Prop} {l : Nat → Int32} (h : sk_QI K w n Src L l) : sk_AI K w n Src L l l 0 1 :=
  ⟨fun s hs => (h.1 s hs).imp id (fun ⟨c, c1, c2⟩ => ⟨c, by omega, c2⟩), fun _ _ _ a => a, fun _ _ _ _ a => a, fun _ _ => Or.inr (Nat.zero_le _), fun z => absurd z (by omega)⟩
/-- after all sweeps of level L -/
def sk_PI (K : Nat → Int32) (w n : Nat) (Src : Nat × Int32 → Prop) (L : Nat) (l : Nat → Int32) : Prop :=
  sk_LI K w n Src (L + 1) l ∧
  (∀ x, Src x → ∃ s, s < 2192 ∧ sk_nd s = x ∧ sk_in l s 0) ∧
  (∀ s c, s < 2192 → c ≤ L → l s = nI c → sk_FC K w l s c) ∧
  (∀ s c, s < 2192 → c < L → l s = nI c → ¬ sk_Dn K (sk_nd s).2) ∧
  L ≤ sk_cn (fun s => sk_inb l s L) 2192
theorem sk_AI_P {K : Nat → Int32} {w n L k mo : Nat} {Src : Nat × Int32 → Prop} {l0 l : Nat → Int32} (hL : L < 4000) (hn : n ≤ 2) (h : sk_QI K w n Src L l0) (g : sk_AI K w n Src L l0 l k mo) (hk : mo = 0 ∨ 17 ≤ k) : sk_PI K w n Src L l := by
  obtain ⟨a1, a2, a3, a4⟩ := h
  obtain ⟨b1, b2, b3, b4, b5⟩ := g
  refine ⟨b1, ?_, ?_, ?_, ?_⟩
  · intro x hx
    obtain ⟨s, h1, h2, h3⟩ := a2 x hx
    exact ⟨s, h1, h2, b2 s h1 0 h3⟩
  · intro s c hs hc hl
    by_cases z : c = L
    · subst z; exact b5 hk s hs hl
    · have h0 := b3 s hs c (by omega) hl
      intro d t e hd hT
      have hv := (sk_LI_at a1 hs (by omega) (by omega) h0).2.1
      exact b2 t (sk_Tg_ok hs hn hd hv hT).1 _ ((a3 s c hs (by omega) h0).1 d t e hd hT)
  · intro s c hs hc hl
    exact (a3 s c hs hc (b3 s hs c hc hl)).2
  · refine Nat.le_trans a4 (sk_cn_mono ?_)
    intro i hi hb
    exact (sk_inb_iff (by omega)).mpr (b2 i hi L ((sk_inb_iff (by omega)).mp hb))
/-- the next level -/
theorem sk_PI_Q {K : Nat → Int32} {w n L s : Nat} {Src : Nat × Int32 → Prop} {l : Nat → Int32} (hL : L < 4000) (h : sk_PI K w n Src L l) (hd : ∀ s, s < 2192 → l s = nI L → ¬ sk_Dn K (sk_nd s).2) (hs : s < 2192) (hl : l s = nI (L + 1)) : sk_QI K w n Src (L + 1) l := by
  obtain ⟨a1, a2, a3, a4, a5⟩ := h
  refine ⟨a1, a2, ?_, ?_⟩
  · intro s' c hs' hc hl'
    refine ⟨a3 s' c hs' (by omega) hl', ?_⟩
    by_cases z : c = L
    · subst z; exact hd s' hs' hl'
    · exact a4 s' c hs' (by omega) hl'
  · have q : sk_cn (fun s => sk_inb l s L) 2192 + 1 ≤ sk_cn (fun s => sk_inb l s (L + 1)) 2192 := by
      refine sk_cn_smono hs ?_ ?_ ?_
      · cases y : sk_inb l s L
        · rfl
        · obtain ⟨c, c1, c2, c3⟩ := (sk_inb_iff (by omega)).mp y
          rw [hl] at c3
          have := (nI_eq (by omega) (by omega)).mp c3
          omega
      · exact (sk_inb_iff (by omega)).mpr ⟨L + 1, by omega, by omega, hl⟩
      · intro i _ hy
        exact (sk_inb_iff (by omega)).mpr (sk_in_mono (by omega) ((sk_inb_iff (by omega)).mp hy))
    omega
/-- the level is the answer -/
theorem sk_PI_yes {K : Nat → Int32} {w n L s : Nat} {Src : Nat × Int32 → Prop} {l : Nat → Int32} {no : Int32} (hL : L < 4000) (hn : n ≤ 2) (hSrc : ∀ x, Src x → sk_V K n x.1 x.2) (h : sk_PI K w n Src L l) (hs : s < 2192) (hl : l s = nI L) (hd : sk_Dn K (sk_nd s).2) : sk_An K w Src no (nI L) := by
  obtain ⟨a1, a2, a3, a4, a5⟩ := h
  refine Or.inr ⟨L, by omega, rfl, ?_, ?_⟩
  · obtain ⟨k, x, hx, hw⟩ := (sk_LI_at a1 hs (by omega) (by omega) hl).2.2
    exact ⟨x, hx, k, sk_nd s, hw, hd⟩
  · intro c' x hc hx ⟨k, y, hw, hdy⟩
    have q := sk_closF (K := K) (w := w) (n := n) (L := L) (A := fun c x => ∃ s, s < 2192 ∧ sk_nd s = x ∧ sk_in l s c) ?_ ?_ k c' 0 x y (hSrc x hx) hw (by omega) (a2 x hx)
    · obtain ⟨s', h1, h2, c2, c3, c4, c5⟩ := q
      rw [← h2] at hdy
      exact a4 s' c2 h1 (by omega) c5 hdy
    · intro x c c' hcc ⟨s', h1, h2, h3⟩
      exact ⟨s', h1, h2, sk_in_mono hcc h3⟩
    · intro x y e c hcL hv ⟨s', h1, h2, c2, c3, c4, c5⟩ g
      subst h2
      obtain ⟨d, t, hd', hT, ht⟩ := sk_Eg_Tg hn hv g
      exact ⟨t, (sk_Tg_ok h1 hn hd' hv hT).1, ht, sk_in_mono (by omega) (a3 s' c2 h1 (by omega) c5 d t e hd' hT)⟩
/-- there is none -/
theorem sk_PI_no {K : Nat → Int32} {w n L : Nat} {Src : Nat × Int32 → Prop} {l : Nat → Int32} {no : Int32} (hL : L < 4000) (hn : n ≤ 2) (hSrc : ∀ x, Src x → sk_V K n x.1 x.2) (h : sk_PI K w n Src L l) (hd : ∀ s, s < 2192 → l s = nI L → ¬ sk_Dn K (sk_nd s).2) (hm : ∀ s, s < 2192 → ¬ l s = nI (L + 1)) : sk_An K w Src no no := by
  obtain ⟨a1, a2, a3, a4, a5⟩ := h
  refine Or.inl ⟨rfl, ?_⟩
  intro c x hx ⟨k, y, hw, hdy⟩
  have q := sk_closG (K := K) (w := w) (n := n) (A := fun x => ∃ s, s < 2192 ∧ sk_nd s = x ∧ sk_in l s L) ?_ k c x y (hSrc x hx) hw ?_
  · obtain ⟨s', h1, h2, c2, c3, c4, c5⟩ := q
    rw [← h2] at hdy
    by_cases z : c2 = L
    · subst z; exact hd s' h1 c5 hdy
    · exact a4 s' c2 h1 (by omega) c5 hdy
  · intro x y e hv ⟨s', h1, h2, c2, c3, c4, c5⟩ g
    subst h2
    obtain ⟨d, t, hd', hT, ht⟩ := sk_Eg_Tg hn hv g
    obtain ⟨t1, t2, t3, t4, t5⟩ := sk_Tg_ok h1 hn hd' hv hT
    obtain ⟨c6, c7, c8, c9⟩ := a3 s' c2 h1 c3 c5 d t e hd' hT
    refine ⟨t, t1, ht, c6, ?_, c8, c9⟩
    by_cases z : c6 = L + 1
    · subst z; exact absurd c9 (hm t t1)
    · omega
  · obtain ⟨s', h1, h2, h3⟩ := a2 x hx
    exact ⟨s', h1, h2, sk_in_mono (by omega) h3⟩
end
section
/-! ===== Y's walks of the search ===== -/
theorem sk_in_upd {l : Nat → Int32} {t v x c : Nat} (hv : v < 4096) (hno : ¬ sk_in l t v) (h : sk_in l x c) : sk_in (upd l t (nI v)) x c := by
  obtain ⟨c1, h1, h2, h3⟩ := h
  by_cases z : x = t
  · subst z
    have : ¬ c1 ≤ v := fun y => hno ⟨c1, y, h2, h3⟩
    exact ⟨v, by omega, hv, pk_us⟩
  · exact ⟨c1, h1, h2, by rw [pk_un z]; exact h3⟩
theorem sk_t16 (m p : Nat) : nI m * 16 + nI p = nI (16 * m + p) := by
  rw [show (16 : Int32) = nI 16 from rfl, pk_mul, nI_add, Nat.mul_comm]
section
variable {B P kp pd tc tb : Int32} {K my st lv : Nat → Int32} {w n L : Nat} {Src : Nat × Int32 → Prop}
theorem yw_reach_80 {post : Int32 → SY → Prop} {t v : Nat} (hL : L < 4000) (ht : t < 2192) (hv : v < 4096) (hl : lv t = -1 ∨ ∃ c, c < 4096 ∧ lv t = nI c)
    (h0 : sk_in lv t v → post 0 (B, P, kp, pd, tc, tb, K, my, st, lv))
    (h1 : ¬ sk_in lv t v → post (if v = L then 1 else 0) (B, P, kp, pd, tc, tb, K, my, st, upd lv t (nI v))) :
    wY_reach_80 post (nI L) (nI t) (nI v) B P kp pd tc tb K my st lv := by
  have ec : (nI t).toNatClampNeg = t := nI_clamp (by omega)
  have h106 : ¬ sk_in lv t v → wY_reach_106 post (nI L) (nI t) (nI v) B P kp pd tc tb K my st lv := by
    intro z
    have h1 := h1 z
    refine And.intro (vp_in_nI ht (by decide)) (nm_r (e' := upd lv t (nI v)) (by rw [ec]) ?_)
    by_cases y : v = L
    · rw [if_pos y] at h1
      exact br_t (by rw [y]) h1
    · rw [if_neg y] at h1
      exact br_f (fun q => y ((nI_eq (by omega) (by omega)).mp q)) h1
  refine And.intro (vp_in_nI ht (by decide)) ?_
  rcases hl with z | ⟨c, hc, z⟩
  · refine br_t (by rw [ec, z]; decide) (h106 ?_)
    rintro ⟨c', _, y2, y3⟩
    rw [z] at y3
    exact absurd (y3 ▸ (by decide : (-1 : Int32) < 0)) (nI_pos (by omega))
  · refine br_f (by rw [ec, z]; exact nI_pos (by omega)) (And.intro (vp_in_nI ht (by decide)) ?_)
    by_cases y : c ≤ v
    · exact br_f (by rw [ec, z]; exact nI_nlt y (by omega)) (h0 ⟨c, y, hc, z⟩)
    · refine br_t (by rw [ec, z]; exact nI_lt (by omega) (by omega)) (h106 ?_)
      rintro ⟨c', y1, y2, y3⟩
      rw [z] at y3
      have := (nI_eq (by omega) (by omega)).mp y3
      omega
theorem yw_reach_48 {post : Int32 → SY → Prop} {t m p e : Nat} {how : Int32} (hL : L < 4000) (hw : w < 2) (hm : m < 137) (hp : p < 16) (et : t = 16 * m + p) (ee : (how = 1 ∧ e = 1 - w) ∨ (how = 2 ∧ e = 1)) (hl : lv t = -1 ∨ ∃ c, c < 4096 ∧ lv t = nI c)
    (h0 : sk_in lv t (L + e) → post 0 (B, P, kp, pd, nI p, tb, K, my, st, lv))
    (h1 : ¬ sk_in lv t (L + e) → post (if e = 0 then 1 else 0) (B, P, kp, pd, nI p, tb, K, my, st, upd lv t (nI (L + e)))) :
    wY_reach_48 post (nI L) (nI w) how (nI m) B P kp pd (nI p) tb K my st lv := by
  refine nm_r (e' := nI t) (by rw [sk_t16, et]) ?_
  have key : ∀ v, v = L + e → wY_reach_80 post (nI L) (nI t) (nI v) B P kp pd (nI p) tb K my st lv := by
    rintro v rfl
    refine yw_reach_80 hL (by omega) (by omega) hl h0 ?_
    intro z
    have h1 := h1 z
    by_cases y : e = 0
    · rw [if_pos y] at h1
      rw [if_pos (by omega)]
      exact h1
    · rw [if_neg y] at h1
      rw [if_neg (by omega)]
      exact h1
  have k77 : e = 1 → wY_reach_77 post (nI L) (nI t) B P kp pd (nI p) tb K my st lv := by
    intro z
    show wY_reach_80 post (nI L) (nI t) (nI L + 1) B P kp pd (nI p) tb K my st lv
    rw [nI_1]
    exact key (L + 1) (by omega)
  by_cases z : w = 0
  · subst z
    exact br_t rfl (k77 (by rcases ee with y | y <;> omega))
  · obtain rfl : w = 1 := by omega
    refine br_f (by decide) ?_
    rcases ee with ⟨y1, y2⟩ | ⟨y1, y2⟩
    · exact br_t y1 (key L (by omega))
    · exact br_f (by rw [y1]; decide) (k77 y2)
theorem yw_reach {post : Int32 → SY → Prop} {s d : Nat} (hL : L < 4000) (hw : w < 2) (hn : n ≤ 2) (hst : sk_ST st) (hs : s < 2192) (hd : d < 4) (hI : sk_LI K w n Src (L + 1) lv) (hl : lv s = nI L)
    (h0 : ∀ a b : Int32, (∀ t e, ¬ sk_Tg K w d s t e) → post 0 (B, P, kp, pd, a, b, K, my, st, lv))
    (h1 : ∀ (t e : Nat) (a b : Int32), sk_Tg K w d s t e → sk_in lv t (L + e) → post 0 (B, P, kp, pd, a, b, K, my, st, lv))
    (h2 : ∀ (t e : Nat) (a b : Int32), sk_Tg K w d s t e → ¬ sk_in lv t (L + e) → post (if e = 0 then 1 else 0) (B, P, kp, pd, a, b, K, my, st, upd lv t (nI (L + e)))) :
    wpY_reach post (B, P, kp, pd, tc, tb, K, my, st, lv) (nI s) (nI d) (nI L) (nI w) := by
  have e1 : nI s / 16 = nI (s / 16) := pk_div (d := 16) (by omega) (by decide) (by decide)
  have e2 : nI s - nI s / 16 * 16 = nI (s % 16) := pk_rem (d := 16) (by omega) (by decide) (by decide)
  have e3 : st (nI (s / 16)).toNatClampNeg = sk_ys (s / 16) := by rw [nI_clamp (by omega)]; exact hst _ (by omega)
  have hv := (sk_LI_at hI hs (by omega) (by omega) hl).2.1
  have lvl : ∀ t, t < 2192 → lv t = -1 ∨ ∃ c, c < 4096 ∧ lv t = nI c := by
    intro t ht
    rcases hI t ht with z | ⟨c, c1, c2, _⟩
    · exact Or.inl z
    · exact Or.inr ⟨c, by omega, c2⟩
  unfold wpY_reach
  dsimp only
  rw [e2, e1, e3]
  refine ⟨by decide, by decide, vp_in_nI (by omega) (by decide), yw_step (by omega) hd ?_ ?_ ?_⟩
  · intro g1 g2 a b
    refine br_t rfl (h0 a b ?_)
    rintro t e (⟨p', x, _⟩ | ⟨p', S', x, _⟩)
    · exact g1 _ _ x
    · exact g2 _ _ x
  · intro p' g
    have hT : sk_Tg K w d s (16 * (s / 16) + p') (1 - w) := Or.inl ⟨p', g, rfl, rfl⟩
    have ht := (sk_Tg_ok hs hn hd hv hT).1
    exact br_f (by decide) (br_t rfl ⟨by decide, yw_reach_48 hL hw (by omega) g.2.1 rfl (Or.inl ⟨rfl, rfl⟩) (lvl _ ht) (h1 _ _ _ _ hT) (h2 _ _ _ _ hT)⟩)
  · intro p' S' g
    have hT : sk_Tg K w d s (16 * sk_nu S' + p') 1 := Or.inr ⟨p', S', g, rfl, rfl⟩
    have ht := (sk_Tg_ok hs hn hd hv hT).1
    have hp := g.2.1
    have hm : sk_nu S' < 137 := by omega
    exact br_f (by decide) (br_f (by decide) (yw_number hst (yw_reach_48 hL hw hm g.2.1 rfl (Or.inr ⟨rfl, rfl⟩) (lvl _ ht) (h1 _ _ _ _ hT) (h2 _ _ _ _ hT))))
theorem yw_51 {post : Int32 → SY → Prop} {J5 J16 : Int32 → Int32 → Int32 → Int32 → Int32 → Int32 → Int32 → Int32 → (Nat → Int32) → (Nat → Int32) → (Nat → Int32) → (Nat → Int32) → Prop} {x1 x2 x4 : Int32} {d mo r mo' : Nat} (hm : mo < 2) (hr : r < 2) (e : mo' = if mo = 0 then r else 1)
    (h : J16 (nI mo') (nI (d + 1)) B P kp pd tc tb K my st lv) : wY_spread_51 post J5 J16 x1 x2 (nI mo) x4 (nI d) (nI r) B P kp pd tc tb K my st lv := by
  by_cases z : mo = 0
  · rw [if_pos z] at e
    subst e
    subst z
    refine br_t rfl ?_
    rcases (by omega : mo' = 0 ∨ mo' = 1) with rfl | rfl
    · exact br_t rfl (nm_r (nI_1 d) h)
    · exact br_f (by decide) (nm_r (nI_1 d) h)
  · rw [if_neg z] at e
    subst e
    exact br_f (nI_ne0 (by omega) (by omega)) (nm_r (nI_1 d) h)
theorem yw_spread_16 {post : Int32 → SY → Prop} {l0 : Nat → Int32} {s : Nat} {J5 : Int32 → Int32 → Int32 → Int32 → Int32 → Int32 → Int32 → Int32 → (Nat → Int32) → (Nat → Int32) → (Nat → Int32) → (Nat → Int32) → Prop}
    (hL : L < 4000) (hw : w < 2) (hn : n ≤ 2) (hst : sk_ST st) (hs : s < 2192)
    (hJ : ∀ a b l mo, sk_SI K w n Src L l0 l mo → (∀ s', s' < s + 1 → l0 s' = nI L → sk_FC K w l s' L) → J5 (nI mo) (nI (s + 1)) B P kp pd a b K my st l) :
    ∀ k d, d + k = 4 → ∀ a b l mo, sk_SI K w n Src L l0 l mo → (∀ s', s' < s → l0 s' = nI L → sk_FC K w l s' L) → (l0 s = nI L → ∀ d', d' < d → ∀ t e, sk_Tg K w d' s t e → sk_in l t (L + e)) →
      wY_spread_16 post J5 (nI L) (nI w) (nI s) (k + 1) (nI mo) (nI d) B P kp pd a b K my st l := by
  intro k
  induction k with
  | zero =>
    intro d hd a b l mo hS hf hg
    obtain rfl : d = 4 := by omega
    refine br_t (nI_le (a := 4) (b := 4) (by omega) (by decide)) (nm_r (nI_1 s) (hJ a b l mo hS (lt_s hf ?_)))
    intro z d t e hd' hT
    exact hg z d hd' t e hT
  | succ k ih =>
    intro d hd a b l mo hS hf hg
    have ec : (nI s).toNatClampNeg = s := nI_clamp (by omega)
    have hmo := hS.2.2.2.2.2.2
    refine br_f (nI_ge (b := 4) (by omega) (by decide)) (And.intro (vp_in_nI hs (by decide)) ?_)
    by_cases z : l s = nI L
    · refine br_t (by rw [ec]; exact z) (yw_reach hL hw hn hst hs (by omega) hS.1 z ?_ ?_ ?_)
      · intro a' b' hno
        refine br_t rfl (yw_51 (r := 0) (mo' := mo) hmo (by omega) (by split <;> omega) (ih (d + 1) (by omega) a' b' l mo hS hf ?_))
        intro y
        exact lt_s (hg y) (fun t e hT => absurd hT (hno t e))
      · intro t e a' b' hT hi
        refine br_t rfl (yw_51 (r := 0) (mo' := mo) hmo (by omega) (by split <;> omega) (ih (d + 1) (by omega) a' b' l mo hS hf ?_))
        intro y
        refine lt_s (hg y) (fun t' e' hT' => ?_)
        obtain ⟨rfl, rfl⟩ := sk_Tg_u hT hT'
        exact hi
      · intro t e a' b' hT hni
        have hS' := sk_SI_s hL hn hS hs (by omega) z hT hni
        have hv := (sk_LI_at hS.1 hs (by omega) (by omega) z).2.1
        obtain ⟨t1, t2, t3, t4, t5⟩ := sk_Tg_ok hs hn (by omega) hv hT
        have nxt : wY_spread_16 post J5 (nI L) (nI w) (nI s) (k + 1) (nI (if e = 0 then 1 else mo)) (nI (d + 1)) B P kp pd a' b' K my st (upd l t (nI (L + e))) := by
          refine ih (d + 1) (by omega) a' b' _ _ hS' ?_ ?_
          · intro s' hs' y d' t' e' hd' hT'
            exact sk_in_upd (by omega) hni (hf s' hs' y d' t' e' hd' hT')
          · intro y
            refine lt_s (fun d' hd' t' e' hT' => sk_in_upd (by omega) hni (hg y d' hd' t' e' hT')) (fun t' e' hT' => ?_)
            obtain ⟨rfl, rfl⟩ := sk_Tg_u hT hT'
            exact ⟨L + e, by omega, by omega, pk_us⟩
        by_cases y : e = 0
        · rw [if_pos y] at nxt ⊢
          refine br_f (by decide) (yw_51 (r := 1) hmo (by omega) (by split <;> omega) nxt)
        · rw [if_neg y] at nxt ⊢
          refine br_t rfl (yw_51 (r := 0) (mo' := mo) hmo (by omega) (by split <;> omega) nxt)
    · refine br_f (by rw [ec]; exact z) (yw_51 (r := 0) (mo' := mo) hmo (by omega) (by split <;> omega) (ih (d + 1) (by omega) a b l mo hS hf ?_))
      intro y
      exact absurd ((hS.2.1 s hs ⟨L, by omega, by omega, y⟩).trans y) z
theorem yw_spread_5 {post : Int32 → SY → Prop} {l0 : Nat → Int32} (hL : L < 4000) (hw : w < 2) (hn : n ≤ 2) (hst : sk_ST st)
    (h : ∀ a b l mo, sk_SI K w n Src L l0 l mo → (∀ s, s < 2192 → l0 s = nI L → sk_FC K w l s L) → post (nI mo) (B, P, kp, pd, a, b, K, my, st, l)) :
    ∀ k s, s + k = 2192 → ∀ a b l mo, sk_SI K w n Src L l0 l mo → (∀ s', s' < s → l0 s' = nI L → sk_FC K w l s' L) →
      wY_spread_5 post (nI L) (nI w) (k + 1) (nI mo) (nI s) B P kp pd a b K my st l := by
  intro k
  induction k with
  | zero =>
    intro s hs a b l mo hS hf
    obtain rfl : s = 2192 := by omega
    have hmo := hS.2.2.2.2.2.2
    refine br_t (nI_le (a := 2192) (b := 2192) (by omega) (by decide)) (And.intro ?_ (h a b l mo hS hf))
    rcases (by omega : mo = 0 ∨ mo = 1) with rfl | rfl <;> rfl
  | succ k ih =>
    intro s hs a b l mo hS hf
    refine br_f (nI_ge (b := 2192) (by omega) (by decide)) ⟨4 + 1, ?_⟩
    refine yw_spread_16 hL hw hn hst (by omega) ?_ 4 0 rfl a b l mo hS hf (fun _ d' hd' => absurd hd' (by omega))
    intro a' b' l' mo' hS' hf'
    exact ih (s + 1) (by omega) a' b' l' mo' hS' hf'
theorem yw_spread {post : Int32 → SY → Prop} (hL : L < 4000) (hw : w < 2) (hn : n ≤ 2) (hst : sk_ST st) (hI : sk_LI K w n Src (L + 1) lv)
    (h : ∀ a b l mo, sk_SI K w n Src L lv l mo → (∀ s, s < 2192 → lv s = nI L → sk_FC K w l s L) → post (nI mo) (B, P, kp, pd, a, b, K, my, st, l)) :
    wpY_spread post (B, P, kp, pd, tc, tb, K, my, st, lv) (nI L) (nI w) :=
  ⟨2192 + 1, yw_spread_5 hL hw hn hst h 2192 0 rfl tc tb lv 0 (sk_SI_0 hI) (fun s' hs' => absurd hs' (by omega))⟩
theorem yw_spreadAll_5 {post : SY → Prop} {l0 : Nat → Int32} (hL : L < 4000) (hw : w < 2) (hn : n ≤ 2) (hst : sk_ST st)
    (h : ∀ a b l k mo, sk_AI K w n Src L l0 l k mo → (mo = 0 ∨ 17 ≤ k) → post (B, P, kp, pd, a, b, K, my, st, l)) :
    ∀ j k, k + j = 17 → ∀ a b l mo, mo < 2 → sk_AI K w n Src L l0 l k mo → wY_spreadAll_5 post (nI L) (nI w) (j + 1) (nI mo) (nI k) B P kp pd a b K my st l := by
  intro j
  induction j with
  | zero =>
    intro k hk a b l mo hmo hA
    obtain rfl : k = 17 := by omega
    exact br_t (nI_le (a := 17) (b := 17) (by omega) (by decide)) (h a b l 17 mo hA (Or.inr (by omega)))
  | succ j ih =>
    intro k hk a b l mo hmo hA
    refine br_f (nI_ge (b := 17) (by omega) (by decide)) ?_
    rcases (by omega : mo = 0 ∨ mo = 1) with rfl | rfl
    · exact br_t rfl (h a b l k 0 hA (Or.inl rfl))
    · refine br_f (by decide) (yw_spread hL hw hn hst hA.1 ?_)
      intro a' b' l' mo' hS hc
      exact nm_r (nI_1 k) (ih (k + 1) (by omega) a' b' l' mo' hS.2.2.2.2.2.2 (sk_AI_s hL hn hA (by omega) hS hc))
theorem yw_spreadAll {post : SY → Prop} (hL : L < 4000) (hw : w < 2) (hn : n ≤ 2) (hst : sk_ST st) (hQ : sk_QI K w n Src L lv)
    (h : ∀ a b l, sk_PI K w n Src L l → post (B, P, kp, pd, a, b, K, my, st, l)) :
    wpY_spreadAll post (B, P, kp, pd, tc, tb, K, my, st, lv) (nI L) (nI w) :=
  ⟨17 + 1, yw_spreadAll_5 hL hw hn hst (fun a b l k mo hA hk => h a b l (sk_AI_P hL hn hQ hA hk)) 17 0 rfl tc tb lv 1 (by omega) (sk_QI_A hQ)⟩
theorem yw_doneAt_2 {post : Int32 → Prop} (hst : sk_ST st) (hlo : ∀ s, s < 2192 → lv s = nI L → sk_lo (sk_nd s).2)
    (h1 : ∀ s, s < 2192 → lv s = nI L → sk_Dn K (sk_nd s).2 → post 1) (h0 : (∀ s, s < 2192 → lv s = nI L → ¬ sk_Dn K (sk_nd s).2) → post 0) :
    ∀ k s, s + k = 2192 → (∀ s', s' < s → lv s' = nI L → ¬ sk_Dn K (sk_nd s').2) → wY_doneAt_2 post (nI L) B P kp pd tc tb K my st lv (k + 1) (nI s) := by
  intro k
  induction k with
  | zero =>
    intro s hs hf
    obtain rfl : s = 2192 := by omega
    exact br_t (nI_le (a := 2192) (b := 2192) (by omega) (by decide)) (h0 hf)
  | succ k ih =>
    intro s hs hf
    have ec : (nI s).toNatClampNeg = s := nI_clamp (by omega)
    have e1 : nI s / 16 = nI (s / 16) := pk_div (d := 16) (by omega) (by decide) (by decide)
    have e3 : st (nI s / 16).toNatClampNeg = (sk_nd s).2 := by rw [e1, nI_clamp (by omega)]; exact hst _ (by omega)
    refine br_f (nI_ge (b := 2192) (by omega) (by decide)) (And.intro (vp_in_nI (by omega) (by decide)) ?_)
    by_cases z : lv s = nI L
    · refine br_t (by rw [ec]; exact z) (And.intro (by decide) (And.intro (by rw [e1]; exact vp_in_nI (by omega) (by decide)) ?_))
      rw [e3]
      refine yw_isDone (hlo s (by omega) z) (fun y => br_f (by decide) (h1 s (by omega) z y)) (fun y => br_t rfl (nm_r (nI_1 s) (ih (s + 1) (by omega) (lt_s hf (fun _ => y)))))
    · exact br_f (by rw [ec]; exact z) (nm_r (nI_1 s) (ih (s + 1) (by omega) (lt_s hf (fun y => absurd y z))))
theorem yw_doneAt {post : Int32 → Prop} (hst : sk_ST st) (hlo : ∀ s, s < 2192 → lv s = nI L → sk_lo (sk_nd s).2)
    (h1 : ∀ s, s < 2192 → lv s = nI L → sk_Dn K (sk_nd s).2 → post 1) (h0 : (∀ s, s < 2192 → lv s = nI L → ¬ sk_Dn K (sk_nd s).2) → post 0) :
    wpY_doneAt post (B, P, kp, pd, tc, tb, K, my, st, lv) (nI L) :=
  ⟨2192 + 1, yw_doneAt_2 hst hlo h1 h0 2192 0 rfl (fun s' hs' => absurd hs' (by omega))⟩
theorem yw_some_2 {post : Int32 → Prop} (h1 : ∀ s, s < 2192 → lv s = nI L → post 1) (h0 : (∀ s, s < 2192 → ¬ lv s = nI L) → post 0) :
    ∀ k s, s + k = 2192 → (∀ s', s' < s → ¬ lv s' = nI L) → wY_some_2 post (nI L) B P kp pd tc tb K my st lv (k + 1) (nI s) := by
  intro k
  induction k with
  | zero =>
    intro s hs hf
    obtain rfl : s = 2192 := by omega
    exact br_t (nI_le (a := 2192) (b := 2192) (by omega) (by decide)) (h0 hf)
  | succ k ih =>
    intro s hs hf
    have ec : (nI s).toNatClampNeg = s := nI_clamp (by omega)
    refine br_f (nI_ge (b := 2192) (by omega) (by decide)) (And.intro (vp_in_nI (by omega) (by decide)) ?_)
    by_cases z : lv s = nI L
    · exact br_t (by rw [ec]; exact z) (h1 s (by omega) z)
    · exact br_f (by rw [ec]; exact z) (nm_r (nI_1 s) (ih (s + 1) (by omega) (lt_s hf z)))
theorem yw_some {post : Int32 → Prop} (h1 : ∀ s, s < 2192 → lv s = nI L → post 1) (h0 : (∀ s, s < 2192 → ¬ lv s = nI L) → post 0) :
    wpY_some post (B, P, kp, pd, tc, tb, K, my, st, lv) (nI L) :=
  ⟨2192 + 1, yw_some_2 h1 h0 2192 0 rfl (fun s' hs' => absurd hs' (by omega))⟩
theorem yw_search_2 {post : Int32 → SY → Prop} (hw : w < 2) (hn : n ≤ 2) (hst : sk_ST st) (hSrc : ∀ x, Src x → sk_V K n x.1 x.2)
    (h : ∀ r a b l, sk_An K w Src (-6) r → post r (B, P, kp, pd, a, b, K, my, st, l)) :
    ∀ k L, L + k = 1921 → ∀ a b l, sk_QI K w n Src L l → wY_search_2 post (nI w) (k + 1) (nI L) B P kp pd a b K my st l := by
  intro k
  induction k with
  | zero =>
    intro L hL a b l hQ
    have := sk_QI_L (by omega) hn hQ
    omega
  | succ k ih =>
    intro L hL a b l hQ
    refine br_f (nI_ge (b := 1921) (by omega) (by decide)) (yw_spreadAll (by omega) hw hn hst hQ ?_)
    intro a' b' l' hP
    refine yw_doneAt hst ?_ ?_ ?_
    · intro s hs hl
      exact sk_V_lo (sk_LI_at hP.1 hs (by omega) (by omega) hl).2.1
    · intro s hs hl hd
      exact br_f (by decide) (h _ a' b' l' (sk_PI_yes (by omega) hn hSrc hP hs hl hd))
    · intro hd
      refine br_t rfl ?_
      rw [nI_1 L]
      refine yw_some ?_ ?_
      · intro s hs hl
        exact br_f (by decide) (nm_e (ih (L + 1) (by omega) a' b' l' (sk_PI_Q (by omega) hP hd hs hl)))
      · intro hm
        exact br_t rfl (h _ a' b' l' (sk_PI_no (by omega) hn hSrc hP hd hm))
theorem yw_search {post : Int32 → SY → Prop} (hw : w < 2) (hn : n ≤ 2) (hst : sk_ST st) (hSrc : ∀ x, Src x → sk_V K n x.1 x.2) (hQ : sk_QI K w n Src 0 lv)
    (h : ∀ r a b l, sk_An K w Src (-6) r → post r (B, P, kp, pd, a, b, K, my, st, l)) :
    wpY_search post (B, P, kp, pd, tc, tb, K, my, st, lv) (nI w) :=
  ⟨1921 + 1, yw_search_2 hw hn hst hSrc h 1921 0 rfl tc tb lv hQ⟩
theorem yw_clear_2 {post : SY → Prop} (h : ∀ l, (∀ s, s < 2192 → l s = -1) → post (B, P, kp, pd, tc, tb, K, my, st, l)) :
    ∀ k i, i + k = 2192 → ∀ l, (∀ s, s < i → l s = -1) → wY_clearLevels_2 post B P kp pd tc tb (k + 1) (nI i) K my st l := by
  intro k
  induction k with
  | zero =>
    intro i hi l hl
    obtain rfl : i = 2192 := by omega
    exact br_t (nI_le (a := 2192) (b := 2192) (by omega) (by decide)) (h l hl)
  | succ k ih =>
    intro i hi l hl
    refine br_f (nI_ge (b := 2192) (by omega) (by decide)) (And.intro (vp_in_nI (by omega) (by decide)) (nm_r (e' := upd l i (-1)) (by rw [nI_clamp (by omega)]) (nm_r (nI_1 i) (ih (i + 1) (by omega) _ (lt_s ?_ pk_us)))))
    intro s hs
    rw [pk_un (by omega)]; exact hl s hs
theorem yw_clear {post : SY → Prop} (h : ∀ l, (∀ s, s < 2192 → l s = -1) → post (B, P, kp, pd, tc, tb, K, my, st, l)) : wpY_clearLevels post (B, P, kp, pd, tc, tb, K, my, st, lv) :=
  ⟨2192 + 1, yw_clear_2 h 2192 0 rfl lv (fun s hs => absurd hs (by omega))⟩
theorem yw_least {post : Int32 → SY → Prop} {p : Nat} {S : Int32} (hw : w < 2) (hn : n ≤ 2) (hst : sk_ST st) (hv : sk_V K n p S)
    (h : ∀ r a b l, sk_An K w (fun x => x = (p, S)) (-6) r → post r (B, P, kp, pd, a, b, K, my, st, l)) :
    wpY_least post (B, P, kp, pd, tc, tb, K, my, st, lv) (nI p) S (nI w) := by
  refine yw_clear ?_
  intro l hl
  have q := sk_nu_ok (sk_V_lo hv) (by rw [hv.2.2.2.2]; exact hn)
  have hp := hv.1
  refine yw_number hst ?_
  rw [sk_t16]
  refine And.intro (vp_in_nI (by omega) (by decide)) (nm_r (e' := upd l (16 * sk_nu S + p) (nI 0)) (by rw [nI_clamp (by omega)]; rfl) ?_)
  have nd : sk_nd (16 * sk_nu S + p) = (p, S) := by rw [sk_nd_at hp, q.2]
  refine yw_search (n := n) (Src := fun x => x = (p, S)) hw hn hst (by rintro x rfl; exact hv) ?_ h
  refine ⟨?_, ?_, fun s c _ hc => absurd hc (by omega), Nat.zero_le _⟩
  · intro s hs
    by_cases z : s = 16 * sk_nu S + p
    · refine Or.inr ⟨0, by omega, by rw [z, pk_us], ?_, ?_⟩
      · rw [z, nd]; exact hv
      · rw [z, nd]; exact sk_F_0 rfl
    · exact Or.inl (by rw [pk_un z]; exact hl s hs)
  · rintro x rfl
    exact ⟨_, by omega, nd, 0, by omega, by omega, pk_us⟩
end
end
section
/-! ===== region ===== -/
def sk_Aj (K : Nat → Int32) (B : Int32) (c i : Nat) : Prop := (∃ d, d < 4 ∧ sk_nx K c d = i) ∧ i < 16 ∧ bt B i = false
def sk_Tc (K : Nat → Int32) (B : Int32) (T : Nat → Prop) : Prop := ∀ c i, c < 16 → T c → sk_Aj K B c i → T i
/-- one pass: from S0 to S1 -/
def sk_Ps (K : Nat → Int32) (B S0 S1 : Int32) : Prop :=
  sk_lo S1 ∧ (∀ i, bt S0 i = true → bt S1 i = true) ∧ (∀ c i, c < 16 → bt S0 c = true → sk_Aj K B c i → bt S1 i = true) ∧
  (∀ T : Nat → Prop, sk_Tc K B T → (∀ i, bt S0 i = true → T i) → ∀ i, bt S1 i = true → T i)
/-- the region of p -/
def sk_Rg (K : Nat → Int32) (B : Int32) (p : Nat) (M : Int32) : Prop :=
  sk_lo M ∧ bt M p = true ∧ sk_Tc K B (fun i => bt M i = true) ∧ (∀ T : Nat → Prop, sk_Tc K B T → T p → ∀ i, bt M i = true → T i)
theorem sk_Rg_u {K : Nat → Int32} {B M M' : Int32} {p : Nat} (h : sk_Rg K B p M) (h' : sk_Rg K B p M') : M = M' := by
  apply b_ext
  intro i _
  have a := h.2.2.2 _ h'.2.2.1 h'.2.1 i
  have b := h'.2.2.2 _ h.2.2.1 h.2.1 i
  cases x : bt M i
  · cases y : bt M' i
    · rfl
    · rw [b y] at x; cases x
  · exact (a x).symm
/-- before the last: all but closed, k passes made -/
def sk_Rk (K : Nat → Int32) (B : Int32) (p : Nat) (M : Int32) (k : Nat) : Prop :=
  sk_lo M ∧ bt M p = true ∧ (∀ T : Nat → Prop, sk_Tc K B T → T p → ∀ i, bt M i = true → T i) ∧ (sk_Tc K B (fun i => bt M i = true) ∨ k + 1 ≤ sk_bn M)
theorem sk_Rk_0 {K : Nat → Int32} {B : Int32} {p : Nat} (hp : p < 16) : sk_Rk K B p (sk_b p) 0 := by
  have e : ∀ i, bt (sk_b p) i = true → i = p := by
    intro i hi
    rw [sk_bt_b (by omega)] at hi
    exact of_decide_eq_true hi
  have hb : bt (sk_b p) p = true := by rw [sk_bt_b (by omega)]; exact decide_eq_true rfl
  exact ⟨fun i hi => by rw [e i hi]; exact hp, hb, fun T _ h i hi => by rw [e i hi]; exact h, Or.inr (sk_cn_pos hp hb)⟩
theorem sk_Rk_end {K : Nat → Int32} {B M : Int32} {p : Nat} (h : sk_Rk K B p M 16) : sk_Rg K B p M := by
  refine ⟨h.1, h.2.1, ?_, h.2.2.1⟩
  rcases h.2.2.2 with z | z
  · exact z
  · have := sk_cn_le (bt M) 16
    have : sk_bn M ≤ 16 := this
    omega
theorem sk_Rk_s {K : Nat → Int32} {B M M' : Int32} {p k : Nat} (h : sk_Rk K B p M k) (g : sk_Ps K B M M') : sk_Rk K B p M' (k + 1) := by
  obtain ⟨a1, a2, a3, a4⟩ := h
  obtain ⟨g1, g2, g3, g4⟩ := g
  refine ⟨g1, g2 p a2, fun T hT hp => g4 T hT (a3 T hT hp), ?_⟩
  by_cases z : sk_Tc K B (fun i => bt M i = true)
  · left
    intro c i hc h1 h2
    exact g3 c i hc (g4 _ z (fun _ h => h) c h1) h2
  · right
    have hk := a4.resolve_left z
    have : ∃ c i, c < 16 ∧ bt M c = true ∧ sk_Aj K B c i ∧ bt M i = false := by
      apply Classical.byContradiction
      intro y
      apply z
      intro c i hc h1 h2
      show bt M i = true
      cases x : bt M i
      · exact absurd ⟨c, i, hc, h1, h2, x⟩ y
      · rfl
    obtain ⟨c, i, hc, h1, h2, h3⟩ := this
    have q : sk_bn M + 1 ≤ sk_bn M' := sk_cn_smono h2.2.1 h3 (g3 c i hc h1 h2) (fun j _ hj => g2 j hj)
    omega
/-- nothing new: it is the region -/
theorem sk_Rk_stop {K : Nat → Int32} {B M : Int32} {p k : Nat} (h : sk_Rk K B p M k) (g : sk_Ps K B M M) : sk_Rg K B p M := by
  refine ⟨h.1, h.2.1, ?_, h.2.2.1⟩
  intro c i hc h1 h2
  exact g.2.2.1 c i hc h1 h2
section
variable {B P md kp pc df wt pd tc tb : Int32} {K mv D Q my st lv : Nat → Int32}
theorem xw_neighbours_4 {post : Int32 → Prop} {c : Nat} (hc : c < 16) (h : ∀ M, (∀ i, bt M i = true ↔ ∃ d, d < 4 ∧ sk_nx K c d = i ∧ i < 16) → post M) :
    ∀ k d, d + k = 4 → ∀ M, (∀ i, bt M i = true ↔ ∃ d', d' < d ∧ sk_nx K c d' = i ∧ i < 16) → wX_neighbours_4 post (nI c) B P md kp pc df wt K mv D Q (k + 1) M (nI d) := by
  intro k
  induction k with
  | zero =>
    intro d hd M hM
    obtain rfl : d = 4 := by omega
    exact br_t (nI_le (a := 4) (b := 4) (by omega) (by decide)) (h M hM)
  | succ k ih =>
    intro d hd M hM
    refine br_f (nI_ge (b := 4) (by omega) (by decide)) (xw_step hc (by omega) ?_)
    by_cases z : sk_nx K c d < 16
    · rw [sk_en_lt z]
      refine br_f (nI_pos (by omega)) (nm_e (nm_r (nI_1 d) (ih (d + 1) (by omega) _ ?_)))
      intro i
      show bt (M ||| sk_b (sk_nx K c d)) i = true ↔ _
      rw [sk_bt_set (by omega)]
      constructor
      · intro g
        cases x : bt M i
        · rw [x, Bool.false_or] at g
          have := of_decide_eq_true g
          exact ⟨d, by omega, this.symm, by omega⟩
        · obtain ⟨d', h1, h2, h3⟩ := (hM i).mp x
          exact ⟨d', by omega, h2, h3⟩
      · rintro ⟨d', h1, h2, h3⟩
        by_cases y : d' = d
        · subst y; rw [decide_eq_true h2.symm, Bool.or_true]
        · rw [(hM i).mpr ⟨d', by omega, h2, h3⟩, Bool.true_or]
    · rw [sk_en_16 z]
      refine br_t (by decide) (nm_r (nI_1 d) (ih (d + 1) (by omega) _ ?_))
      intro i
      rw [hM i]
      constructor
      · rintro ⟨d', h1, h2, h3⟩
        exact ⟨d', by omega, h2, h3⟩
      · rintro ⟨d', h1, h2, h3⟩
        by_cases y : d' = d
        · subst y; omega
        · exact ⟨d', by omega, h2, h3⟩
theorem xw_neighbours {post : Int32 → Prop} {c : Nat} (hc : c < 16) (h : ∀ M, (∀ i, bt M i = true ↔ ∃ d, d < 4 ∧ sk_nx K c d = i ∧ i < 16) → post M) : wpX_neighbours post (B, P, md, kp, pc, df, wt, K, mv, D, Q) (nI c) :=
  ⟨4 + 1, xw_neighbours_4 hc h 4 0 rfl 0 (fun i => ⟨fun g => (by rw [b_0] at g; cases g), fun ⟨d', h1, _⟩ => absurd h1 (by omega)⟩)⟩
theorem yw_around_4 {post : Int32 → Prop} {c : Nat} (hc : c < 16) (h : ∀ M, (∀ i, bt M i = true ↔ sk_Aj K B c i) → post M) :
    ∀ k d, d + k = 4 → ∀ M, (∀ i, bt M i = true ↔ (∃ d', d' < d ∧ sk_nx K c d' = i) ∧ i < 16 ∧ bt B i = false) → wY_around_4 post (nI c) B P kp pd tc tb K my st lv (k + 1) M (nI d) := by
  intro k
  induction k with
  | zero =>
    intro d hd M hM
    obtain rfl : d = 4 := by omega
    exact br_t (nI_le (a := 4) (b := 4) (by omega) (by decide)) (h M hM)
  | succ k ih =>
    intro d hd M hM
    have skip : (sk_nx K c d < 16 → bt B (sk_nx K c d) = true) → wY_around_4 post (nI c) B P kp pd tc tb K my st lv (k + 1) M (nI (d + 1)) := by
      intro z
      refine ih (d + 1) (by omega) _ ?_
      intro i
      rw [hM i]
      constructor
      · rintro ⟨⟨d', h1, h2⟩, h3⟩
        exact ⟨⟨d', by omega, h2⟩, h3⟩
      · rintro ⟨⟨d', h1, h2⟩, h3, h4⟩
        by_cases y : d' = d
        · subst y
          rw [h2] at z
          rw [z h3] at h4
          cases h4
        · exact ⟨⟨d', by omega, h2⟩, h3, h4⟩
    refine br_f (nI_ge (b := 4) (by omega) (by decide)) (yw_next hc (by omega) ?_)
    by_cases z : sk_nx K c d < 16
    · rw [sk_en_lt z]
      refine br_f (nI_pos (by omega)) ?_
      cases b : bt B (sk_nx K c d)
      · refine yw_has0 z b (br_t rfl (nm_e (nm_r (nI_1 d) (ih (d + 1) (by omega) _ ?_))))
        intro i
        show bt (M ||| sk_b (sk_nx K c d)) i = true ↔ _
        rw [sk_bt_set (by omega)]
        constructor
        · intro g
          cases x : bt M i
          · rw [x, Bool.false_or] at g
            have := of_decide_eq_true g
            exact ⟨⟨d, by omega, this.symm⟩, by omega, by rw [this]; exact b⟩
          · obtain ⟨⟨d', h1, h2⟩, h3⟩ := (hM i).mp x
            exact ⟨⟨d', by omega, h2⟩, h3⟩
        · rintro ⟨⟨d', h1, h2⟩, h3⟩
          by_cases y : d' = d
          · subst y; rw [decide_eq_true h2.symm, Bool.or_true]
          · rw [(hM i).mpr ⟨⟨d', by omega, h2⟩, h3⟩, Bool.true_or]
      · exact yw_has1 z b (br_f (by decide) (nm_r (nI_1 d) (skip (fun _ => b))))
    · rw [sk_en_16 z]
      exact br_t (by decide) (nm_r (nI_1 d) (skip (fun y => absurd y z)))
theorem yw_around {post : Int32 → Prop} {c : Nat} (hc : c < 16) (h : ∀ M, (∀ i, bt M i = true ↔ sk_Aj K B c i) → post M) : wpY_around post (B, P, kp, pd, tc, tb, K, my, st, lv) (nI c) :=
  ⟨4 + 1, yw_around_4 hc h 4 0 rfl 0 (fun i => ⟨fun g => (by rw [b_0] at g; cases g), fun ⟨⟨d', h1, _⟩, _⟩ => absurd h1 (by omega)⟩)⟩
/-- X's pass -/
theorem xw_region_27 {post : Int32 → Prop} {S0 : Int32} {ps : Nat} {J11 : Int32 → Int32 → Int32 → Prop} (h0 : sk_lo S0) (h : ∀ S1, sk_Ps K B S0 S1 → J11 S1 S0 (nI (ps + 1))) :
    ∀ k c, c + k = 16 → ∀ S1, sk_lo S1 → (∀ i, bt S0 i = true → bt S1 i = true) → (∀ c' i, c' < c → bt S0 c' = true → sk_Aj K B c' i → bt S1 i = true) →
      (∀ T : Nat → Prop, sk_Tc K B T → (∀ i, bt S0 i = true → T i) → ∀ i, bt S1 i = true → T i) →
      wX_region_27 post J11 S0 (nI ps) B P md kp pc df wt K mv D Q (k + 1) S1 (nI c) := by
  intro k
  induction k with
  | zero =>
    intro c hc S1 g1 g2 g3 g4
    obtain rfl : c = 16 := by omega
    exact br_t (nI_le (a := 16) (b := 16) (by omega) (by decide)) (nm_r (nI_1 ps) (h S1 ⟨g1, g2, g3, g4⟩))
  | succ k ih =>
    intro c hc S1 g1 g2 g3 g4
    refine br_f (nI_ge (b := 16) (by omega) (by decide)) ?_
    cases z : bt S0 c
    · refine xw_in0 (by omega) z (br_t rfl (nm_r (nI_1 c) (ih (c + 1) (by omega) S1 g1 g2 ?_ g4)))
      intro c' i h1 h2 h3
      by_cases y : c' = c
      · subst y; rw [z] at h2; cases h2
      · exact g3 c' i (by omega) h2 h3
    · refine xw_in1 (by omega) z (br_f (by decide) (xw_neighbours (by omega) ?_))
      intro M hM
      have e : ∀ i, bt (S1 ||| (M &&& (B ^^^ (-1)))) i = true ↔ (bt S1 i = true ∨ sk_Aj K B c i) := by
        intro i
        rw [b_or, b_and]
        rcases Nat.lt_or_ge i 32 with hi | hi
        · rw [b_xor, b_m1 i hi]
          constructor
          · intro q
            cases x : bt S1 i
            · right
              rw [x, Bool.false_or, Bool.and_eq_true] at q
              obtain ⟨d, q1, q2, q3⟩ := (hM i).mp q.1
              refine ⟨⟨d, q1, q2⟩, q3, ?_⟩
              have := q.2
              revert this
              cases bt B i <;> simp
            · exact Or.inl rfl
          · rintro (q | ⟨⟨d, q1, q2⟩, q3, q4⟩)
            · rw [q, Bool.true_or]
            · rw [(hM i).mpr ⟨d, q1, q2, q3⟩, q4]
              simp
        · rw [b_big hi, b_big hi]
          constructor
          · intro q; simp at q
          · rintro (q | ⟨_, q3, _⟩)
            · cases q
            · omega
      refine nm_e (nm_r (nI_1 c) (ih (c + 1) (by omega) _ ?_ ?_ ?_ ?_))
      · intro i hi
        rcases (e i).mp hi with q | q
        · exact g1 i q
        · exact q.2.1
      · intro i hi
        exact (e i).mpr (Or.inl (g2 i hi))
      · intro c' i h1 h2 h3
        by_cases y : c' = c
        · subst y; exact (e i).mpr (Or.inr h3)
        · exact (e i).mpr (Or.inl (g3 c' i (by omega) h2 h3))
      · intro T hT hS i hi
        rcases (e i).mp hi with q | q
        · exact g4 T hT hS i q
        · exact hT c i (by omega) (hS c z) q
/-- Y's pass -/
theorem yw_region_17 {post : Int32 → Prop} {S0 : Int32} {ps : Nat} {J9 : Int32 → Int32 → Prop} (h : ∀ S1, sk_Ps K B S0 S1 → J9 S1 (nI (ps + 1))) :
    ∀ k c, c + k = 16 → ∀ S1, sk_lo S1 → (∀ i, bt S0 i = true → bt S1 i = true) → (∀ c' i, c' < c → bt S0 c' = true → sk_Aj K B c' i → bt S1 i = true) →
      (∀ T : Nat → Prop, sk_Tc K B T → (∀ i, bt S0 i = true → T i) → ∀ i, bt S1 i = true → T i) →
      wY_region_17 post J9 (nI ps) B P kp pd tc tb K my st lv (k + 1) S1 (nI c) := by
  intro k
  induction k with
  | zero =>
    intro c hc S1 g1 g2 g3 g4
    obtain rfl : c = 16 := by omega
    exact br_t (nI_le (a := 16) (b := 16) (by omega) (by decide)) (nm_r (nI_1 ps) (h S1 ⟨g1, g2, g3, g4⟩))
  | succ k ih =>
    intro c hc S1 g1 g2 g3 g4
    refine br_f (nI_ge (b := 16) (by omega) (by decide)) ?_
    cases z : bt S1 c
    · refine yw_has0 (by omega) z (br_t rfl (nm_r (nI_1 c) (ih (c + 1) (by omega) S1 g1 g2 ?_ g4)))
      intro c' i h1 h2 h3
      by_cases y : c' = c
      · subst y; rw [g2 _ h2] at z; cases z
      · exact g3 c' i (by omega) h2 h3
    · refine yw_has1 (by omega) z (br_f (by decide) (yw_around (by omega) ?_))
      intro M hM
      have e : ∀ i, bt (S1 ||| M) i = true ↔ (bt S1 i = true ∨ sk_Aj K B c i) := by
        intro i
        rw [b_or, Bool.or_eq_true, hM i]
      refine nm_e (nm_r (nI_1 c) (ih (c + 1) (by omega) _ ?_ ?_ ?_ ?_))
      · intro i hi
        rcases (e i).mp hi with q | q
        · exact g1 i q
        · exact q.2.1
      · intro i hi
        exact (e i).mpr (Or.inl (g2 i hi))
      · intro c' i h1 h2 h3
        by_cases y : c' = c
        · subst y; exact (e i).mpr (Or.inr h3)
        · exact (e i).mpr (Or.inl (g3 c' i (by omega) h2 h3))
      · intro T hT hS i hi
        rcases (e i).mp hi with q | q
        · exact g4 T hT hS i q
        · exact hT c i (by omega) (g4 T hT hS c z) q
theorem xw_region_11 {post : Int32 → Prop} {p : Nat} (h : ∀ M, sk_Rg K B p M → post (nI (sk_bn M))) :
    ∀ k ps, ps + k = 16 → ∀ M M0, sk_Rk K B p M ps → (ps = 0 ∧ M0 = 0 ∨ sk_Ps K B M0 M) → wX_region_11 post B P md kp pc df wt K mv D Q (k + 1) M M0 (nI ps) := by
  intro k
  induction k with
  | zero =>
    intro ps hps M M0 hR hP
    obtain rfl : ps = 16 := by omega
    exact br_t (nI_le (a := 16) (b := 16) (by omega) (by decide)) (xw_bits (h M (sk_Rk_end hR)))
  | succ k ih =>
    intro ps hps M M0 hR hP
    refine br_f (nI_ge (b := 16) (by omega) (by decide)) ?_
    by_cases z : M = M0
    · refine br_t z (xw_bits (h M ?_))
      rcases hP with ⟨_, y⟩ | y
      · have := hR.2.1
        rw [z, y, b_0] at this
        cases this
      · rw [← z] at y
        exact sk_Rk_stop hR y
    · refine br_f z ⟨16 + 1, xw_region_27 hR.1 ?_ 16 0 rfl M hR.1 (fun _ h => h) (fun c' i h => absurd h (by omega)) (fun T _ h => h)⟩
      intro S1 hS
      exact ih (ps + 1) (by omega) S1 M (sk_Rk_s hR hS) (Or.inr hS)
theorem xw_region {post : Int32 → Prop} {p : Nat} (hp : p < 16) (h : ∀ M, sk_Rg K B p M → post (nI (sk_bn M))) : wpX_region post (B, nI p, md, kp, pc, df, wt, K, mv, D, Q) :=
  nm_e ⟨16 + 1, xw_region_11 h 16 0 rfl _ _ (sk_Rk_0 hp) (Or.inl ⟨rfl, rfl⟩)⟩
theorem yw_region_9 {post : Int32 → Prop} {p : Nat} (h : ∀ M, sk_Rg K B p M → post (nI (sk_bn M))) :
    ∀ k ps, ps + k = 16 → ∀ M, sk_Rk K B p M ps → wY_region_9 post B P kp pd tc tb K my st lv (k + 1) M (nI ps) := by
  intro k
  induction k with
  | zero =>
    intro ps hps M hR
    obtain rfl : ps = 16 := by omega
    exact br_t (nI_le (a := 16) (b := 16) (by omega) (by decide)) (yw_size (h M (sk_Rk_end hR)))
  | succ k ih =>
    intro ps hps M hR
    refine br_f (nI_ge (b := 16) (by omega) (by decide)) ⟨16 + 1, yw_region_17 (S0 := M) ?_ 16 0 rfl M hR.1 (fun _ h => h) (fun c' i h => absurd h (by omega)) (fun T _ h => h)⟩
    intro S1 hS
    exact ih (ps + 1) (by omega) S1 (sk_Rk_s hR hS)
theorem yw_region {post : Int32 → Prop} {p : Nat} (hp : p < 16) (h : ∀ M, sk_Rg K B p M → post (nI (sk_bn M))) : wpY_region post (B, nI p, kp, pd, tc, tb, K, my, st, lv) :=
  nm_e ⟨16 + 1, yw_region_9 h 16 0 rfl _ (sk_Rk_0 hp)⟩
end
end
section
/-! ===== the relation ===== -/
def sk_G (K : Nat → Int32) (p : Nat) (B : Int32) : Prop := ∃ n, n ≤ 2 ∧ sk_V K n p B
/-- the boxes before a move with or without a push that led to p -/
def sk_ub (K : Nat → Int32) (p : Nat) (B : Int32) (d pu : Nat) : Int32 := if pu = 1 then sk_mvb B (sk_nx K p d) p else B
/-- the last h moves can be taken back, one by one -/
def sk_H (K : Nat → Int32) : Nat → Nat → Int32 → (Nat → Int32) → Prop
  | 0, _, _, _ => True
  | h + 1, p, B, my => ∃ d pu, d < 4 ∧ pu < 2 ∧ my h = nI (d + 4 * pu) ∧ (pu = 1 → sk_nx K p d < 16) ∧ sk_G K (sk_nx K p (d ^^^ 1)) (sk_ub K p B d pu) ∧ sk_H K h (sk_nx K p (d ^^^ 1)) (sk_ub K p B d pu) my
theorem sk_H_congr {K : Nat → Int32} : ∀ (h p : Nat) (B : Int32) (my my' : Nat → Int32), (∀ i, i < h → my' i = my i) → sk_H K h p B my → sk_H K h p B my' := by
  intro h
  induction h with
  | zero => intro p B my my' _ _; trivial
  | succ h ih =>
    intro p B my my' e ⟨d, pu, a1, a2, a3, a4, a5, a6⟩
    exact ⟨d, pu, a1, a2, by rw [e h (by omega)]; exact a3, a4, a5, ih _ _ my my' (fun i hi => e i (by omega)) a6⟩
/-- the oldest one forgotten -/
theorem sk_H_shift {K : Nat → Int32} : ∀ (h p : Nat) (B : Int32) (my my' : Nat → Int32), (∀ i, i < h → my' i = my (i + 1)) → sk_H K (h + 1) p B my → sk_H K h p B my' := by
  intro h
  induction h with
  | zero => intro p B my my' _ _; trivial
  | succ h ih =>
    intro p B my my' e ⟨d, pu, a1, a2, a3, a4, a5, a6⟩
    exact ⟨d, pu, a1, a2, by rw [e h (by omega)]; exact a3, a4, a5, ih _ _ my my' (fun i hi => e i (by omega)) a6⟩
def sk_J (k : Nat) (B : Int32) (p m h : Nat) (df : Int32) (K mv D my st : Nat → Int32) : Prop :=
  sk_G K p B ∧ h ≤ m ∧ h ≤ 20 ∧ m ≤ k ∧ (∀ i, i < h → mv ((m - h + i) % 20) = my i) ∧ sk_H K h p B my ∧ sk_ST st ∧ sk_Ch K df D
/-- the relation at the head of a turn whose first cell is k: the same store, pusher, moves and pushes; X's table is right; Y's sets are laid -/
def i_Rel (k : Nat) (u : SX) (v : SY) : Prop :=
  ∃ (B : Int32) (p m h : Nat) (pc df wt tc tb : Int32) (K mv D Q my st lv : Nat → Int32),
    u = (B, nI p, nI m, nI h, pc, df, wt, K, mv, D, Q) ∧ v = (B, nI p, nI h, pc, tc, tb, K, my, st, lv) ∧ sk_J k B p m h df K mv D my st
theorem sk_el {k : Nat} {u : SX} {v : SY} {Pr : SX → SY → Prop}
    (h : ∀ (B : Int32) (p m h : Nat) (pc df wt tc tb : Int32) (K mv D Q my st lv : Nat → Int32), sk_J k B p m h df K mv D my st → Pr (B, nI p, nI m, nI h, pc, df, wt, K, mv, D, Q) (B, nI p, nI h, pc, tc, tb, K, my, st, lv))
    (I : i_Rel k u v) : Pr u v := by
  obtain ⟨B, p, m, h', pc, df, wt, tc, tb, K, mv, D, Q, my, st, lv, rfl, rfl, hJ⟩ := I
  exact h B p m h' pc df wt tc tb K mv D Q my st lv hJ
section
variable {B pc df wt tc tb : Int32} {K mv D Q my st lv : Nat → Int32} {k p m h : Nat}
theorem sk_in_Rel (hJ : sk_J k B p m h df K mv D my st) : i_Rel k (B, nI p, nI m, nI h, pc, df, wt, K, mv, D, Q) (B, nI p, nI h, pc, tc, tb, K, my, st, lv) :=
  ⟨B, p, m, h, pc, df, wt, tc, tb, K, mv, D, Q, my, st, lv, rfl, rfl, hJ⟩
theorem sk_J_up {k' : Nat} (hk : k ≤ k') (hJ : sk_J k B p m h df K mv D my st) : sk_J k' B p m h df K mv D my st :=
  ⟨hJ.1, hJ.2.1, hJ.2.2.1, by have := hJ.2.2.2.1; omega, hJ.2.2.2.2⟩
theorem sk_J_0 (hG : sk_G K p B) (hS : sk_ST st) : sk_J k B p 0 0 (-1) K mv D my st :=
  ⟨hG, by omega, by omega, by omega, fun i hi => absurd hi (by omega), trivial, hS, Or.inl rfl⟩
/-- moves forgotten -/
theorem sk_in_Rel0 (hG : sk_G K p B) (hS : sk_ST st) : i_Rel k (B, nI p, 0, 0, 0, -1, wt, K, mv, D, Q) (B, nI p, 0, 0, tc, tb, K, my, st, lv) :=
  sk_in_Rel (pc := 0) (m := 0) (h := 0) (sk_J_0 hG hS)
end
theorem i_up {k : Nat} {u : SX} {v : SY} (h : i_Rel k u v) : i_Rel (k + 3) u v := by
  refine sk_el (Pr := fun u v => i_Rel (k + 3) u v) ?_ h
  intro B p m h pc df wt tc tb K mv D Q my st lv hJ
  exact sk_in_Rel (sk_J_up (by omega) hJ)
/-! the constructors -/
theorem sk_tri : ∀ a, a < 16 → (a + 1) * (a + 1 + 1) / 2 = a * (a + 1) / 2 + (a + 1) := by decide +kernel
section
variable {B P kp pd tc tb : Int32} {K my lv : Nat → Int32}
theorem yw_init_50 {post : SY → Prop} {a : Nat} {J42 : Int32 → Int32 → (Nat → Int32) → (Nat → Int32) → (Nat → Int32) → (Nat → Int32) → Prop} (ha : a < 16)
    (h : ∀ st, (∀ m, m < a * (a + 1) / 2 + (a + 1) → st m = sk_ys m) → J42 (nI (a * (a + 1) / 2 + (a + 1))) (nI (a + 1)) K my st lv) :
    ∀ j b, b + j = a + 1 → ∀ st, (∀ m, m < a * (a + 1) / 2 + b → st m = sk_ys m) → wY_init_50 post J42 (nI a) B P kp pd tc tb (j + 1) (nI (a * (a + 1) / 2 + b)) (nI b) K my st lv := by
  intro j
  induction j with
  | zero =>
    intro b hb st hs
    obtain rfl : b = a + 1 := by omega
    exact br_t (nI_lt (by omega) (by omega)) (nm_r (nI_1 a) (h st hs))
  | succ j ih =>
    intro b hb st hs
    have hi := sk_tr_lt a ha b (by omega) (by omega)
    refine br_f (nI_nlt (by omega) (by omega)) (And.intro (vp_in_nI (by omega) (by decide)) (nm_r (e' := upd st (a * (a + 1) / 2 + b) (sk_pr a b)) ?_ (nm_r (e' := nI (a * (a + 1) / 2 + (b + 1))) (nI_1 _) (nm_r (nI_1 b) (ih (b + 1) (by omega) _ ?_)))))
    · rw [nI_clamp (by omega)]; rfl
    · intro m hm
      by_cases z : m = a * (a + 1) / 2 + b
      · rw [z, pk_us, sk_ys_at a ha b (by omega) (by omega)]
      · rw [pk_un z]; exact hs m (by omega)
theorem yw_init_42 {post : SY → Prop} (h : ∀ st, sk_ST st → post (B, P, kp, pd, tc, tb, K, my, st, lv)) :
    ∀ j a, a + j = 16 → ∀ st, (∀ m, m < a * (a + 1) / 2 → st m = sk_ys m) → wY_init_42 post B P kp pd tc tb (j + 1) (nI (a * (a + 1) / 2)) (nI a) K my st lv := by
  intro j
  induction j with
  | zero =>
    intro a ha st hs
    obtain rfl : a = 16 := by omega
    refine br_t (nI_le (a := 16) (b := 16) (by omega) (by decide)) (And.intro (vp_in_nI (by decide) (by decide)) (nm_r (e' := upd st 136 0) (by rw [nI_clamp (by decide)]) (h _ ?_)))
    intro m hm
    by_cases z : m = 136
    · rw [z, pk_us]; rfl
    · rw [pk_un z]; exact hs m (by omega)
  | succ j ih =>
    intro a ha st hs
    refine br_f (nI_ge (b := 16) (by omega) (by decide)) ⟨(a + 1) + 1, ?_⟩
    refine yw_init_50 (by omega) ?_ (a + 1) 0 (by omega) st hs
    intro st' hs'
    rw [← sk_tri a (by omega)] at hs' ⊢
    exact ih (a + 1) (by omega) st' hs'
end
theorem i_vc0 : wpX_init (fun u => wpY_init (fun v => i_Rel 0 u v)) := by
  refine ⟨16 + 1, yw_init_42 ?_ 16 0 rfl (fun _ => 0) (fun m hm => absurd hm (by omega))⟩
  intro st hS
  refine sk_in_Rel0 (p := 0) ⟨0, by omega, by omega, by decide, b_0 0, ?_, by decide +kernel⟩ hS
  intro i hi
  rw [b_0] at hi
  cases hi
end
section
/-! ===== cell, box, place, and the questions that need no search ===== -/
theorem sk_V_upd {K : Nat → Int32} {n p c : Nat} {B x : Int32} (h : sk_V K n p B) (hx : x = 1 → c ≠ p ∧ bt B c = false) : sk_V (upd K c x) n p B := by
  obtain ⟨a1, a2, a3, a4, a5⟩ := h
  refine ⟨a1, ?_, a3, ?_, a5⟩
  · by_cases z : p = c
    · rw [z, pk_us]
      intro y
      exact (hx y).1 z.symm
    · rw [pk_un z]; exact a2
  · intro i hi
    refine ⟨(a4 i hi).1, ?_⟩
    by_cases z : i = c
    · rw [z, pk_us]
      intro y
      have := (hx y).2
      rw [← z, hi] at this
      cases this
    · rw [pk_un z]; exact (a4 i hi).2
theorem i_vc_cell {k : Nat} {u : SX} {v : SY} (I : i_Rel k u v) (hk : k + 3 ≤ 1536) (v1 : Int32) (v2 : Int32) : wpX_cell (fun r u' => wpY_cell (fun r' v' => r' = r ∧ i_Rel (k + 3) u' v') v v1 v2) u v1 v2 := by
  refine sk_el (Pr := fun u v => wpX_cell (fun r u' => wpY_cell (fun r' v' => r' = r ∧ i_Rel (k + 3) u' v') v v1 v2) u v1 v2) ?_ I
  intro B p m h pc df wt tc tb K mv D Q my st lv hJ
  have hR : i_Rel (k + 3) (B, nI p, nI m, nI h, pc, df, wt, K, mv, D, Q) (B, nI p, nI h, pc, tc, tb, K, my, st, lv) := sk_in_Rel (sk_J_up (by omega) hJ)
  obtain ⟨n, hn, hv⟩ := hJ.1
  have hp := hv.1
  unfold wpX_cell wpY_cell wX_cell_48 wY_cell_50 wpX_forgetMoves wpY_forget
  dsimp only
  rcases pk_ix v1 (n := 16) (by decide) with hb | hb | ⟨c, hc, rfl⟩
  · exact xw_bad_t (Or.inl hb) (br_f (by decide) (yw_bad_t (Or.inl hb) (br_f (by decide) ⟨rfl, hR⟩)))
  · exact xw_bad_t (Or.inr hb) (br_f (by decide) (yw_bad_t (Or.inr hb) (br_f (by decide) ⟨rfl, hR⟩)))
  · have ec : (nI c).toNatClampNeg = c := nI_clamp (by omega)
    have iv : vp_in (nI c) 16 := vp_in_nI hc (by decide)
    have fin : ∀ (hx : v2 = 1 → c ≠ p ∧ bt B c = false), i_Rel (k + 3) (B, nI p, 0, 0, 0, -1, wt, upd K c v2, mv, D, Q) (B, nI p, 0, 0, tc, tb, upd K c v2, my, st, lv) :=
      fun hx => sk_in_Rel0 ⟨n, hn, sk_V_upd hv hx⟩ hJ.2.2.2.2.2.2.1
    have eu : upd K (nI c).toNatClampNeg v2 = upd K c v2 := by rw [ec]
    refine xw_bad_f hc (br_t rfl ?_)
    by_cases h0 : v2 < 0
    · exact br_t h0 (yw_bad_f hc (br_t rfl (br_t h0 ⟨rfl, hR⟩)))
    · refine br_f h0 ?_
      by_cases h2 : v2 ≤ 2
      · refine br_t h2 ?_
        by_cases h1 : v2 = 1
        · refine br_t h1 ?_
          cases b : bt B c
          · refine xw_in0 hc b (br_t rfl ?_)
            by_cases e : p = c
            · have e' : nI p = nI c := by rw [e]
              exact br_t e' (yw_bad_f hc (br_t rfl (br_f h0 (br_t h2 (br_t h1 (yw_has0 hc b (br_t rfl (br_t e'.symm ⟨rfl, hR⟩))))))))
            · have e' : ¬ nI p = nI c := fun y => e ((nI_eq (by omega) (by omega)).mp y)
              refine br_f e' ⟨iv, nm_e ⟨iv, nm_r eu ?_⟩⟩
              exact yw_bad_f hc (br_t rfl (br_f h0 (br_t h2 (br_t h1 (yw_has0 hc b (br_t rfl (br_f (fun z => e' z.symm) ⟨iv, nm_e ⟨iv, nm_r eu ⟨rfl, fin (fun _ => ⟨fun y => e y.symm, b⟩)⟩⟩⟩)))))))
          · exact xw_in1 hc b (br_f (by decide) (yw_bad_f hc (br_t rfl (br_f h0 (br_t h2 (br_t h1 (yw_has1 hc b (br_f (by decide) ⟨rfl, hR⟩))))))))
        · refine br_f h1 ⟨iv, nm_e ⟨iv, nm_r eu ?_⟩⟩
          exact yw_bad_f hc (br_t rfl (br_f h0 (br_t h2 (br_f h1 ⟨iv, nm_e ⟨iv, nm_r eu ⟨rfl, fin (fun z => absurd z h1)⟩⟩⟩))))
      · exact br_f h2 (yw_bad_f hc (br_t rfl (br_f h0 (br_f h2 ⟨rfl, hR⟩))))
theorem i_vc_place {k : Nat} {u : SX} {v : SY} (I : i_Rel k u v) (hk : k + 3 ≤ 1536) (v1 : Int32) : wpX_place (fun r u' => wpY_place (fun r' v' => r' = r ∧ i_Rel (k + 3) u' v') v v1) u v1 := by
  refine sk_el (Pr := fun u v => wpX_place (fun r u' => wpY_place (fun r' v' => r' = r ∧ i_Rel (k + 3) u' v') v v1) u v1) ?_ I
  intro B p m h pc df wt tc tb K mv D Q my st lv hJ
  have hR : i_Rel (k + 3) (B, nI p, nI m, nI h, pc, df, wt, K, mv, D, Q) (B, nI p, nI h, pc, tc, tb, K, my, st, lv) := sk_in_Rel (sk_J_up (by omega) hJ)
  obtain ⟨n, hn, hv⟩ := hJ.1
  unfold wpX_place wpY_place wpX_forgetMoves wpY_forget
  dsimp only
  rcases pk_ix v1 (n := 16) (by decide) with hb | hb | ⟨c, hc, rfl⟩
  · exact xw_bad_t (Or.inl hb) (br_f (by decide) (yw_bad_t (Or.inl hb) (br_f (by decide) ⟨rfl, hR⟩)))
  · exact xw_bad_t (Or.inr hb) (br_f (by decide) (yw_bad_t (Or.inr hb) (br_f (by decide) ⟨rfl, hR⟩)))
  · have ec : (nI c).toNatClampNeg = c := nI_clamp (by omega)
    refine xw_bad_f hc (br_t rfl (And.intro (vp_in_nI hc (by decide)) ?_))
    by_cases z : K c = 1
    · have z' : K (nI c).toNatClampNeg = 1 := by rw [ec]; exact z
      exact br_t z' (yw_bad_f hc (br_t rfl (And.intro (vp_in_nI hc (by decide)) (br_t z' ⟨rfl, hR⟩))))
    · have z' : ¬ K (nI c).toNatClampNeg = 1 := by rw [ec]; exact z
      refine br_f z' ?_
      cases b : bt B c
      · refine xw_in0 hc b (br_t rfl ?_)
        refine yw_bad_f hc (br_t rfl (And.intro (vp_in_nI hc (by decide)) (br_f z' (yw_has0 hc b (br_t rfl ⟨rfl, ?_⟩)))))
        exact sk_in_Rel0 ⟨n, hn, hc, z, b, hv.2.2.2.1, hv.2.2.2.2⟩ hJ.2.2.2.2.2.2.1
      · refine xw_in1 hc b (br_f (by decide) ?_)
        exact yw_bad_f hc (br_t rfl (And.intro (vp_in_nI hc (by decide)) (br_f z' (yw_has1 hc b (br_f (by decide) ⟨rfl, hR⟩)))))
theorem i_vc_box {k : Nat} {u : SX} {v : SY} (I : i_Rel k u v) (hk : k + 3 ≤ 1536) (v1 : Int32) (v2 : Int32) : wpX_box (fun r u' => wpY_box (fun r' v' => r' = r ∧ i_Rel (k + 3) u' v') v v1 (lw_bz v2)) u v1 (lw_bz v2) := by
  refine sk_el (Pr := fun u v => wpX_box (fun r u' => wpY_box (fun r' v' => r' = r ∧ i_Rel (k + 3) u' v') v v1 (lw_bz v2)) u v1 (lw_bz v2)) ?_ I
  intro B p m h pc df wt tc tb K mv D Q my st lv hJ
  have hR : i_Rel (k + 3) (B, nI p, nI m, nI h, pc, df, wt, K, mv, D, Q) (B, nI p, nI h, pc, tc, tb, K, my, st, lv) := sk_in_Rel (sk_J_up (by omega) hJ)
  obtain ⟨n, hn, hv⟩ := hJ.1
  have hp := hv.1
  have hbn := hv.2.2.2.2
  generalize hon : lw_bz v2 = on
  have h01 : on = 0 ∨ on = 1 := by rw [← hon]; exact lw_bz_01 v2
  unfold wpX_box wpY_box wpX_forgetMoves
  dsimp only
  rcases pk_ix v1 (n := 16) (by decide) with hb | hb | ⟨c, hc, rfl⟩
  · exact xw_bad_t (Or.inl hb) (br_f (by decide) (yw_bad_t (Or.inl hb) (br_f (by decide) ⟨rfl, hR⟩)))
  · exact xw_bad_t (Or.inr hb) (br_f (by decide) (yw_bad_t (Or.inr hb) (br_f (by decide) ⟨rfl, hR⟩)))
  · have ec : (nI c).toNatClampNeg = c := nI_clamp (by omega)
    refine xw_bad_f hc (br_t rfl (xw_bits ?_))
    rw [hbn]
    rcases h01 with rfl | rfl
    · refine br_t rfl ?_
      cases b : bt B c
      · refine xw_in0 hc b (br_t rfl ?_)
        exact yw_bad_f hc (br_t rfl (br_t rfl (br_t rfl (br_t rfl (yw_has0 hc b (br_t rfl ⟨rfl, hR⟩))))))
      · refine xw_in1 hc b (br_f (by decide) (nm_e ?_))
        have e := sk_bn_clr hc b
        refine yw_bad_f hc (br_t rfl (br_t rfl (br_t rfl (br_t rfl (yw_has1 hc b (br_f (by decide) (br_t rfl (yw_size (S := sk_clr B c) ⟨?_, ?_⟩))))))))
        · rw [show n = sk_bn (sk_clr B c) + 1 by omega]
          exact (nI_pred _).symm
        · refine sk_in_Rel0 ⟨sk_bn (sk_clr B c), by omega, hp, hv.2.1, ?_, ?_, rfl⟩ hJ.2.2.2.2.2.2.1
          · show bt (sk_clr B c) p = false
            rw [sk_bt_clr (by omega), hv.2.2.1]; rfl
          · intro i hi
            have hi' : bt (sk_clr B c) i = true := hi
            rw [sk_bt_clr (by omega), Bool.and_eq_true] at hi'
            exact hv.2.2.2.1 i hi'.1
    · refine br_f (by decide) (And.intro (vp_in_nI hc (by decide)) ?_)
      by_cases z : K c = 1
      · have z' : K (nI c).toNatClampNeg = 1 := by rw [ec]; exact z
        exact br_t z' (yw_bad_f hc (br_t rfl (br_f (by decide) (And.intro (vp_in_nI hc (by decide)) (br_t z' ⟨rfl, hR⟩)))))
      · have z' : ¬ K (nI c).toNatClampNeg = 1 := by rw [ec]; exact z
        refine br_f z' ?_
        by_cases e : p = c
        · have e' : nI p = nI c := by rw [e]
          exact br_t e' (yw_bad_f hc (br_t rfl (br_f (by decide) (And.intro (vp_in_nI hc (by decide)) (br_f z' (br_t e'.symm ⟨rfl, hR⟩))))))
        · have e' : ¬ nI p = nI c := fun y => e ((nI_eq (by omega) (by omega)).mp y)
          have e2 : ¬ nI c = nI p := fun y => e' y.symm
          refine br_f e' ?_
          cases b : bt B c
          · refine xw_in0 hc b (br_t rfl ?_)
            by_cases n2 : n < 2
            · refine br_t (nI_lt (b := 2) n2 (by decide)) (nm_e ?_)
              have e3 := sk_bn_set hc b
              refine yw_bad_f hc (br_t rfl (br_f (by decide) (And.intro (vp_in_nI hc (by decide)) (br_f z' (br_f e2 (yw_has0 hc b (br_t rfl (br_f (by decide) (yw_size ?_)))))))))
              rw [hbn]
              refine br_f (fun y => by have := (nI_eq (b := 2) (by omega) (by decide)).mp y; omega) (br_f (by decide) (br_f (by decide) (yw_size (S := B ||| sk_b c) ⟨?_, ?_⟩)))
              · rw [e3, hbn]; exact (nI_1 n).symm
              · refine sk_in_Rel0 ⟨sk_bn (B ||| sk_b c), by omega, hp, hv.2.1, ?_, ?_, rfl⟩ hJ.2.2.2.2.2.2.1
                · show bt (B ||| sk_b c) p = false
                  rw [sk_bt_set (by omega), hv.2.2.1, decide_eq_false e]; rfl
                · intro i hi
                  have hi' : bt (B ||| sk_b c) i = true := hi
                  rw [sk_bt_set (by omega)] at hi'
                  by_cases y : i = c
                  · rw [y]; exact ⟨hc, z⟩
                  · rw [decide_eq_false y, Bool.or_false] at hi'
                    exact hv.2.2.2.1 i hi'
            · obtain rfl : n = 2 := by omega
              refine br_f (by decide) ?_
              refine yw_bad_f hc (br_t rfl (br_f (by decide) (And.intro (vp_in_nI hc (by decide)) (br_f z' (br_f e2 (yw_has0 hc b (br_t rfl (br_f (by decide) (yw_size ?_)))))))))
              rw [hbn]
              exact br_t rfl ⟨rfl, hR⟩
          · refine xw_in1 hc b (br_f (by decide) ?_)
            exact yw_bad_f hc (br_t rfl (br_f (by decide) (And.intro (vp_in_nI hc (by decide)) (br_f z' (br_f e2 (yw_has1 hc b (br_f (by decide) ⟨rfl, hR⟩)))))))
theorem i_vc_done {k : Nat} {u : SX} {v : SY} (I : i_Rel k u v) (hk : k + 3 ≤ 1536) : wpX_done (fun r => wpY_done (fun r' => r' = r ∧ i_Rel (k + 3) u v) v) u := by
  have hR := i_up I
  revert hR
  refine sk_el (Pr := fun u v => i_Rel (k + 3) u v → wpX_done (fun r => wpY_done (fun r' => r' = r ∧ i_Rel (k + 3) u v) v) u) ?_ I
  intro B p m h pc df wt tc tb K mv D Q my st lv hJ hR
  obtain ⟨n, hn, hv⟩ := hJ.1
  have hl := sk_V_lo hv
  refine xw_done hl ?_ ?_
  · intro z
    exact yw_isDone hl (fun _ => ⟨rfl, rfl, hR⟩) (fun y => absurd z y)
  · intro z
    exact yw_isDone hl (fun y => absurd y z) (fun _ => ⟨rfl, rfl, hR⟩)
theorem i_vc_region {k : Nat} {u : SX} {v : SY} (I : i_Rel k u v) (hk : k + 3 ≤ 1536) : wpX_region (fun r => wpY_region (fun r' => r' = r ∧ i_Rel (k + 3) u v) v) u := by
  have hR := i_up I
  revert hR
  refine sk_el (Pr := fun u v => i_Rel (k + 3) u v → wpX_region (fun r => wpY_region (fun r' => r' = r ∧ i_Rel (k + 3) u v) v) u) ?_ I
  intro B p m h pc df wt tc tb K mv D Q my st lv hJ hR
  obtain ⟨n, hn, hv⟩ := hJ.1
  refine xw_region hv.1 ?_
  intro M hM
  refine yw_region hv.1 ?_
  intro M' hM'
  exact ⟨by rw [sk_Rg_u hM hM'], hR⟩
theorem i_vc_hasBox {k : Nat} {u : SX} {v : SY} (I : i_Rel k u v) (hk : k + 3 ≤ 1536) (v1 : Int32) : wpX_hasBox (fun r => wpY_hasBox (fun r' => r' = r ∧ i_Rel (k + 3) u v) v v1) u v1 := by
  have hR := i_up I
  revert hR
  refine sk_el (Pr := fun u v => i_Rel (k + 3) u v → wpX_hasBox (fun r => wpY_hasBox (fun r' => r' = r ∧ i_Rel (k + 3) u v) v v1) u v1) ?_ I
  intro B p m h pc df wt tc tb K mv D Q my st lv hJ hR
  unfold wpX_hasBox wpY_hasBox
  dsimp only
  rcases pk_ix v1 (n := 16) (by decide) with hb | hb | ⟨c, hc, rfl⟩
  · exact xw_bad_t (Or.inl hb) (br_f (by decide) (yw_bad_t (Or.inl hb) (br_f (by decide) ⟨rfl, hR⟩)))
  · exact xw_bad_t (Or.inr hb) (br_f (by decide) (yw_bad_t (Or.inr hb) (br_f (by decide) ⟨rfl, hR⟩)))
  · refine xw_bad_f hc (br_t rfl ?_)
    cases b : bt B c
    · exact xw_in0 hc b (br_t rfl (yw_bad_f hc (br_t rfl (yw_has0 hc b (br_t rfl ⟨rfl, hR⟩)))))
    · exact xw_in1 hc b (br_f (by decide) (yw_bad_f hc (br_t rfl (yw_has1 hc b (br_f (by decide) ⟨rfl, hR⟩)))))
theorem i_vc_pusher {k : Nat} {u : SX} {v : SY} (I : i_Rel k u v) (hk : k + 3 ≤ 1536) : wpX_pusher (fun r => wpY_pusher (fun r' => r' = r ∧ i_Rel (k + 3) u v) v) u := by
  have hR := i_up I
  revert hR
  refine sk_el (Pr := fun u v => i_Rel (k + 3) u v → wpX_pusher (fun r => wpY_pusher (fun r' => r' = r ∧ i_Rel (k + 3) u v) v) u) ?_ I
  intro B p m h pc df wt tc tb K mv D Q my st lv hJ hR
  exact And.intro rfl hR
theorem i_vc_pushes {k : Nat} {u : SX} {v : SY} (I : i_Rel k u v) (hk : k + 3 ≤ 1536) : wpX_pushes (fun r => wpY_pushes (fun r' => r' = r ∧ i_Rel (k + 3) u v) v) u := by
  have hR := i_up I
  revert hR
  refine sk_el (Pr := fun u v => i_Rel (k + 3) u v → wpX_pushes (fun r => wpY_pushes (fun r' => r' = r ∧ i_Rel (k + 3) u v) v) u) ?_ I
  intro B p m h pc df wt tc tb K mv D Q my st lv hJ hR
  exact And.intro rfl hR
end
section
/-! ===== move, undo ===== -/
/-- a move from (p, B) to (p', B'), pu: whether it pushes -/
def sk_M (K : Nat → Int32) (d pu p : Nat) (B : Int32) (p' : Nat) (B' : Int32) : Prop := (sk_Wk K d p B p' B' ∧ pu = 0) ∨ (sk_Pu K d p B p' B' ∧ pu = 1)
theorem sk_M_G {K : Nat → Int32} {d pu p p' : Nat} {B B' : Int32} (hG : sk_G K p B) (e : sk_M K d pu p B p' B') : sk_G K p' B' := by
  obtain ⟨n, hn, hv⟩ := hG
  rcases e with ⟨e, _⟩ | ⟨e, _⟩
  · exact ⟨n, hn, sk_V_wk hv e⟩
  · exact ⟨n, hn, sk_V_pu hv e⟩
theorem sk_M_H {K : Nat → Int32} {d pu p p' h : Nat} {B B' : Int32} {my my' : Nat → Int32} (hG : sk_G K p B) (hd : d < 4) (e : sk_M K d pu p B p' B') (hH : sk_H K h p B my) (h1 : my' h = nI (d + 4 * pu)) (h2 : ∀ i, i < h → my' i = my i) : sk_H K (h + 1) p' B' my' := by
  have hG' := hG
  obtain ⟨n, hn, hv⟩ := hG
  have hH' := sk_H_congr h p B my my' h2 hH
  rcases e with ⟨e, rfl⟩ | ⟨e, rfl⟩
  · obtain ⟨b1, b2, b3⟩ := sk_wk_only hv hd e
    have ub : sk_ub K p' B' d 0 = B := by
      show (if 0 = 1 then _ else B') = B
      rw [if_neg (by decide), b1]
    refine ⟨d, 0, hd, by omega, h1, fun z => absurd z (by decide), ?_, ?_⟩
    · rw [ub, ← b2]; exact hG'
    · rw [ub, ← b2]; exact hH'
  · obtain ⟨b1, b2, b3, b4, b5⟩ := sk_pu_only hv hd e
    have ub : sk_ub K p' B' d 1 = B := by
      show (if 1 = 1 then _ else B') = B
      rw [if_pos rfl, ← b5]
    refine ⟨d, 1, hd, by omega, h1, fun _ => b3, ?_, ?_⟩
    · rw [ub, ← b1]; exact hG'
    · rw [ub, ← b1]; exact hH'
theorem sk_J_move {K mv D my st : Nat → Int32} {k p m h d pu p' : Nat} {B B' df : Int32} (hJ : sk_J k B p m h df K mv D my st) (hd : d < 4) (e : sk_M K d pu p B p' B') (hh : h < 20) :
    sk_J (k + 3) B' p' (m + 1) (h + 1) df K (upd mv (m % 20) (nI (d + 4 * pu))) D (upd my h (nI (d + 4 * pu))) st := by
  obtain ⟨a1, a2, a3, a4, a5, a6, a7, a8⟩ := hJ
  refine ⟨sk_M_G a1 e, by omega, by omega, by omega, ?_, sk_M_H a1 hd e a6 pk_us (fun i hi => pk_un (by omega)), a7, a8⟩
  intro i hi
  by_cases z : i = h
  · rw [z, pk_us, show m + 1 - (h + 1) + h = m by omega, pk_us]
  · rw [pk_un z, pk_un (by omega), show m + 1 - (h + 1) + i = m - h + i by omega]
    exact a5 i (by omega)
theorem sk_J_move20 {K mv D my my1 st : Nat → Int32} {k p m d pu p' : Nat} {B B' df : Int32} (hJ : sk_J k B p m 20 df K mv D my st) (hd : d < 4) (e : sk_M K d pu p B p' B') (h1 : ∀ q, q < 19 → my1 q = my (q + 1)) :
    sk_J (k + 3) B' p' (m + 1) 20 df K (upd mv (m % 20) (nI (d + 4 * pu))) D (upd my1 19 (nI (d + 4 * pu))) st := by
  obtain ⟨a1, a2, a3, a4, a5, a6, a7, a8⟩ := hJ
  refine ⟨sk_M_G a1 e, by omega, by omega, by omega, ?_, sk_M_H (h := 19) (my := my1) a1 hd e (sk_H_shift 19 p B my my1 h1 a6) pk_us (fun i hi => pk_un (by omega)), a7, a8⟩
  intro i hi
  by_cases z : i = 19
  · rw [z, pk_us, show m + 1 - 20 + 19 = m by omega, pk_us]
  · rw [pk_un z, pk_un (by omega), h1 i (by omega), show m + 1 - 20 + i = m - 20 + (i + 1) by omega]
    exact a5 (i + 1) (by omega)
theorem sk_code (d pu : Nat) : nI d + 4 * nI pu = nI (d + 4 * pu) := by
  rw [show (4 : Int32) = nI 4 from rfl, pk_mul, nI_add]
theorem sk_pc (x : Int32) (pu : Nat) : x + nI (pu + 1) - 1 = x + nI pu := by
  rw [← nI_1, ← Int32.add_assoc, Int32.add_sub_cancel]
section
variable {B P pc df wt pd tc tb : Int32} {K mv D Q my st lv : Nat → Int32}
theorem xw_move_91 {post : Int32 → SX → Prop} {d pu p' m h : Nat} (hm : m < 2000) (hh : h ≤ 20)
    (h1 : h < 20 → post (nI pu) (B, nI p', nI (m + 1), nI (h + 1), pc + nI pu, df, wt, K, upd mv (m % 20) (nI (d + 4 * pu)), D, Q))
    (h2 : h = 20 → post (nI pu) (B, nI p', nI (m + 1), nI 20, pc + nI pu, df, wt, K, upd mv (m % 20) (nI (d + 4 * pu)), D, Q)) :
    wX_move_91 post (nI d) (nI p') (nI pu) B P (nI m) (nI h) pc df wt K mv D Q := by
  have e : nI m - nI m / 20 * 20 = nI (m % 20) := pk_rem (d := 20) (by omega) (by decide) (by decide)
  unfold wX_move_91
  rw [e, nI_clamp (by omega), sk_code]
  refine ⟨by decide, vp_in_nI (by omega) (by decide), nm_e (nm_r (nI_1 m) ?_)⟩
  by_cases z : h < 20
  · exact br_f (nI_ge (b := 20) z (by decide)) (nm_r (nI_1 h) (nm_e (h1 z)))
  · obtain rfl : h = 20 := by omega
    exact br_t (nI_le (a := 20) (b := 20) (by omega) (by decide)) (nm_e (h2 rfl))
theorem yw_move_104 {post : Int32 → SY → Prop} {d pu h : Nat} (hh : h < 20) (h1 : post (nI pu) (B, P, nI (h + 1), pd, tc, tb, K, upd my h (nI (d + 4 * pu)), st, lv)) :
    wY_move_104 post (nI d) (nI (pu + 1)) B P (nI h) pd tc tb K my st lv := by
  unfold wY_move_104
  rw [nI_pred, nI_clamp (by omega), sk_code]
  exact ⟨vp_in_nI hh (by decide), nm_e (nm_r (nI_1 h) h1)⟩
theorem yw_move_72 {post : Int32 → SY → Prop} {d pu : Nat} {kp : Int32} (h1 : ∀ my1 : Nat → Int32, (∀ q, q < 19 → my1 q = my (q + 1)) → post (nI pu) (B, P, nI 20, pd, tc, tb, K, upd my1 19 (nI (d + 4 * pu)), st, lv)) :
    ∀ j i, i + j = 19 → ∀ my1 : Nat → Int32, (∀ q, q < i → my1 q = my (q + 1)) → (∀ q, i ≤ q → my1 q = my q) → wY_move_72 post (nI d) (nI (pu + 1)) B P kp pd tc tb (j + 1) (nI i) K my1 st lv := by
  intro j
  induction j with
  | zero =>
    intro i hi my1 g1 g2
    obtain rfl : i = 19 := by omega
    exact br_t (nI_le (a := 19) (b := 19) (by omega) (by decide)) (yw_move_104 (h := 19) (by omega) (h1 my1 g1))
  | succ j ih =>
    intro i hi my1 g1 g2
    refine br_f (nI_ge (b := 19) (by omega) (by decide)) ?_
    rw [nI_1 i, nI_clamp (n := i + 1) (by omega), nI_clamp (n := i) (by omega)]
    refine ⟨vp_in_nI (by omega) (by decide), vp_in_nI (by omega) (by decide), nm_e (nm_e (ih (i + 1) (by omega) _ (lt_s ?_ ?_) ?_))⟩
    · intro q hq
      rw [pk_un (by omega)]; exact g1 q hq
    · rw [pk_us]; exact g2 (i + 1) (by omega)
    · intro q hq
      rw [pk_un (by omega)]; exact g2 q (by omega)
end
theorem sk_Y_move {k : Nat} (hk : k + 3 ≤ 1536) {B B' pc df wt tc tb : Int32} {K mv D Q my st lv : Nat → Int32} {p m h d pu p' : Nat} (hJ : sk_J k B p m h df K mv D my st) (hd : d < 4) (e : sk_M K d pu p B p' B') :
    ∀ mv' h', mv' = upd mv (m % 20) (nI (d + 4 * pu)) → (h < 20 ∧ h' = h + 1 ∨ h = 20 ∧ h' = 20) →
    wpY_move (fun r' v' => r' = nI pu ∧ i_Rel (k + 3) (B', nI p', nI (m + 1), nI h', pc + nI pu, df, wt, K, mv', D, Q) v') (B, nI p, nI h, pc, tc, tb, K, my, st, lv) (nI d) := by
  rintro mv' h' rfl hh
  obtain ⟨n, hn, hv⟩ := hJ.1
  have hp := hv.1
  have h20 := hJ.2.2.1
  have body : ∀ a : Int32, ((nI h = 20 → (∃ n72 : Nat, wY_move_72 (fun r' v' => r' = nI pu ∧ i_Rel (k + 3) (B', nI p', nI (m + 1), nI h', pc + nI pu, df, wt, K, upd mv (m % 20) (nI (d + 4 * pu)), D, Q) v') (nI d) (nI (pu + 1)) B' (nI p') (nI h) (pc + nI pu) (nI p') B' n72 0 K my st lv)) ∧ (¬ nI h = 20 → (wY_move_104 (fun r' v' => r' = nI pu ∧ i_Rel (k + 3) (B', nI p', nI (m + 1), nI h', pc + nI pu, df, wt, K, upd mv (m % 20) (nI (d + 4 * pu)), D, Q) v') (nI d) (nI (pu + 1)) B' (nI p') (nI h) (pc + nI pu) (nI p') B' K my st lv))) := by
    intro a
    rcases hh with ⟨h1, rfl⟩ | ⟨rfl, rfl⟩
    · refine br_f (fun y => by have := (nI_eq (b := 20) (by omega) (by decide)).mp y; omega) (yw_move_104 h1 ⟨rfl, sk_in_Rel (sk_J_move hJ hd e h1)⟩)
    · exact br_t rfl ⟨19 + 1, yw_move_72 (my := my) (fun my1 h1 => ⟨rfl, sk_in_Rel (sk_J_move20 hJ hd e h1)⟩) 19 0 rfl my (fun q hq => absurd hq (by omega)) (fun q _ => rfl)⟩
  refine br_f (nI_pos (by omega)) (br_t (nI_le (b := 3) (by omega) (by decide)) (yw_step hp hd ?_ ?_ ?_))
  · intro g1 g2
    rcases e with ⟨e, _⟩ | ⟨e, _⟩
    · exact absurd e (g1 _ _)
    · exact absurd e (g2 _ _)
  · intro q g
    rcases e with ⟨e, rfl⟩ | ⟨e, rfl⟩
    · obtain rfl : q = p' := by rw [g.1, e.1]
      obtain rfl : B' = B := e.2.2.2
      exact br_f (by decide) (nm_r (sk_pc pc 0) (body 0))
    · exfalso
      have x := g.2.2.1
      have y := e.2.2.1
      rw [g.1] at x
      rw [e.1, x] at y
      cases y
  · intro q S g
    rcases e with ⟨e, rfl⟩ | ⟨e, rfl⟩
    · exfalso
      have x := e.2.2.1
      have y := g.2.2.1
      rw [e.1] at x
      rw [g.1, x] at y
      cases y
    · obtain rfl : q = p' := by rw [g.1, e.1]
      obtain rfl : S = B' := by rw [g.2.2.2.2.2, e.2.2.2.2.2]
      exact br_f (by decide) (nm_r (sk_pc pc 1) (body 0))
theorem i_vc_move {k : Nat} {u : SX} {v : SY} (I : i_Rel k u v) (hk : k + 3 ≤ 1536) (v1 : Int32) : wpX_move (fun r u' => wpY_move (fun r' v' => r' = r ∧ i_Rel (k + 3) u' v') v v1) u v1 := by
  refine sk_el (Pr := fun u v => wpX_move (fun r u' => wpY_move (fun r' v' => r' = r ∧ i_Rel (k + 3) u' v') v v1) u v1) ?_ I
  intro B p m h pc df wt tc tb K mv D Q my st lv hJ
  have hR : ∀ a b, i_Rel (k + 3) (B, nI p, nI m, nI h, pc, df, wt, K, mv, D, Q) (B, nI p, nI h, pc, a, b, K, my, st, lv) := fun a b => sk_in_Rel (sk_J_up (by omega) hJ)
  obtain ⟨n, hn, hv⟩ := hJ.1
  have hp := hv.1
  have hm : m < 2000 := by have := hJ.2.2.2.1; omega
  have hh := hJ.2.2.1
  by_cases h0 : v1 < 0
  · exact br_t h0 (br_t h0 ⟨rfl, hR _ _⟩)
  by_cases h3 : v1 ≤ 3
  · obtain ⟨d, hd, rfl⟩ := nI_of2 (n := 3) (by decide) h0 h3
    have hd : d < 4 := by omega
    have blocked : (∀ p' S', ¬ sk_Wk K d p B p' S') → (∀ p' S', ¬ sk_Pu K d p B p' S') → wpY_move (fun r' v' => r' = -5 ∧ i_Rel (k + 3) (B, nI p, nI m, nI h, pc, df, wt, K, mv, D, Q) v') (B, nI p, nI h, pc, tc, tb, K, my, st, lv) (nI d) := by
      intro g1 g2
      exact br_f h0 (br_t h3 (yw_step hp hd (fun _ _ a b => br_t rfl ⟨rfl, hR a b⟩) (fun p' e => absurd e (g1 _ _)) (fun p' S' e => absurd e (g2 _ _))))
    refine br_f h0 (br_t h3 (xw_step hp hd ?_))
    by_cases z : sk_nx K p d < 16
    · rw [sk_en_lt z]
      refine br_t (nI_pos' (by omega)) ?_
      cases b : bt B (sk_nx K p d)
      · have e : sk_M K d 0 p B (sk_nx K p d) B := Or.inl ⟨⟨rfl, z, b, rfl⟩, rfl⟩
        exact xw_in0 z b (br_t rfl (xw_move_91 (pu := 0) hm hh (fun h1 => sk_Y_move hk hJ hd e _ _ rfl (Or.inl ⟨h1, rfl⟩)) (fun h1 => sk_Y_move hk hJ hd e _ _ rfl (Or.inr ⟨h1, rfl⟩))))
      · have nw : ∀ p' S', ¬ sk_Wk K d p B p' S' := by
          intro p' S' e
          have := e.2.2.1
          rw [e.1, b] at this
          cases this
        refine xw_in1 z b (br_f (by decide) (xw_step z hd ?_))
        by_cases z2 : sk_nx K (sk_nx K p d) d < 16
        · rw [sk_en_lt z2]
          refine br_f (nI_pos (by omega)) ?_
          cases b2 : bt B (sk_nx K (sk_nx K p d) d)
          · have e : sk_M K d 1 p B (sk_nx K p d) (sk_mvb B (sk_nx K p d) (sk_nx K (sk_nx K p d) d)) := Or.inr ⟨⟨rfl, z, b, z2, b2, rfl⟩, rfl⟩
            exact xw_in0 z2 b2 (br_t rfl (nm_e (xw_move_91 (pu := 1) hm hh (fun h1 => sk_Y_move hk hJ hd e _ _ rfl (Or.inl ⟨h1, rfl⟩)) (fun h1 => sk_Y_move hk hJ hd e _ _ rfl (Or.inr ⟨h1, rfl⟩)))))
          · refine xw_in1 z2 b2 (br_f (by decide) (blocked nw ?_))
            intro p' S' e
            have := e.2.2.2.2.1
            rw [e.1, b2] at this
            cases this
        · rw [sk_en_16 z2]
          refine br_t (by decide) (blocked nw ?_)
          intro p' S' e
          have := e.2.2.2.1
          rw [e.1] at this
          exact z2 this
    · rw [sk_en_16 z]
      refine br_f (by decide) (blocked ?_ ?_)
      · intro p' S' e
        exact z (by rw [← e.1]; exact e.2.1)
      · intro p' S' e
        exact z (by rw [← e.1]; exact e.2.1)
  · exact br_f h0 (br_f h3 (br_f h0 (br_f h3 ⟨rfl, hR _ _⟩)))
section
variable {B P md kp pc df wt pd tc tb : Int32} {K mv D Q my st lv : Nat → Int32}
theorem xw_undo_93 {post : Int32 → SX → Prop} {d p : Nat} (hp : p < 16) (hd : d < 4) (hx : sk_nx K p (d ^^^ 1) < 16) (h : post (nI d) (B, nI (sk_nx K p (d ^^^ 1)), md, kp, pc, df, wt, K, mv, D, Q)) :
    wX_undo_93 post (nI d) B (nI p) md kp pc df wt K mv D Q := by
  unfold wX_undo_93 wpX_opposite
  rw [sk_xo d hd]
  refine xw_step hp (sk_op_lt d hd) ?_
  rw [sk_en_lt hx]
  exact h
theorem yw_undo_86 {post : Int32 → SY → Prop} {d p : Nat} (hp : p < 16) (hd : d < 4) (hx : sk_nx K p (d ^^^ 1) < 16) (h : post (nI d) (B, nI (sk_nx K p (d ^^^ 1)), kp, pd, tc, tb, K, my, st, lv)) :
    wY_undo_86 post (nI d) B (nI p) kp pd tc tb K my st lv := by
  unfold wY_undo_86
  rw [sk_xo d hd]
  refine yw_next hp (sk_op_lt d hd) ?_
  rw [sk_en_lt hx]
  exact h
end
theorem i_vc_undo {k : Nat} {u : SX} {v : SY} (I : i_Rel k u v) (hk : k + 3 ≤ 1536) : wpX_undo (fun r u' => wpY_undo (fun r' v' => r' = r ∧ i_Rel (k + 3) u' v') v) u := by
  refine sk_el (Pr := fun u v => wpX_undo (fun r u' => wpY_undo (fun r' v' => r' = r ∧ i_Rel (k + 3) u' v') v) u) ?_ I
  intro B p m h pc df wt tc tb K mv D Q my st lv hJ
  have hR : i_Rel (k + 3) (B, nI p, nI m, nI h, pc, df, wt, K, mv, D, Q) (B, nI p, nI h, pc, tc, tb, K, my, st, lv) := sk_in_Rel (sk_J_up (by omega) hJ)
  obtain ⟨⟨n, hn, hv⟩, a2, a3, a4, a5, a6, a7, a8⟩ := hJ
  have hp := hv.1
  cases h with
  | zero => exact br_t rfl (br_t rfl ⟨rfl, hR⟩)
  | succ h =>
    obtain ⟨m, rfl⟩ : ∃ m0, m = m0 + 1 := ⟨m - 1, by omega⟩
    obtain ⟨d, pu, hd, hpu, c1, c2, c3, c4⟩ := a6
    have hx : sk_nx K p (d ^^^ 1) < 16 := by
      obtain ⟨_, _, q⟩ := c3
      exact q.1
    have em : nI m - nI m / 20 * 20 = nI (m % 20) := pk_rem (d := 20) (by omega) (by decide) (by decide)
    have e1 : mv (nI (m % 20)).toNatClampNeg = nI (d + 4 * pu) := by
      rw [nI_clamp (by omega)]
      have := a5 h (by omega)
      rw [show m + 1 - (h + 1) + h = m by omega, c1] at this
      exact this
    have e2 : my (nI h).toNatClampNeg = nI (d + 4 * pu) := by rw [nI_clamp (by omega)]; exact c1
    have e3 : nI (d + 4 * pu) &&& 3 = nI d := by
      rw [pk_andN (by omega) 2 (by decide), show (d + 4 * pu) % 2 ^ 2 = d by omega]
    have e4 : nI (d + 4 * pu) - nI (d + 4 * pu) / 4 * 4 = nI d := (pk_rem (d := 4) (by omega) (by decide) (by decide)).trans (by rw [show (d + 4 * pu) % 4 = d by omega])
    have hJ' : sk_J (k + 3) (sk_ub K p B d pu) (sk_nx K p (d ^^^ 1)) m h df K mv D my st := by
      refine ⟨c3, by omega, by omega, by omega, ?_, c4, a7, a8⟩
      intro i hi
      have := a5 i (by omega)
      rw [show m + 1 - (h + 1) + i = m - h + i by omega] at this
      exact this
    refine br_f (nI_ne0 (by omega) (by omega)) (nm_r (nI_pred m) (nm_r (nI_pred h) ?_))
    rw [em]
    refine ⟨by decide, vp_in_nI (by omega) (by decide), nm_r e1 (nm_r e3 ?_)⟩
    have iv : vp_in (nI h) 20 := vp_in_nI (by omega) (by decide)
    by_cases z : pu = 0
    · subst z
      have ub : sk_ub K p B d 0 = B := if_neg (by decide)
      rw [ub] at hJ'
      have l3 : nI (d + 4 * 0) ≤ 3 := nI_le (b := 3) (by omega) (by decide)
      refine br_t l3 (xw_undo_93 hp hd hx ?_)
      refine br_f (nI_ne0 (by omega) (by omega)) (nm_r (nI_pred h) ?_)
      rw [e2]
      exact ⟨iv, by decide, nm_r e4 ⟨iv, br_t l3 (yw_undo_86 hp hd hx ⟨rfl, sk_in_Rel hJ'⟩)⟩⟩
    · obtain rfl : pu = 1 := by omega
      have ub : sk_ub K p B d 1 = sk_mvb B (sk_nx K p d) p := if_pos rfl
      rw [ub] at hJ'
      have hb := c2 rfl
      have l3 : ¬ nI (d + 4 * 1) ≤ 3 := nI_ge (a := 3) (by omega) (by omega)
      refine br_f l3 (xw_step hp hd ?_)
      rw [sk_en_lt hb]
      refine nm_e (nm_e (xw_undo_93 hp hd hx ?_))
      refine br_f (nI_ne0 (by omega) (by omega)) (nm_r (nI_pred h) ?_)
      rw [e2]
      refine ⟨iv, by decide, nm_r e4 ⟨iv, br_f l3 (yw_next hp hd ?_)⟩⟩
      rw [sk_en_lt hb]
      exact nm_e (nm_e (yw_undo_86 hp hd hx ⟨rfl, sk_in_Rel hJ'⟩))
end
section
/-! ===== leastMoves, leastPushes ===== -/
def sk_Le (K : Nat → Int32) (w : Nat) (Src : Nat × Int32 → Prop) (c : Nat) : Prop := (∃ x, Src x ∧ sk_R K w c x) ∧ ∀ c' x, c' < c → Src x → ¬ sk_R K w c' x
theorem sk_Le_u {K : Nat → Int32} {w c c' : Nat} {Src : Nat × Int32 → Prop} (h : sk_Le K w Src c) (h' : sk_Le K w Src c') : c = c' := by
  obtain ⟨⟨x, hx, hr⟩, hm⟩ := h
  obtain ⟨⟨x', hx', hr'⟩, hm'⟩ := h'
  rcases Nat.lt_trichotomy c c' with z | z | z
  · exact absurd hr (hm' c x z hx)
  · exact z
  · exact absurd hr' (hm c' x' z hx')
/-- the two answers: both none, or the same -/
theorem sk_An_2 {K : Nat → Int32} {w : Nat} {Src : Nat × Int32 → Prop} {r r' : Int32} (h : sk_An K w Src (-1) r) (h' : sk_An K w Src (-6) r') :
    (r = -1 ∧ r' = -6 ∧ ∀ c x, Src x → ¬ sk_R K w c x) ∨ ∃ c, c < 4096 ∧ r = nI c ∧ r' = nI c ∧ sk_Le K w Src c := by
  rcases h with ⟨e, hn⟩ | ⟨c, hc, e, h1, h2⟩
  · rcases h' with ⟨e', _⟩ | ⟨c', hc', e', ⟨x, hx, hr⟩, _⟩
    · exact Or.inl ⟨e, e', hn⟩
    · exact absurd hr (hn c' x hx)
  · rcases h' with ⟨e', hn⟩ | ⟨c', hc', e', h1', h2'⟩
    · obtain ⟨x, hx, hr⟩ := h1
      exact absurd hr (hn c x hx)
    · have := sk_Le_u (K := K) (w := w) (Src := Src) ⟨h1, h2⟩ ⟨h1', h2'⟩
      subst this
      exact Or.inr ⟨c, hc, e, e', h1, h2⟩
theorem sk_An_c {K : Nat → Int32} {w c : Nat} {Src : Nat × Int32 → Prop} {no r : Int32} (h : sk_An K w Src no r) (hno : no < 0) (hc : c < 4096) : r = nI c ↔ sk_Le K w Src c := by
  rcases h with ⟨e, hn⟩ | ⟨c1, hc1, e, h1, h2⟩
  · constructor
    · intro z
      rw [e] at z
      rw [z] at hno
      exact absurd hno (nI_pos (by omega))
    · intro ⟨⟨x, hx, hr⟩, _⟩
      exact absurd hr (hn c x hx)
  · constructor
    · intro z
      rw [e] at z
      obtain rfl := (nI_eq (by omega) (by omega)).mp z
      exact ⟨h1, h2⟩
    · intro z
      rw [e, sk_Le_u (K := K) (w := w) (Src := Src) ⟨h1, h2⟩ z]
theorem i_vc_leastMoves {k : Nat} {u : SX} {v : SY} (I : i_Rel k u v) (hk : k + 3 ≤ 1536) : wpX_leastMoves (fun r u' => wpY_leastMoves (fun r' v' => r' = r ∧ i_Rel (k + 3) u' v') v) u := by
  refine sk_el (Pr := fun u v => wpX_leastMoves (fun r u' => wpY_leastMoves (fun r' v' => r' = r ∧ i_Rel (k + 3) u' v') v) u) ?_ I
  intro B p m h pc df wt tc tb K mv D Q my st lv hJ
  obtain ⟨⟨n, hn, hv⟩, a2, a3, a4, a5, a6, a7, a8⟩ := hJ
  unfold wpX_leastMoves wpY_leastMoves
  dsimp only
  refine xw_distanceOf (w := 0) (by omega) hn hv a8 ?_
  intro r df' wt' D' Q' hC hA
  have hJ' : sk_J (k + 3) B p m h df' K mv D' my st := ⟨⟨n, hn, hv⟩, a2, a3, by omega, a5, a6, a7, hC⟩
  refine br_c (fun z => ?_) (fun z => ?_)
  · refine yw_least (w := 0) (by omega) hn a7 hv ?_
    intro r' a b l hA'
    refine ⟨?_, sk_in_Rel hJ'⟩
    rcases sk_An_2 hA hA' with ⟨e1, e2, _⟩ | ⟨c, hc, e1, e2, _⟩
    · rw [e1] at z
      exact absurd z (by decide)
    · rw [e1, e2]
  · refine yw_least (w := 0) (by omega) hn a7 hv ?_
    intro r' a b l hA'
    refine ⟨?_, sk_in_Rel hJ'⟩
    rcases sk_An_2 hA hA' with ⟨e1, e2, _⟩ | ⟨c, hc, e1, e2, _⟩
    · exact e2
    · rw [e1] at z
      exact absurd (nI_pos' (by omega)) z
theorem i_vc_leastPushes {k : Nat} {u : SX} {v : SY} (I : i_Rel k u v) (hk : k + 3 ≤ 1536) : wpX_leastPushes (fun r u' => wpY_leastPushes (fun r' v' => r' = r ∧ i_Rel (k + 3) u' v') v) u := by
  refine sk_el (Pr := fun u v => wpX_leastPushes (fun r u' => wpY_leastPushes (fun r' v' => r' = r ∧ i_Rel (k + 3) u' v') v) u) ?_ I
  intro B p m h pc df wt tc tb K mv D Q my st lv hJ
  obtain ⟨⟨n, hn, hv⟩, a2, a3, a4, a5, a6, a7, a8⟩ := hJ
  unfold wpX_leastPushes wpY_leastPushes
  dsimp only
  refine xw_distanceOf (w := 1) (by omega) hn hv a8 ?_
  intro r df' wt' D' Q' hC hA
  have hJ' : sk_J (k + 3) B p m h df' K mv D' my st := ⟨⟨n, hn, hv⟩, a2, a3, by omega, a5, a6, a7, hC⟩
  refine br_c (fun z => ?_) (fun z => ?_)
  · refine yw_least (w := 1) (by omega) hn a7 hv ?_
    intro r' a b l hA'
    refine ⟨?_, sk_in_Rel hJ'⟩
    rcases sk_An_2 hA hA' with ⟨e1, e2, _⟩ | ⟨c, hc, e1, e2, _⟩
    · rw [e1] at z
      exact absurd z (by decide)
    · rw [e1, e2]
  · refine yw_least (w := 1) (by omega) hn a7 hv ?_
    intro r' a b l hA'
    refine ⟨?_, sk_in_Rel hJ'⟩
    rcases sk_An_2 hA hA' with ⟨e1, e2, _⟩ | ⟨c, hc, e1, e2, _⟩
    · exact e2
    · rw [e1] at z
      exact absurd (nI_pos' (by omega)) z
end
section
/-! ===== bestMove, dead ===== -/
/-- direction i leads to a store whose least cost is c -/
def sk_Gd (K : Nat → Int32) (p : Nat) (B : Int32) (c i : Nat) : Prop :=
  ∃ p' S', (sk_Wk K i p B p' S' ∨ sk_Pu K i p B p' S') ∧ sk_Le K 0 (fun x => x = (p', S')) c
theorem sk_Wk_u {K : Nat → Int32} {d p p' p'' : Nat} {B S S' : Int32} (a : sk_Wk K d p B p' S) (b : sk_Wk K d p B p'' S' ∨ sk_Pu K d p B p'' S') : p'' = p' ∧ S' = S := by
  rcases b with b | b
  · exact ⟨by rw [a.1, b.1], by rw [a.2.2.2, b.2.2.2]⟩
  · exfalso
    have x := a.2.2.1
    have y := b.2.2.1
    rw [a.1] at x
    rw [b.1, x] at y
    cases y
theorem sk_Pu_u {K : Nat → Int32} {d p p' p'' : Nat} {B S S' : Int32} (a : sk_Pu K d p B p' S) (b : sk_Wk K d p B p'' S' ∨ sk_Pu K d p B p'' S') : p'' = p' ∧ S' = S := by
  rcases b with b | b
  · exfalso
    have x := b.2.2.1
    have y := a.2.2.1
    rw [b.1] at x
    rw [a.1, x] at y
    cases y
  · have e : p'' = p' := by rw [a.1, b.1]
    subst e
    exact ⟨rfl, by rw [a.2.2.2.2.2, b.2.2.2.2.2]⟩
section
variable {B md kp pc df wt pd tc tb : Int32} {K mv D Q my st lv : Nat → Int32} {n p c : Nat}
theorem xw_distanceAfter {post : Int32 → SX → Prop} {d : Nat} (hn : n ≤ 2) (hv : sk_V K n p B) (hd : d < 4) (hc : c < 4096) (hC : sk_Ch K df D)
    (h : ∀ r df' wt' D' Q', sk_Ch K df' D' → (r = nI c ↔ sk_Gd K p B c d) → post r (B, nI p, md, kp, pc, df', wt', K, mv, D', Q')) :
    wpX_distanceAfter post (B, nI p, md, kp, pc, df, wt, K, mv, D, Q) (nI d) := by
  have hp := hv.1
  have blocked : (∀ p' S', ¬ sk_Wk K d p B p' S') → (∀ p' S', ¬ sk_Pu K d p B p' S') → post (-1) (B, nI p, md, kp, pc, df, wt, K, mv, D, Q) := by
    intro g1 g2
    refine h _ _ _ _ _ hC ⟨fun y => ?_, ?_⟩
    · exact absurd (y ▸ (by decide : (-1 : Int32) < 0)) (nI_pos (by omega))
    · rintro ⟨p', S', e | e, _⟩
      · exact absurd e (g1 _ _)
      · exact absurd e (g2 _ _)
  unfold wpX_distanceAfter
  dsimp only
  refine xw_step hp hd ?_
  by_cases z : sk_nx K p d < 16
  · rw [sk_en_lt z]
    refine br_t (nI_pos' (by omega)) ?_
    cases b : bt B (sk_nx K p d)
    · have e : sk_Wk K d p B (sk_nx K p d) B := ⟨rfl, z, b, rfl⟩
      refine xw_in0 z b (br_t rfl (xw_distanceOf (w := 0) (by omega) hn (sk_V_wk hv e) hC ?_))
      intro r df' wt' D' Q' hC' hA
      refine h _ _ _ _ _ hC' ?_
      rw [sk_An_c hA (by decide) hc]
      constructor
      · intro y; exact ⟨_, _, Or.inl e, y⟩
      · rintro ⟨p', S', g, y⟩
        obtain ⟨rfl, rfl⟩ := sk_Wk_u e g
        exact y
    · have nw : ∀ p' S', ¬ sk_Wk K d p B p' S' := by
        intro p' S' e
        have := e.2.2.1
        rw [e.1, b] at this
        cases this
      refine xw_in1 z b (br_f (by decide) (xw_step z hd ?_))
      by_cases z2 : sk_nx K (sk_nx K p d) d < 16
      · rw [sk_en_lt z2]
        refine br_f (nI_pos (by omega)) ?_
        cases b2 : bt B (sk_nx K (sk_nx K p d) d)
        · have e : sk_Pu K d p B (sk_nx K p d) (sk_mvb B (sk_nx K p d) (sk_nx K (sk_nx K p d) d)) := ⟨rfl, z, b, z2, b2, rfl⟩
          refine xw_in0 z2 b2 (br_t rfl (xw_distanceOf (w := 0) (by omega) hn (sk_V_pu hv e) hC ?_))
          intro r df' wt' D' Q' hC' hA
          refine h _ _ _ _ _ hC' ?_
          rw [sk_An_c hA (by decide) hc]
          constructor
          · intro y; exact ⟨_, _, Or.inr e, y⟩
          · rintro ⟨p', S', g, y⟩
            obtain ⟨rfl, rfl⟩ := sk_Pu_u e g
            exact y
        · refine xw_in1 z2 b2 (br_f (by decide) (blocked nw ?_))
          intro p' S' e
          have := e.2.2.2.2.1
          rw [e.1, b2] at this
          cases this
      · rw [sk_en_16 z2]
        refine br_t (by decide) (blocked nw ?_)
        intro p' S' e
        have := e.2.2.2.1
        rw [e.1] at this
        exact z2 this
  · rw [sk_en_16 z]
    refine br_f (by decide) (blocked ?_ ?_)
    · intro p' S' e
      exact z (by rw [← e.1]; exact e.2.1)
    · intro p' S' e
      exact z (by rw [← e.1]; exact e.2.1)
theorem xw_bestMove_23 {post : Int32 → SX → Prop} (hn : n ≤ 2) (hv : sk_V K n p B) (hc : c < 4096)
    (h1 : ∀ i df' wt' D' Q', i < 4 → sk_Ch K df' D' → (∀ j, j < i → ¬ sk_Gd K p B c j) → sk_Gd K p B c i → post (nI i) (B, nI p, md, kp, pc, df', wt', K, mv, D', Q'))
    (h0 : ∀ df' wt' D' Q', sk_Ch K df' D' → (∀ j, j < 4 → ¬ sk_Gd K p B c j) → post (-6) (B, nI p, md, kp, pc, df', wt', K, mv, D', Q')) :
    ∀ k i, i + k = 4 → ∀ df wt D Q, sk_Ch K df D → (∀ j, j < i → ¬ sk_Gd K p B c j) → wX_bestMove_23 post (nI (c + 1)) (k + 1) (nI i) B (nI p) md kp pc df wt K mv D Q := by
  intro k
  induction k with
  | zero =>
    intro i hi df wt D Q hC hg
    obtain rfl : i = 4 := by omega
    exact br_t (nI_le (a := 4) (b := 4) (by omega) (by decide)) (h0 df wt D Q hC hg)
  | succ k ih =>
    intro i hi df wt D Q hC hg
    refine br_f (nI_ge (b := 4) (by omega) (by decide)) (xw_distanceAfter hn hv (by omega) hc hC ?_)
    intro r df' wt' D' Q' hC' hr
    rw [nI_pred]
    refine br_c (fun z => ?_) (fun z => ?_)
    · exact h1 i df' wt' D' Q' (by omega) hC' hg (hr.mp z)
    · exact nm_r (nI_1 i) (ih (i + 1) (by omega) df' wt' D' Q' hC' (lt_s hg (fun y => z (hr.mpr y))))
theorem yw_bestMove_15 {post : Int32 → SY → Prop} (hn : n ≤ 2) (hst : sk_ST st) (hv : sk_V K n p B) (hc : c < 4096)
    (h1 : ∀ i a b l, i < 4 → (∀ j, j < i → ¬ sk_Gd K p B c j) → sk_Gd K p B c i → post (nI i) (B, nI p, kp, pd, a, b, K, my, st, l))
    (h0 : ∀ a b l, (∀ j, j < 4 → ¬ sk_Gd K p B c j) → post (-6) (B, nI p, kp, pd, a, b, K, my, st, l)) :
    ∀ k i, i + k = 4 → ∀ a b l, (∀ j, j < i → ¬ sk_Gd K p B c j) → wY_bestMove_15 post (nI (c + 1)) (k + 1) (nI i) B (nI p) kp pd a b K my st l := by
  intro k
  induction k with
  | zero =>
    intro i hi a b l hg
    obtain rfl : i = 4 := by omega
    exact br_t (nI_le (a := 4) (b := 4) (by omega) (by decide)) (h0 a b l hg)
  | succ k ih =>
    intro i hi a b l hg
    refine br_f (nI_ge (b := 4) (by omega) (by decide)) (yw_step hv.1 (by omega) ?_ ?_ ?_)
    · intro g1 g2 a' b'
      refine br_t (by decide) (nm_r (nI_1 i) (ih (i + 1) (by omega) a' b' l (lt_s hg ?_)))
      rintro ⟨p', S', e | e, _⟩
      · exact absurd e (g1 _ _)
      · exact absurd e (g2 _ _)
    · intro p' e
      refine br_f (by decide) (yw_least (w := 0) (by omega) hn hst (sk_V_wk hv e) ?_)
      intro r a' b' l' hA
      have hr : r = nI c ↔ sk_Gd K p B c i := by
        rw [sk_An_c hA (by decide) hc]
        constructor
        · intro y; exact ⟨_, _, Or.inl e, y⟩
        · rintro ⟨p', S', g, y⟩
          obtain ⟨rfl, rfl⟩ := sk_Wk_u e g
          exact y
      rw [nI_pred]
      refine br_c (fun z => ?_) (fun z => ?_)
      · exact h1 i a' b' l' (by omega) hg (hr.mp z)
      · exact nm_r (nI_1 i) (ih (i + 1) (by omega) a' b' l' (lt_s hg (fun y => z (hr.mpr y))))
    · intro p' S e
      refine br_f (by decide) (yw_least (w := 0) (by omega) hn hst (sk_V_pu hv e) ?_)
      intro r a' b' l' hA
      have hr : r = nI c ↔ sk_Gd K p B c i := by
        rw [sk_An_c hA (by decide) hc]
        constructor
        · intro y; exact ⟨_, _, Or.inr e, y⟩
        · rintro ⟨p', S', g, y⟩
          obtain ⟨rfl, rfl⟩ := sk_Pu_u e g
          exact y
      rw [nI_pred]
      refine br_c (fun z => ?_) (fun z => ?_)
      · exact h1 i a' b' l' (by omega) hg (hr.mp z)
      · exact nm_r (nI_1 i) (ih (i + 1) (by omega) a' b' l' (lt_s hg (fun y => z (hr.mpr y))))
end
theorem i_vc_bestMove {k : Nat} {u : SX} {v : SY} (I : i_Rel k u v) (hk : k + 3 ≤ 1536) : wpX_bestMove (fun r u' => wpY_bestMove (fun r' v' => r' = r ∧ i_Rel (k + 3) u' v') v) u := by
  refine sk_el (Pr := fun u v => wpX_bestMove (fun r u' => wpY_bestMove (fun r' v' => r' = r ∧ i_Rel (k + 3) u' v') v) u) ?_ I
  intro B p m h pc df wt tc tb K mv D Q my st lv hJ
  obtain ⟨⟨n, hn, hv⟩, a2, a3, a4, a5, a6, a7, a8⟩ := hJ
  have hJ' : ∀ df' D', sk_Ch K df' D' → sk_J (k + 3) B p m h df' K mv D' my st := fun df' D' hC => ⟨⟨n, hn, hv⟩, a2, a3, by omega, a5, a6, a7, hC⟩
  unfold wpX_bestMove wpY_bestMove wpY_leastMoves
  dsimp only
  refine xw_distanceOf (w := 0) (by omega) hn hv a8 ?_
  intro r df1 wt1 D1 Q1 hC1 hA
  by_cases hex : ∃ c, c < 4096 ∧ r = nI (c + 1)
  · obtain ⟨c, hc, rfl⟩ := hex
    refine br_t (nI_lt (a := 0) (by omega) (by omega)) ⟨4 + 1, xw_bestMove_23 hn hv hc ?_ ?_ 4 0 rfl df1 wt1 D1 Q1 hC1 (fun j hj => absurd hj (by omega))⟩
    · intro i df' wt' D' Q' hi hC' hg hgd
      refine yw_least (w := 0) (by omega) hn a7 hv ?_
      intro r' a b l hA'
      have er : r' = nI (c + 1) := by
        rcases sk_An_2 hA hA' with ⟨e1, _, _⟩ | ⟨c1, hc1, e1, e2, _⟩
        · exact absurd (e1 ▸ (by decide : (-1 : Int32) < 0)) (nI_pos (by omega))
        · rw [e2, e1]
      subst er
      refine br_t (nI_le (a := 1) (by omega) (by omega)) ⟨4 + 1, yw_bestMove_15 hn a7 hv hc ?_ ?_ 4 0 rfl a b l (fun j hj => absurd hj (by omega))⟩
      · intro i' a' b' l' hi' hg' hgd'
        refine ⟨?_, sk_in_Rel (hJ' _ _ hC')⟩
        rcases Nat.lt_trichotomy i i' with z | z | z
        · exact absurd hgd (hg' i z)
        · rw [z]
        · exact absurd hgd' (hg i' z)
      · intro a' b' l' hg'
        exact absurd hgd (hg' i hi)
    · intro df' wt' D' Q' hC' hg
      refine yw_least (w := 0) (by omega) hn a7 hv ?_
      intro r' a b l hA'
      have er : r' = nI (c + 1) := by
        rcases sk_An_2 hA hA' with ⟨e1, _, _⟩ | ⟨c1, hc1, e1, e2, _⟩
        · exact absurd (e1 ▸ (by decide : (-1 : Int32) < 0)) (nI_pos (by omega))
        · rw [e2, e1]
      subst er
      refine br_t (nI_le (a := 1) (by omega) (by omega)) ⟨4 + 1, yw_bestMove_15 hn a7 hv hc ?_ ?_ 4 0 rfl a b l (fun j hj => absurd hj (by omega))⟩
      · intro i' a' b' l' hi' hg' hgd'
        exact absurd hgd' (hg i' hi')
      · intro a' b' l' hg'
        exact ⟨rfl, sk_in_Rel (hJ' _ _ hC')⟩
  · have : ¬ 0 < r := by
      rcases hA with ⟨e1, _⟩ | ⟨c, hc, e1, _⟩
      · rw [e1]; decide
      · rw [e1]
        intro y
        have y' := (nI_ltI (a := 0) (by decide) (by omega)).mp y
        exact hex ⟨c - 1, by omega, by rw [e1, show c - 1 + 1 = c by omega]⟩
    refine br_f this (yw_least (w := 0) (by omega) hn a7 hv ?_)
    intro r' a b l hA'
    have : ¬ 1 ≤ r' := by
      rcases sk_An_2 hA hA' with ⟨_, e2, _⟩ | ⟨c, hc, e1, e2, _⟩
      · rw [e2]; decide
      · rw [e2]
        intro y
        have y' := (nI_leI (a := 1) (by decide) (by omega)).mp y
        exact hex ⟨c - 1, by omega, by rw [e1, show c - 1 + 1 = c by omega]⟩
    exact br_f this ⟨rfl, sk_in_Rel (hJ' _ _ hC1)⟩
end
section
/-! ===== dead ===== -/
section
variable {B P md kp pc df wt pd tc tb : Int32} {K mv D Q my st lv : Nat → Int32} {c : Nat}
theorem sk_V_b {p : Nat} (hc : c < 16) (hk : K c ≠ 1) (hp : p < 16) (hkp : K p ≠ 1) (ne : p ≠ c) : sk_V K 1 p (sk_b c) := by
  refine ⟨hp, hkp, ?_, ?_, ?_⟩
  · rw [sk_bt_b (by omega)]; exact decide_eq_false ne
  · intro i hi
    rw [sk_bt_b (by omega)] at hi
    have := of_decide_eq_true hi
    subst this
    exact ⟨hc, hk⟩
  · have e : sk_bn (sk_b c) = sk_bn (sk_pr c c) := by
      refine sk_cn_congr (fun i _ => ?_)
      rw [sk_bt_pr hc hc, sk_bt_b (by omega), Bool.or_self]
    rw [e, sk_bn_pr c hc c hc, if_pos rfl]
theorem sk_V_b' {p : Nat} (h : sk_V K 1 p (sk_b c)) (hc : c < 16) : p ≠ c := by
  rintro rfl
  have := h.2.2.1
  rw [sk_bt_b (by omega), decide_eq_true rfl] at this
  cases this
theorem xw_dead_33 {post : Int32 → SX → Prop} (hc : c < 16) (hk : K c ≠ 1)
    (h1 : ∀ df' wt' D' Q', sk_Ch K df' D' → (∀ q p, sk_V K 1 p (sk_b c) → ¬ sk_R K 1 q (p, sk_b c)) → post 1 (B, P, md, kp, pc, df', wt', K, mv, D', Q'))
    (h0 : ∀ df' wt' D' Q', sk_Ch K df' D' → (∃ q p, sk_V K 1 p (sk_b c) ∧ sk_R K 1 q (p, sk_b c)) → post 0 (B, P, md, kp, pc, df', wt', K, mv, D', Q')) :
    ∀ k i, i + k = 16 → ∀ df wt D Q, sk_Ch K df D → (∀ p, p < i → sk_V K 1 p (sk_b c) → ∀ q, ¬ sk_R K 1 q (p, sk_b c)) → wX_dead_33 post (nI c) (k + 1) (nI i) B P md kp pc df wt K mv D Q := by
  intro k
  induction k with
  | zero =>
    intro i hi df wt D Q hC hf
    obtain rfl : i = 16 := by omega
    exact br_t (nI_le (a := 16) (b := 16) (by omega) (by decide)) (h1 df wt D Q hC (fun q p hv => hf p hv.1 hv q))
  | succ k ih =>
    intro i hi df wt D Q hC hf
    have ec : (nI i).toNatClampNeg = i := nI_clamp (by omega)
    refine br_f (nI_ge (b := 16) (by omega) (by decide)) (And.intro (vp_in_nI (by omega) (by decide)) ?_)
    by_cases z : K i = 1
    · exact br_t (by rw [ec]; exact z) (nm_r (nI_1 i) (ih (i + 1) (by omega) df wt D Q hC (lt_s hf (fun hv => absurd z hv.2.1))))
    · refine br_f (by rw [ec]; exact z) ?_
      by_cases e : i = c
      · exact br_t (by rw [e]) (nm_r (nI_1 i) (ih (i + 1) (by omega) df wt D Q hC (lt_s hf (fun hv => absurd e (sk_V_b' hv hc)))))
      · have hv := sk_V_b hc hk (by omega) z e
        refine br_f (fun y => e ((nI_eq (by omega) (by omega)).mp y)) (xw_distanceOf (w := 1) (n := 1) (S := sk_b c) (by omega) (by omega) hv hC ?_)
        intro r df' wt' D' Q' hC' hA
        rcases hA with ⟨e1, hno⟩ | ⟨q, hq, e1, ⟨x, hx, hr⟩, _⟩
        · refine br_t (by rw [e1]; decide) (nm_r (nI_1 i) (ih (i + 1) (by omega) df' wt' D' Q' hC' (lt_s hf ?_)))
          intro _ q
          exact hno q _ rfl
        · refine br_f (by rw [e1]; exact nI_pos (by omega)) (h0 df' wt' D' Q' hC' ⟨q, i, hv, ?_⟩)
          rw [hx] at hr
          exact hr
theorem yw_dead_44 {post : Int32 → SY → Prop} (hst : sk_ST st) (hc : c < 16) (hk : K c ≠ 1)
    (h1 : ∀ a b l, (∀ q p, sk_V K 1 p (sk_b c) → ¬ sk_R K 1 q (p, sk_b c)) → post 1 (B, P, kp, pd, a, b, K, my, st, l))
    (h0 : ∀ a b l, (∃ q p, sk_V K 1 p (sk_b c) ∧ sk_R K 1 q (p, sk_b c)) → post 0 (B, P, kp, pd, a, b, K, my, st, l)) :
    ∀ k i, i + k = 16 → ∀ l : Nat → Int32, (∀ s, s < 2192 → l s = -1 ∨ (l s = nI 0 ∧ ∃ p, p < i ∧ sk_V K 1 p (sk_b c) ∧ sk_nd s = (p, sk_b c))) → (∀ p, p < i → sk_V K 1 p (sk_b c) → ∃ s, s < 2192 ∧ sk_nd s = (p, sk_b c) ∧ l s = nI 0) →
      wY_dead_44 post (nI c) (nI (sk_nu (sk_b c))) B P kp pd tc tb (k + 1) (nI i) K my st l := by
  have hlo : sk_lo (sk_b c) := by
    intro i hi
    rw [sk_bt_b (by omega)] at hi
    have := of_decide_eq_true hi
    omega
  have hbn : sk_bn (sk_b c) = 1 := by
    have e : sk_bn (sk_b c) = sk_bn (sk_pr c c) := by
      refine sk_cn_congr (fun i _ => ?_)
      rw [sk_bt_pr hc hc, sk_bt_b (by omega), Bool.or_self]
    rw [e, sk_bn_pr c hc c hc, if_pos rfl]
  have nu := sk_nu_ok hlo (by omega)
  intro k
  induction k with
  | zero =>
    intro i hi l g1 g2
    obtain rfl : i = 16 := by omega
    refine br_t (nI_le (a := 16) (b := 16) (by omega) (by decide)) (yw_search (w := 1) (n := 1) (Src := fun x => ∃ p, sk_V K 1 p (sk_b c) ∧ x = (p, sk_b c)) (by omega) (by omega) hst (by rintro x ⟨p, hv, rfl⟩; exact hv) ?_ ?_)
    · refine ⟨?_, ?_, fun s c _ hc => absurd hc (by omega), Nat.zero_le _⟩
      · intro s hs
        rcases g1 s hs with z | ⟨z, p, hp, hv, e⟩
        · exact Or.inl z
        · exact Or.inr ⟨0, by omega, z, by rw [e]; exact hv, by rw [e]; exact sk_F_0 ⟨p, hv, rfl⟩⟩
      · rintro x ⟨p, hv, rfl⟩
        obtain ⟨s, h1, h2, h3⟩ := g2 p hv.1 hv
        exact ⟨s, h1, h2, 0, by omega, by omega, h3⟩
    · intro r a b l' hA
      rcases hA with ⟨e1, hno⟩ | ⟨q, hq, e1, ⟨x, ⟨p, hv, rfl⟩, hr⟩, _⟩
      · exact br_t e1 (h1 a b l' (fun q p hv => hno q _ ⟨p, hv, rfl⟩))
      · refine br_f ?_ (h0 a b l' ⟨q, p, hv, hr⟩)
        rw [e1]
        intro y
        exact absurd (y ▸ (by decide : (-6 : Int32) < 0)) (nI_pos (by omega))
  | succ k ih =>
    intro i hi l g1 g2
    have ec : (nI i).toNatClampNeg = i := nI_clamp (by omega)
    have skip : ¬ sk_V K 1 i (sk_b c) → wY_dead_44 post (nI c) (nI (sk_nu (sk_b c))) B P kp pd tc tb (k + 1) (nI (i + 1)) K my st l := by
      intro z
      refine ih (i + 1) (by omega) l ?_ (lt_s g2 (fun hv => absurd hv z))
      intro s hs
      rcases g1 s hs with y | ⟨y, p, hp, hv, e⟩
      · exact Or.inl y
      · exact Or.inr ⟨y, p, by omega, hv, e⟩
    refine br_f (nI_ge (b := 16) (by omega) (by decide)) ?_
    by_cases e : i = c
    · exact br_t (by rw [e]) (nm_r (nI_1 i) (skip (fun hv => sk_V_b' hv hc e)))
    · refine br_f (fun y => e ((nI_eq (by omega) (by omega)).mp y)) (And.intro (vp_in_nI (by omega) (by decide)) ?_)
      by_cases z : K i = 1
      · exact br_t (by rw [ec]; exact z) (nm_r (nI_1 i) (skip (fun hv => hv.2.1 z)))
      · have hv := sk_V_b hc hk (by omega) z e
        have nd : sk_nd (16 * sk_nu (sk_b c) + i) = (i, sk_b c) := by rw [sk_nd_at (by omega), nu.2]
        refine br_f (by rw [ec]; exact z) ?_
        rw [sk_t16]
        refine And.intro (vp_in_nI (by omega) (by decide)) (nm_r (e' := upd l (16 * sk_nu (sk_b c) + i) (nI 0)) (by rw [nI_clamp (by omega)]; rfl) (nm_r (nI_1 i) (ih (i + 1) (by omega) _ ?_ (lt_s ?_ ?_))))
        · intro s hs
          by_cases y : s = 16 * sk_nu (sk_b c) + i
          · exact Or.inr ⟨by rw [y, pk_us], i, by omega, hv, by rw [y]; exact nd⟩
          · rw [pk_un y]
            rcases g1 s hs with y | ⟨y, p, hp, hv, e⟩
            · exact Or.inl y
            · exact Or.inr ⟨y, p, by omega, hv, e⟩
        · intro p hp hv'
          obtain ⟨s, h1, h2, h3⟩ := g2 p hp hv'
          refine ⟨s, h1, h2, ?_⟩
          by_cases y : s = 16 * sk_nu (sk_b c) + i
          · rw [y, pk_us]
          · rw [pk_un y]; exact h3
        · intro _
          exact ⟨16 * sk_nu (sk_b c) + i, by omega, nd, pk_us⟩
end
theorem i_vc_dead {k : Nat} {u : SX} {v : SY} (I : i_Rel k u v) (hk : k + 3 ≤ 1536) (v1 : Int32) : wpX_dead (fun r u' => wpY_dead (fun r' v' => r' = r ∧ i_Rel (k + 3) u' v') v v1) u v1 := by
  refine sk_el (Pr := fun u v => wpX_dead (fun r u' => wpY_dead (fun r' v' => r' = r ∧ i_Rel (k + 3) u' v') v v1) u v1) ?_ I
  intro B p m h pc df wt tc tb K mv D Q my st lv hJ
  have hR : i_Rel (k + 3) (B, nI p, nI m, nI h, pc, df, wt, K, mv, D, Q) (B, nI p, nI h, pc, tc, tb, K, my, st, lv) := sk_in_Rel (sk_J_up (by omega) hJ)
  obtain ⟨hG, a2, a3, a4, a5, a6, a7, a8⟩ := hJ
  have hJ' : ∀ df' D', sk_Ch K df' D' → sk_J (k + 3) B p m h df' K mv D' my st := fun df' D' hC => ⟨hG, a2, a3, by omega, a5, a6, a7, hC⟩
  unfold wpX_dead wpY_dead
  dsimp only
  rcases pk_ix v1 (n := 16) (by decide) with hb | hb | ⟨c, hc, rfl⟩
  · exact xw_bad_t (Or.inl hb) (br_f (by decide) (yw_bad_t (Or.inl hb) (br_f (by decide) ⟨rfl, hR⟩)))
  · exact xw_bad_t (Or.inr hb) (br_f (by decide) (yw_bad_t (Or.inr hb) (br_f (by decide) ⟨rfl, hR⟩)))
  · have ec : (nI c).toNatClampNeg = c := nI_clamp (by omega)
    have iv : vp_in (nI c) 16 := vp_in_nI hc (by decide)
    rw [ec]
    refine xw_bad_f hc (br_t rfl ⟨iv, ?_⟩)
    by_cases z : K c = 1
    · exact br_t z (yw_bad_f hc (br_t rfl ⟨iv, br_t z ⟨rfl, hR⟩⟩))
    · refine br_f z ⟨iv, ?_⟩
      by_cases z2 : K c = 2
      · exact br_t z2 (yw_bad_f hc (br_t rfl ⟨iv, br_f z ⟨iv, br_t z2 ⟨rfl, hR⟩⟩⟩))
      · refine br_f z2 ⟨16 + 1, xw_dead_33 hc z ?_ ?_ 16 0 rfl df wt D Q a8 (fun p hp => absurd hp (by omega))⟩
        · intro df' wt' D' Q' hC' hno
          refine yw_bad_f hc (br_t rfl ⟨iv, br_f z ⟨iv, br_f z2 (yw_clear ?_)⟩⟩)
          intro l hl
          refine yw_number (S := sk_b c) a7 ⟨16 + 1, yw_dead_44 a7 hc z ?_ ?_ 16 0 rfl l (fun s hs => Or.inl (hl s hs)) (fun p hp => absurd hp (by omega))⟩
          · intro a b l' _
            exact ⟨rfl, sk_in_Rel (hJ' _ _ hC')⟩
          · rintro a b l' ⟨q, p, hv, hr⟩
            exact absurd hr (hno q p hv)
        · rintro df' wt' D' Q' hC' ⟨q, p, hv, hr⟩
          refine yw_bad_f hc (br_t rfl ⟨iv, br_f z ⟨iv, br_f z2 (yw_clear ?_)⟩⟩)
          intro l hl
          refine yw_number (S := sk_b c) a7 ⟨16 + 1, yw_dead_44 a7 hc z ?_ ?_ 16 0 rfl l (fun s hs => Or.inl (hl s hs)) (fun p hp => absurd hp (by omega))⟩
          · intro a b l' hno
            exact absurd hr (hno q p hv)
          · intro a b l' _
            exact ⟨rfl, sk_in_Rel (hJ' _ _ hC')⟩
end
