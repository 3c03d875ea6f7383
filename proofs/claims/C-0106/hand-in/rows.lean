section
/-! rows of kit/rows (PURE-ROWS, BITS), taken as they stand -/
theorem pk_us {f : Nat → Int32} {k : Nat} {x : Int32} : upd f k x k = x := if_pos rfl
theorem pk_un {f : Nat → Int32} {k j : Nat} {x : Int32} (h : j ≠ k) : upd f k x j = f j := if_neg h
theorem pk_uLs {f : Nat → Int64} {k : Nat} {x : Int64} : vp_updL f k x k = x := if_pos rfl
theorem pk_uLn {f : Nat → Int64} {k j : Nat} {x : Int64} (h : j ≠ k) : vp_updL f k x j = f j := if_neg h
theorem pk_sub {a b : Nat} (h : b ≤ a) : nI a - nI b = nI (a - b) := by
  obtain ⟨c, rfl⟩ : ∃ c, a = c + b := ⟨a - b, by omega⟩
  rw [← nI_add, Int32.add_sub_cancel, Nat.add_sub_cancel]
theorem pk_m1 (n : Nat) : nI (n + 1) + (-1) = nI n := by
  rw [← nI_1, Int32.add_assoc, show (1 : Int32) + (-1) = 0 from rfl, Int32.add_zero]
theorem pk_mul (a b : Nat) : nI a * nI b = nI (a * b) := (Int32.ofNat_mul a b).symm
theorem pk_div {a d : Nat} (ha : a < 2 ^ 31) (h0 : 0 < d) (hd : d < 2 ^ 31) : nI a / nI d = nI (a / d) := by
  apply Int32.toInt_inj.mp
  rw [lg_idiv_nonneg (by rw [nI_toInt ha]; omega) (by rw [nI_toInt hd]; omega), nI_toInt ha, nI_toInt hd, nI_toInt (Nat.lt_of_le_of_lt (Nat.div_le_self a d) ha)]
  first | rfl | exact (Int.natCast_ediv _ _).symm
theorem pk_rem {a d : Nat} (ha : a < 2 ^ 31) (h0 : 0 < d) (hd : d < 2 ^ 31) : nI a - nI a / nI d * nI d = nI (a % d) := by
  rw [pk_div ha h0 hd, pk_mul, pk_sub (Nat.div_mul_le_self a d)]
  exact congrArg nI (by have := Nat.div_add_mod' a d; omega)
theorem pk_sub_toInt {a b : Nat} (ha : a < 2 ^ 30) (hb : b < 2 ^ 30) : (nI a - nI b).toInt = (a : Int) - b := by
  rw [Int32.toInt_sub, nI_toInt (by omega), nI_toInt (by omega)]
  exact Int.bmod_eq_of_le (by omega) (by omega)
theorem pk_sneg {a b : Nat} (hb : b < 2 ^ 30) (h : a < b) : nI a - nI b < 0 := by
  rw [Int32.lt_iff_toInt_lt, pk_sub_toInt (by omega) hb, show (0 : Int32).toInt = 0 from by decide]
  omega
theorem pk_ix (x : Int32) {n : Nat} (hn : n < 2 ^ 31) : x < 0 ∨ nI n ≤ x ∨ ∃ j : Nat, j < n ∧ x = nI j := by
  by_cases h : x < 0
  · exact Or.inl h
  · obtain ⟨j, hj, rfl⟩ := nI_of h
    by_cases h2 : j < n
    · exact Or.inr (Or.inr ⟨j, h2, rfl⟩)
    · exact Or.inr (Or.inl (nI_le (by omega) hj))
theorem pk_le {x y : Int32} {A B : Prop} (a b : Nat) (f : a ≤ b → A) (g : b < a → B) (hx : x = nI a := by rfl) (hy : y = nI b := by rfl) (ha : a < 2 ^ 31 := by omega) (hb : b < 2 ^ 31 := by omega) : (x ≤ y → A) ∧ (¬ x ≤ y → B) := by
  subst hx hy
  rw [nI_leI ha hb]
  exact ⟨f, fun z => g (by omega)⟩
theorem pk_lt {x y : Int32} {A B : Prop} (a b : Nat) (f : a < b → A) (g : b ≤ a → B) (hx : x = nI a := by rfl) (hy : y = nI b := by rfl) (ha : a < 2 ^ 31 := by omega) (hb : b < 2 ^ 31 := by omega) : (x < y → A) ∧ (¬ x < y → B) := by
  subst hx hy
  rw [nI_ltI ha hb]
  exact ⟨f, fun z => g (by omega)⟩
theorem pk_eq {x y : Int32} {A B : Prop} (a b : Nat) (f : a = b → A) (g : a ≠ b → B) (hx : x = nI a := by rfl) (hy : y = nI b := by rfl) (ha : a < 2 ^ 31 := by omega) (hb : b < 2 ^ 31 := by omega) : (x = y → A) ∧ (¬ x = y → B) := by
  subst hx hy
  rw [nI_eq ha hb]
  exact ⟨f, g⟩
theorem pk_in {x : Int32} (n N : Nat) (h : n < N) (hx : x = nI n := by rfl) (hN : N < 2 ^ 31 := by omega) : vp_in x N := by
  subst hx
  exact vp_in_nI h hN
theorem pk_cl {x : Int32} (n : Nat) (hx : x = nI n := by rfl) (h : n < 2 ^ 31 := by omega) : x.toNatClampNeg = n := by
  subst hx
  exact nI_clamp h
theorem pk_tn {n : Nat} (h : n < 2 ^ 32) : (nI n).toBitVec.toNat = n := Nat.mod_eq_of_lt h
theorem pk_and (x : Int32) {m : Int32} (k : Nat) (hm : m.toBitVec.toNat = 2 ^ k - 1) : x &&& m = nI (x.toBitVec.toNat % 2 ^ k) := by
  apply Int32.toBitVec_inj.mp
  apply BitVec.eq_of_toNat_eq
  rw [Int32.toBitVec_and, BitVec.toNat_and, hm, Nat.and_two_pow_sub_one_eq_mod]
  show _ = (BitVec.ofNat 32 _).toNat
  rw [BitVec.toNat_ofNat]
  exact (Nat.mod_eq_of_lt (Nat.lt_of_le_of_lt (Nat.mod_le _ _) x.toBitVec.isLt)).symm
theorem pk_andN {n : Nat} (h : n < 2 ^ 32) {m : Int32} (k : Nat) (hm : m.toBitVec.toNat = 2 ^ k - 1) : nI n &&& m = nI (n % 2 ^ k) := by
  rw [pk_and _ k hm, pk_tn h]
theorem pk_andE (x : Int32) {m : Int32} (k : Nat) (hm : m.toBitVec.toNat = 2 ^ k - 1) : ∃ j : Nat, j < 2 ^ k ∧ x &&& m = nI j := ⟨_, Nat.mod_lt _ (Nat.two_pow_pos k), pk_and x k hm⟩
theorem pk_andIn (x : Int32) {m : Int32} (k : Nat) (hm : m.toBitVec.toNat = 2 ^ k - 1) (hk : k ≤ 30) : vp_in (x &&& m) (2 ^ k) := by
  obtain ⟨j, hj, e⟩ := pk_andE x k hm
  rw [e]
  exact vp_in_nI hj (Nat.lt_of_le_of_lt (Nat.pow_le_pow_right (by decide) hk) (by decide))
theorem pk_shl (a s : Int32) (k : Nat) (hs : (s.toBitVec.smod 32).toNat = k) : (a <<< s).toBitVec.toNat = a.toBitVec.toNat * 2 ^ k % 2 ^ 32 := by
  show (a.toBitVec <<< (s.toBitVec.smod 32).toNat).toNat = _
  rw [hs, BitVec.toNat_shiftLeft, Nat.shiftLeft_eq]
theorem pk_shlN {n : Nat} (s : Int32) (k : Nat) (hs : (s.toBitVec.smod 32).toNat = k) (h : n * 2 ^ k < 2 ^ 32) : nI n <<< s = nI (n * 2 ^ k) := by
  apply Int32.toBitVec_inj.mp
  apply BitVec.eq_of_toNat_eq
  have hn : n < 2 ^ 32 := Nat.lt_of_le_of_lt (Nat.le_mul_of_pos_right n (Nat.two_pow_pos k)) h
  rw [pk_shl _ _ k hs, pk_tn hn, pk_tn h, Nat.mod_eq_of_lt h]
theorem pk_shr (a s : Int32) (k : Nat) (hs : (s.toBitVec.smod 32).toNat = k) : (a >>> s).toInt = a.toInt >>> k := by
  show (a.toBitVec.sshiftRight (s.toBitVec.smod 32).toNat).toInt = _
  rw [hs, BitVec.toInt_sshiftRight]
  rfl
theorem pk_shrN {n : Nat} (h : n < 2 ^ 31) (s : Int32) (k : Nat) (hs : (s.toBitVec.smod 32).toNat = k) : nI n >>> s = nI (n / 2 ^ k) := by
  apply Int32.toInt_inj.mp
  have h2 : n / 2 ^ k ≤ n := Nat.div_le_self _ _
  rw [pk_shr _ _ k hs, nI_toInt h, nI_toInt (by omega), Int.shiftRight_eq_div_pow]
  rfl
theorem pk_least (P : Nat → Prop) (h : ∃ k, P k) : ∃ k, P k ∧ ∀ j, j < k → ¬ P j := by
  obtain ⟨k, hk⟩ := h
  induction k using Nat.strongRecOn with
  | ind k ih =>
    by_cases e : ∃ j, j < k ∧ P j
    · obtain ⟨j, hj, pj⟩ := e
      exact ih j hj pj
    · exact ⟨k, hk, fun j hj pj => e ⟨j, hj, pj⟩⟩
/-! ===== Int32 by its bits: bt x i ===== -/
def bt (x : Int32) (i : Nat) : Bool := x.toBitVec.getLsbD i
theorem b_ext {x y : Int32} (h : ∀ i, i < 32 → bt x i = bt y i) : x = y := Int32.toBitVec_inj.mp (BitVec.eq_of_getLsbD_eq (fun i hi => h i hi))
theorem b_or (x y : Int32) (i : Nat) : bt (x ||| y) i = (bt x i || bt y i) := by unfold bt; rw [Int32.toBitVec_or, BitVec.getLsbD_or]
theorem b_and (x y : Int32) (i : Nat) : bt (x &&& y) i = (bt x i && bt y i) := by unfold bt; rw [Int32.toBitVec_and, BitVec.getLsbD_and]
theorem b_xor (x y : Int32) (i : Nat) : bt (x ^^^ y) i = (bt x i ^^ bt y i) := by unfold bt; rw [Int32.toBitVec_xor, BitVec.getLsbD_xor]
theorem b_big {x : Int32} {i : Nat} (h : 32 ≤ i) : bt x i = false := BitVec.getLsbD_of_ge _ _ h
theorem b_255 (i : Nat) : bt 255 i = decide (i < 8) := by
  rcases Nat.lt_or_ge i 32 with h | h
  · exact (by decide +kernel : ∀ i, i < 32 → bt 255 i = decide (i < 8)) i h
  · rw [b_big h, decide_eq_false (by omega)]
theorem b_65535 (i : Nat) : bt 65535 i = decide (i < 16) := by
  rcases Nat.lt_or_ge i 32 with h | h
  · exact (by decide +kernel : ∀ i, i < 32 → bt 65535 i = decide (i < 16)) i h
  · rw [b_big h, decide_eq_false (by omega)]
theorem b_m1 : ∀ i, i < 32 → bt (-1) i = true := by decide +kernel
theorem b_0 (i : Nat) : bt 0 i = false := BitVec.getLsbD_zero
theorem s_l : ∀ n, n < 32 → ((nI n &&& 31).toBitVec.smod 32).toNat = n := by decide +kernel
theorem s_u : ∀ n, n < 32 → (((nI n).toUInt32 &&& Int32.toUInt32 31).toBitVec % 32).toNat = n := by decide +kernel
theorem b_shl (n : Nat) (hn : n < 32) (x : Int32) {i : Nat} (hi : i < 32) : bt (x <<< (nI n &&& 31)) i = (decide (n ≤ i) && bt x (i - n)) := by
  unfold bt
  rw [Int32.toBitVec_shiftLeft]
  show (x.toBitVec <<< ((nI n &&& 31).toBitVec.smod 32).toNat).getLsbD i = _
  rw [s_l n hn, BitVec.getLsbD_shiftLeft]
  rcases Nat.lt_or_ge i n with h | h
  · simp [h, Nat.not_le.mpr h]
  · simp [hi, h, Nat.not_lt.mpr h]
theorem b_ushr (n : Nat) (hn : n < 32) (x : Int32) (i : Nat) : bt ((x.toUInt32 >>> ((nI n).toUInt32 &&& Int32.toUInt32 31)).toInt32) i = bt x (n + i) := by
  show (x.toUInt32 >>> ((nI n).toUInt32 &&& Int32.toUInt32 31)).toBitVec.getLsbD i = x.toUInt32.toBitVec.getLsbD (n + i)
  rw [UInt32.toBitVec_shiftRight]
  show (x.toUInt32.toBitVec >>> (((nI n).toUInt32 &&& Int32.toUInt32 31).toBitVec % 32).toNat).getLsbD i = _
  rw [s_u n hn, BitVec.getLsbD_ushiftRight]
theorem b_sshr (n : Nat) (hn : n < 32) (x : Int32) {i : Nat} (hi : i < 32) : bt (x >>> (nI n &&& 31)) i = if n + i < 32 then bt x (n + i) else bt x 31 := by
  unfold bt
  rw [Int32.toBitVec_shiftRight]
  show (x.toBitVec.sshiftRight ((nI n &&& 31).toBitVec.smod 32).toNat).getLsbD i = _
  rw [s_l n hn, BitVec.getLsbD_sshiftRight, BitVec.msb_eq_getLsbD_last]
  simp [hi]
theorem b_shl8 (x : Int32) {i : Nat} (hi : i < 32) : bt (x <<< ((8 : Int32) &&& 31)) i = (decide (8 ≤ i) && bt x (i - 8)) := b_shl 8 (by omega) x hi
theorem b_shl16 (x : Int32) {i : Nat} (hi : i < 32) : bt (x <<< ((16 : Int32) &&& 31)) i = (decide (16 ≤ i) && bt x (i - 16)) := b_shl 16 (by omega) x hi
theorem b_shl24 (x : Int32) {i : Nat} (hi : i < 32) : bt (x <<< ((24 : Int32) &&& 31)) i = (decide (24 ≤ i) && bt x (i - 24)) := b_shl 24 (by omega) x hi
theorem b_sshr8 (x : Int32) {i : Nat} (hi : i < 32) : bt (x >>> ((8 : Int32) &&& 31)) i = if 8 + i < 32 then bt x (8 + i) else bt x 31 := b_sshr 8 (by omega) x hi
/-! ===== Int64 as a set of bits: test, set, clear ===== -/
theorem ts_nf {x : Bool} (h : ¬ x = false) : x = true := by cases x <;> first | rfl | exact absurd rfl h
theorem ts_nt {x : Bool} (h : ¬ x = true) : x = false := by cases x <;> first | rfl | exact absurd rfl h
theorem ts_bit {w : Int64} {s : UInt64} {j : Nat} (hj : j < 64) (hs : s.toNat = j) : ((w.toUInt64 >>> s).toInt64 &&& 1) = 0 ↔ w.toBitVec.getLsbD j = false := by
  have e : (w.toUInt64 >>> s).toInt64.toBitVec = w.toBitVec >>> j := by
    apply BitVec.eq_of_toNat_eq
    show (w.toUInt64 >>> s).toNat = _
    rw [UInt64.toNat_shiftRight, hs, Nat.mod_eq_of_lt hj, BitVec.toNat_ushiftRight]
    rfl
  rw [← Int64.toBitVec_inj, Int64.toBitVec_and, e]
  show w.toBitVec >>> j &&& 1#64 = 0#64 ↔ _
  constructor
  · intro h
    have t := congrArg (fun x => x.getLsbD 0) h
    simpa using t
  · intro h
    apply BitVec.eq_of_getLsbD_eq
    intro i hi
    cases i with
    | zero => simp [h]
    | succ i => simp
theorem ts_or {w m : Int64} {j : Nat} (hj : j < 64) (hm : m.toBitVec = BitVec.twoPow 64 j) : (w ||| m) = w ↔ w.toBitVec.getLsbD j = true := by
  rw [← Int64.toBitVec_inj, Int64.toBitVec_or, hm]
  constructor
  · intro h
    have t := congrArg (fun x => x.getLsbD j) h
    simp only [BitVec.getLsbD_or, BitVec.getLsbD_twoPow] at t
    simpa [hj] using t.symm
  · intro h
    apply BitVec.eq_of_getLsbD_eq
    intro i hi
    rw [BitVec.getLsbD_or, BitVec.getLsbD_twoPow]
    by_cases e : j = i
    · subst e; rw [h, Bool.true_or]
    · simp [e]
theorem ts_and {w m : Int64} {j : Nat} (hj : j < 64) (hm : m.toBitVec = BitVec.twoPow 64 j) : (w &&& (m ^^^ (-1))) = w ↔ w.toBitVec.getLsbD j = false := by
  have ha : (-1 : Int64).toBitVec = BitVec.allOnes 64 := by decide
  rw [← Int64.toBitVec_inj, Int64.toBitVec_and, Int64.toBitVec_xor, hm, ha]
  constructor
  · intro h
    have t := congrArg (fun x => x.getLsbD j) h
    simp only [BitVec.getLsbD_and, BitVec.getLsbD_xor, BitVec.getLsbD_twoPow, BitVec.getLsbD_allOnes] at t
    simpa [hj] using t.symm
  · intro h
    apply BitVec.eq_of_getLsbD_eq
    intro i hi
    rw [BitVec.getLsbD_and, BitVec.getLsbD_xor, BitVec.getLsbD_twoPow, BitVec.getLsbD_allOnes]
    by_cases e : j = i
    · subst e; rw [h, Bool.false_and]
    · simp [e, hi]
/-! ===== lN n to 2^64: shifts, and, or, masks, one bit ===== -/
theorem wb_tb (n : Nat) : (lN n).toBitVec = BitVec.ofNat 64 n := rfl
theorem wb_inj {a b : Int64} (h : a.toBitVec = b.toBitVec) : a = b := Int64.toBitVec_inj.mp h
theorem wb_tn {n : Nat} (h : n < 2 ^ 64) : (lN n).toBitVec.toNat = n := by rw [wb_tb, BitVec.toNat_ofNat, Nat.mod_eq_of_lt h]
theorem wb_of (x : Int64) : ∃ n, n < 2 ^ 64 ∧ x = lN n := ⟨x.toBitVec.toNat, x.toBitVec.isLt, wb_inj (by rw [wb_tb]; simp)⟩
theorem wb_of32 (x : Int32) : ∃ n, n < 2 ^ 32 ∧ x = nI n := ⟨x.toBitVec.toNat, x.toBitVec.isLt, Int32.toBitVec_inj.mp (by show _ = BitVec.ofNat 32 _; simp)⟩
theorem wb_c : ∀ k, k < 64 → ((nI k).toInt64 &&& 63) = lN k := by decide +kernel
theorem wb_cu : ∀ k, k < 64 → ((nI k).toInt64.toUInt64 &&& Int64.toUInt64 63) = UInt64.ofNat k := by decide +kernel
theorem wb_sm : ∀ k, k < 64 → (BitVec.ofNat 64 k).smod 64 = BitVec.ofNat 64 k := by decide +kernel
theorem wb_pw {a b : Nat} (h : a ≤ b) : 2 ^ b = 2 ^ a * 2 ^ (b - a) := by rw [← Nat.pow_add]; congr 1; omega
theorem wb_lt2 {a b : Nat} (h : a < b) : 2 ^ a < 2 ^ b := Nat.pow_lt_pow_right (by decide) h
theorem wb_mod (n : Nat) : lN n = lN (n % 2 ^ 64) := wb_inj (by rw [wb_tb, wb_tb]; apply BitVec.eq_of_toNat_eq; rw [BitVec.toNat_ofNat, BitVec.toNat_ofNat, Nat.mod_mod])
theorem wb_shr {n k : Nat} (hn : n < 2 ^ 64) (hk : k < 64) : ((lN n).toUInt64 >>> ((nI k).toInt64.toUInt64 &&& Int64.toUInt64 63)).toInt64 = lN (n / 2 ^ k) := by
  rw [wb_cu k hk]
  apply wb_inj
  apply BitVec.eq_of_toNat_eq
  show ((lN n).toUInt64 >>> UInt64.ofNat k).toNat = (BitVec.ofNat 64 _).toNat
  have h1 : (UInt64.ofNat k).toNat = k := by
    show (BitVec.ofNat 64 k).toNat = k
    rw [BitVec.toNat_ofNat, Nat.mod_eq_of_lt (by omega)]
  have h2 : (lN n).toUInt64.toNat = n := wb_tn hn
  rw [UInt64.toNat_shiftRight, h1, h2, Nat.mod_eq_of_lt hk, Nat.shiftRight_eq_div_pow, BitVec.toNat_ofNat, Nat.mod_eq_of_lt (Nat.lt_of_le_of_lt (Nat.div_le_self _ _) hn)]
theorem wb_shl (n : Nat) {k : Nat} (hk : k < 64) : lN n <<< ((nI k).toInt64 &&& 63) = lN (n * 2 ^ k) := by
  rw [wb_c k hk]
  apply wb_inj
  rw [Int64.toBitVec_shiftLeft, wb_tb, wb_tb, wb_tb, wb_sm k hk]
  apply BitVec.eq_of_toNat_eq
  rw [BitVec.shiftLeft_eq', BitVec.toNat_shiftLeft, BitVec.toNat_ofNat, BitVec.toNat_ofNat, BitVec.toNat_ofNat, Nat.mod_eq_of_lt (show k < 2 ^ 64 by omega), Nat.shiftLeft_eq, Nat.mul_mod, Nat.mod_mod, ← Nat.mul_mod]
theorem wb_and {a b : Nat} (ha : a < 2 ^ 64) (hb : b < 2 ^ 64) : lN a &&& lN b = lN (a &&& b) := by
  apply wb_inj
  rw [Int64.toBitVec_and, wb_tb, wb_tb, wb_tb]
  apply BitVec.eq_of_toNat_eq
  rw [BitVec.toNat_and, BitVec.toNat_ofNat, BitVec.toNat_ofNat, BitVec.toNat_ofNat, Nat.mod_eq_of_lt ha, Nat.mod_eq_of_lt hb, Nat.mod_eq_of_lt (Nat.and_lt_two_pow _ hb)]
theorem wb_or {a b : Nat} (ha : a < 2 ^ 64) (hb : b < 2 ^ 64) : lN a ||| lN b = lN (a ||| b) := by
  apply wb_inj
  rw [Int64.toBitVec_or, wb_tb, wb_tb, wb_tb]
  apply BitVec.eq_of_toNat_eq
  rw [BitVec.toNat_or, BitVec.toNat_ofNat, BitVec.toNat_ofNat, BitVec.toNat_ofNat, Nat.mod_eq_of_lt ha, Nat.mod_eq_of_lt hb, Nat.mod_eq_of_lt (Nat.or_lt_two_pow ha hb)]
theorem wb_mask {n k : Nat} (hn : n < 2 ^ 64) (hk : k < 64) : lN n &&& lN (2 ^ k - 1) = lN (n % 2 ^ k) := by
  rw [wb_and hn (by have := wb_lt2 hk; omega), Nat.and_two_pow_sub_one_eq_mod]
theorem wb_a1 {n : Nat} (hn : n < 2 ^ 64) : lN n &&& 1 = lN (n % 2) := wb_mask (k := 1) hn (by decide)
theorem wb_bit {n k : Nat} (hn : n < 2 ^ 64) (hk : k < 64) : ((lN n).toUInt64 >>> ((nI k).toInt64.toUInt64 &&& Int64.toUInt64 63)).toInt64 &&& 1 = lN (n / 2 ^ k % 2) := by
  rw [wb_shr hn hk, wb_a1 (Nat.lt_of_le_of_lt (Nat.div_le_self _ _) hn)]
end
section
/-! bits of Int64, tests of one bit, folds -/
def cs_bL (x : Int64) (i : Nat) : Bool := x.toBitVec.getLsbD i
theorem cs_L_ext {x y : Int64} (h : ∀ i, i < 64 → cs_bL x i = cs_bL y i) : x = y := Int64.toBitVec_inj.mp (BitVec.eq_of_getLsbD_eq (fun i hi => h i hi))
theorem cs_L_or (x y : Int64) (i : Nat) : cs_bL (x ||| y) i = (cs_bL x i || cs_bL y i) := by unfold cs_bL; rw [Int64.toBitVec_or, BitVec.getLsbD_or]
theorem cs_L_and (x y : Int64) (i : Nat) : cs_bL (x &&& y) i = (cs_bL x i && cs_bL y i) := by unfold cs_bL; rw [Int64.toBitVec_and, BitVec.getLsbD_and]
theorem cs_L_0 (i : Nat) : cs_bL 0 i = false := BitVec.getLsbD_zero
theorem cs_L_big {x : Int64} {i : Nat} (h : 64 ≤ i) : cs_bL x i = false := BitVec.getLsbD_of_ge _ _ h
theorem cs_L_1 : ∀ i, i < 64 → cs_bL 1 i = decide (i = 0) := by decide +kernel
theorem cs_b_1 : ∀ i, i < 32 → bt 1 i = decide (i = 0) := by decide +kernel
theorem cs_nt {b : Bool} (h : ¬ b = true) : b = false := by cases b <;> first | rfl | exact absurd rfl h
theorem cs_nf {b : Bool} (h : ¬ b = false) : b = true := by cases b <;> first | rfl | exact absurd rfl h
theorem cs_beq {a b : Bool} (h : a = true ↔ b = true) : a = b := by
  cases a <;> cases b <;> simp_all
/-- zero by its bits -/
theorem cs_z32 {x : Int32} (h : ∀ i, i < 32 → bt x i = false) : x = 0 := b_ext (fun i hi => by rw [h i hi, b_0])
theorem cs_nz32 {x : Int32} (h : ¬ x = 0) : ∃ i, i < 32 ∧ bt x i = true := Classical.byContradiction fun n => h (cs_z32 fun i hi => cs_nt fun t => n ⟨i, hi, t⟩)
theorem cs_zL {x : Int64} (h : ∀ i, i < 64 → cs_bL x i = false) : x = 0 := cs_L_ext (fun i hi => by rw [h i hi, cs_L_0])
theorem cs_nzL {x : Int64} (h : ¬ x = 0) : ∃ i, i < 64 ∧ cs_bL x i = true := Classical.byContradiction fun n => h (cs_zL fun i hi => cs_nt fun t => n ⟨i, hi, t⟩)
theorem cs_bnz {x : Int32} {i : Nat} (h : bt x i = true) : ¬ x = 0 := fun e => by rw [e, b_0] at h; exact absurd h (by decide)
theorem cs_Lnz {x : Int64} {i : Nat} (h : cs_bL x i = true) : ¬ x = 0 := fun e => by rw [e, cs_L_0] at h; exact absurd h (by decide)
/-- one bit asked -/
theorem cs_a1 (y : Int32) : (y &&& 1) = 1 ↔ bt y 0 = true := by
  constructor
  · intro h
    have := congrArg (fun z => bt z 0) h
    simp only [b_and, cs_b_1 0 (by decide)] at this
    simpa using this
  · intro h
    apply b_ext
    intro i hi
    rw [b_and, cs_b_1 i hi]
    by_cases e : i = 0
    · subst e; simp [h]
    · simp [e]
theorem cs_a0 (y : Int32) : (y &&& 1) = 0 ↔ bt y 0 = false := by
  constructor
  · intro h
    have := congrArg (fun z => bt z 0) h
    simp only [b_and, cs_b_1 0 (by decide), b_0] at this
    simpa using this
  · intro h
    apply cs_z32
    intro i hi
    rw [b_and, cs_b_1 i hi]
    by_cases e : i = 0
    · subst e; simp [h]
    · simp [e]
theorem cs_t1 {x : Int32} {k : Nat} (hk : k < 32) : ((x >>> (nI k &&& 31)) &&& 1) = 1 ↔ bt x k = true := by
  rw [cs_a1, b_sshr k hk x (by decide), if_pos (by omega), Nat.add_zero]
theorem cs_t0 {x : Int32} {k : Nat} (hk : k < 32) : ((x >>> (nI k &&& 31)) &&& 1) = 0 ↔ bt x k = false := by
  rw [cs_a0, b_sshr k hk x (by decide), if_pos (by omega), Nat.add_zero]
theorem cs_aL (y : Int64) : (y &&& 1) = 1 ↔ cs_bL y 0 = true := by
  constructor
  · intro h
    have := congrArg (fun z => cs_bL z 0) h
    simp only [cs_L_and, cs_L_1 0 (by decide)] at this
    simpa using this
  · intro h
    apply cs_L_ext
    intro i hi
    rw [cs_L_and, cs_L_1 i hi]
    by_cases e : i = 0
    · subst e; simp [h]
    · simp [e]
theorem cs_su : ∀ k, k < 64 → ((UInt64.ofNat k).toBitVec % 64).toNat = k := by decide +kernel
theorem cs_sl : ∀ k, k < 64 → (((nI k).toInt64 &&& 63).toBitVec.smod 64).toNat = k := by decide +kernel
theorem cs_L_ushr (P : Int64) {k : Nat} (hk : k < 64) (i : Nat) : cs_bL ((P.toUInt64 >>> ((nI k).toInt64.toUInt64 &&& Int64.toUInt64 63)).toInt64) i = cs_bL P (k + i) := by
  rw [wb_cu k hk]
  show (P.toUInt64 >>> UInt64.ofNat k).toBitVec.getLsbD i = P.toUInt64.toBitVec.getLsbD (k + i)
  rw [UInt64.toBitVec_shiftRight]
  show (P.toUInt64.toBitVec >>> ((UInt64.ofNat k).toBitVec % 64).toNat).getLsbD i = _
  rw [cs_su k hk, BitVec.getLsbD_ushiftRight]
theorem cs_tL {P : Int64} {k : Nat} (hk : k < 64) : (((P.toUInt64 >>> ((nI k).toInt64.toUInt64 &&& Int64.toUInt64 63)).toInt64) &&& 1) = 1 ↔ cs_bL P k = true := by
  rw [cs_aL, cs_L_ushr P hk, Nat.add_zero]
theorem cs_L_shl (x : Int64) {k : Nat} (hk : k < 64) {i : Nat} (hi : i < 64) : cs_bL (x <<< ((nI k).toInt64 &&& 63)) i = (decide (k ≤ i) && cs_bL x (i - k)) := by
  unfold cs_bL
  rw [Int64.toBitVec_shiftLeft]
  show (x.toBitVec <<< (((nI k).toInt64 &&& 63).toBitVec.smod 64).toNat).getLsbD i = _
  rw [cs_sl k hk, BitVec.getLsbD_shiftLeft]
  rcases Nat.lt_or_ge i k with h | h
  · simp [h, Nat.not_le.mpr h]
  · simp [hi, h, Nat.not_lt.mpr h]
/-- only the low eight bits -/
def cs_B8 (x : Int32) : Prop := ∀ i, 8 ≤ i → bt x i = false
theorem cs_L_i64 {x : Int32} (hx : cs_B8 x) {i : Nat} (hi : i < 64) : cs_bL x.toInt64 i = bt x i := by
  unfold cs_bL
  rw [Int32.toBitVec_toInt64, BitVec.getLsbD_signExtend, BitVec.msb_eq_getLsbD_last]
  have h31 : x.toBitVec.getLsbD 31 = false := hx 31 (by decide)
  rcases Nat.lt_or_ge i 32 with h | h
  · simp [hi, h, bt]
  · rw [if_neg (by omega), show 32 - 1 = 31 from rfl, h31, b_big h, Bool.and_false]
theorem cs_b_i32 (x : Int64) {i : Nat} (hi : i < 32) : bt x.toInt32 i = cs_bL x i := by
  unfold cs_bL bt
  rw [Int64.toBitVec_toInt32, BitVec.getLsbD_signExtend, if_pos (by omega)]
  simp [hi]
theorem cs_B8_0 : cs_B8 0 := fun i _ => b_0 i
theorem cs_B8_255 : cs_B8 255 := fun i hi => by rw [b_255]; exact decide_eq_false (by omega)
theorem cs_B8_or {x y : Int32} (hx : cs_B8 x) (hy : cs_B8 y) : cs_B8 (x ||| y) := fun i hi => by rw [b_or, hx i hi, hy i hi]; rfl
theorem cs_B8_and {x y : Int32} (hx : cs_B8 x) : cs_B8 (x &&& y) := fun i hi => by rw [b_and, hx i hi]; rfl
theorem cs_b_p2 : ∀ k, k < 32 → ∀ i, i < 32 → bt ((1 : Int32) <<< (nI k &&& 31)) i = decide (i = k) := by decide +kernel
theorem cs_b_p {k : Nat} (hk : k < 32) (i : Nat) : bt ((1 : Int32) <<< (nI k &&& 31)) i = decide (i = k) := by
  rcases Nat.lt_or_ge i 32 with h | h
  · exact cs_b_p2 k hk i h
  · rw [b_big h, decide_eq_false (by omega)]
theorem cs_B8_p {k : Nat} (hk : k < 8) : cs_B8 ((1 : Int32) <<< (nI k &&& 31)) := fun i hi => by rw [cs_b_p (by omega)]; exact decide_eq_false (by omega)
theorem cs_B8_ext {x y : Int32} (hx : cs_B8 x) (hy : cs_B8 y) (h : ∀ i, i < 8 → bt x i = bt y i) : x = y := b_ext fun i _ => by
  rcases Nat.lt_or_ge i 8 with z | z
  · exact h i z
  · rw [hx i z, hy i z]
/-- the 'or' of v k over the k below n that c takes, from b on -/
def cs_os (c : Nat → Bool) (v : Nat → Int32) (b : Int32) : Nat → Int32
  | 0 => b
  | n + 1 => bif c n then cs_os c v b n ||| v n else cs_os c v b n
def cs_oL (c : Nat → Bool) (v : Nat → Int64) (b : Int64) : Nat → Int64
  | 0 => b
  | n + 1 => bif c n then cs_oL c v b n ||| v n else cs_oL c v b n
theorem cs_os_b (c : Nat → Bool) (v : Nat → Int32) (b : Int32) (n i : Nat) : bt (cs_os c v b n) i = true ↔ bt b i = true ∨ ∃ k, k < n ∧ c k = true ∧ bt (v k) i = true := by
  induction n with
  | zero => exact ⟨Or.inl, fun h => h.elim id fun ⟨k, hk, _⟩ => absurd hk (by omega)⟩
  | succ n ih =>
    have e : bt (cs_os c v b (n + 1)) i = true ↔ bt (cs_os c v b n) i = true ∨ (c n = true ∧ bt (v n) i = true) := by
      show bt (bif c n then cs_os c v b n ||| v n else cs_os c v b n) i = true ↔ _
      cases hc : c n
      · simp
      · simp [b_or]
    rw [e, ih]
    constructor
    · rintro ((h | ⟨k, hk, h⟩) | h)
      · exact Or.inl h
      · exact Or.inr ⟨k, by omega, h⟩
      · exact Or.inr ⟨n, by omega, h⟩
    · rintro (h | ⟨k, hk, h⟩)
      · exact Or.inl (Or.inl h)
      · rcases Nat.lt_or_ge k n with z | z
        · exact Or.inl (Or.inr ⟨k, z, h⟩)
        · obtain rfl : k = n := by omega
          exact Or.inr h
theorem cs_oL_b (c : Nat → Bool) (v : Nat → Int64) (b : Int64) (n i : Nat) : cs_bL (cs_oL c v b n) i = true ↔ cs_bL b i = true ∨ ∃ k, k < n ∧ c k = true ∧ cs_bL (v k) i = true := by
  induction n with
  | zero => exact ⟨Or.inl, fun h => h.elim id fun ⟨k, hk, _⟩ => absurd hk (by omega)⟩
  | succ n ih =>
    have e : cs_bL (cs_oL c v b (n + 1)) i = true ↔ cs_bL (cs_oL c v b n) i = true ∨ (c n = true ∧ cs_bL (v n) i = true) := by
      show cs_bL (bif c n then cs_oL c v b n ||| v n else cs_oL c v b n) i = true ↔ _
      cases hc : c n
      · simp
      · simp [cs_L_or]
    rw [e, ih]
    constructor
    · rintro ((h | ⟨k, hk, h⟩) | h)
      · exact Or.inl h
      · exact Or.inr ⟨k, by omega, h⟩
      · exact Or.inr ⟨n, by omega, h⟩
    · rintro (h | ⟨k, hk, h⟩)
      · exact Or.inl (Or.inl h)
      · rcases Nat.lt_or_ge k n with z | z
        · exact Or.inl (Or.inr ⟨k, z, h⟩)
        · obtain rfl : k = n := by omega
          exact Or.inr h
theorem cs_os0 (c : Nat → Bool) (v : Nat → Int32) (n i : Nat) : bt (cs_os c v 0 n) i = true ↔ ∃ k, k < n ∧ c k = true ∧ bt (v k) i = true := by
  rw [cs_os_b, b_0]
  exact ⟨fun h => h.elim (fun z => absurd z (by decide)) id, Or.inr⟩
theorem cs_oL0 (c : Nat → Bool) (v : Nat → Int64) (n i : Nat) : cs_bL (cs_oL c v 0 n) i = true ↔ ∃ k, k < n ∧ c k = true ∧ cs_bL (v k) i = true := by
  rw [cs_oL_b, cs_L_0]
  exact ⟨fun h => h.elim (fun z => absurd z (by decide)) id, Or.inr⟩
theorem cs_os_cg {c c' : Nat → Bool} {v v' : Nat → Int32} {b : Int32} : ∀ n : Nat, (∀ k, k < n → c k = c' k) → (∀ k, k < n → c' k = true → v k = v' k) → cs_os c v b n = cs_os c' v' b n := by
  intro n
  induction n with
  | zero => intro _ _; rfl
  | succ n ih =>
    intro h1 h2
    show (bif c n then cs_os c v b n ||| v n else cs_os c v b n) = (bif c' n then cs_os c' v' b n ||| v' n else cs_os c' v' b n)
    rw [ih (fun k hk => h1 k (by omega)) (fun k hk => h2 k (by omega)), h1 n (by omega)]
    cases hc : c' n
    · rfl
    · rw [h2 n (by omega) hc]
theorem cs_B8_os {c : Nat → Bool} {v : Nat → Int32} {b : Int32} (n : Nat) (hb : cs_B8 b) (hv : ∀ k, k < n → c k = true → cs_B8 (v k)) : cs_B8 (cs_os c v b n) := fun i hi => cs_nt fun t => by
  rcases (cs_os_b c v b n i).mp t with h | ⟨k, hk, hc, h⟩
  · rw [hb i hi] at h; exact absurd h (by decide)
  · rw [hv k hk hc i hi] at h; exact absurd h (by decide)
/-! loop laws -/
theorem cs_lp {β : Type} (W : Nat → β → Int32 → Prop) (I : Nat → β → Prop) (N : Nat) (hx : ∀ n s, I N s → W (n + 1) s (nI N)) (hs : ∀ n k s, k < N → I k s → (∀ s', I (k + 1) s' → W n s' (nI (k + 1))) → W (n + 1) s (nI k)) (b : β) (h : I 0 b) : ∃ n, W n b 0 := by
  have H : ∀ d k s, k + d = N → I k s → W (d + 1) s (nI k) := by
    intro d
    induction d with
    | zero => intro k s hk hI; obtain rfl : k = N := by omega
              exact hx 0 _ hI
    | succ d ih => intro k s hk hI; exact hs _ _ _ (by omega) hI (fun s' h' => ih (k + 1) s' (by omega) h')
  exact ⟨N + 1, H N 0 b (by omega) h⟩
theorem cs_lo (W : Nat → Int32 → Int32 → Prop) (Q : Int32 → Prop) (c : Nat → Bool) (v : Nat → Int32) (N : Nat) (hx : ∀ n s, Q s → W (n + 1) s (nI N)) (h1 : ∀ n k s, k < N → c k = true → W n (s ||| v k) (nI (k + 1)) → W (n + 1) s (nI k)) (h0 : ∀ n k s, k < N → c k = false → W n s (nI (k + 1)) → W (n + 1) s (nI k)) (b : Int32) (h : Q (cs_os c v b N)) : ∃ n, W n b 0 := by
  refine cs_lp W (fun k s => s = cs_os c v b k) N (fun n s e => hx n s (by rw [e]; exact h)) ?_ b rfl
  intro n k s hk e H
  subst e
  have H' := H (cs_os c v b (k + 1)) rfl
  cases hc : c k
  · have e : cs_os c v b (k + 1) = cs_os c v b k := by
      show (bif c k then cs_os c v b k ||| v k else cs_os c v b k) = _
      rw [hc]; rfl
    rw [e] at H'
    exact h0 n k _ hk hc H'
  · have e : cs_os c v b (k + 1) = cs_os c v b k ||| v k := by
      show (bif c k then cs_os c v b k ||| v k else cs_os c v b k) = _
      rw [hc]; rfl
    rw [e] at H'
    exact h1 n k _ hk hc H'
theorem cs_lL (W : Nat → Int64 → Int32 → Prop) (Q : Int64 → Prop) (c : Nat → Bool) (v : Nat → Int64) (N : Nat) (hx : ∀ n s, Q s → W (n + 1) s (nI N)) (h1 : ∀ n k s, k < N → c k = true → W n (s ||| v k) (nI (k + 1)) → W (n + 1) s (nI k)) (h0 : ∀ n k s, k < N → c k = false → W n s (nI (k + 1)) → W (n + 1) s (nI k)) (b : Int64) (h : Q (cs_oL c v b N)) : ∃ n, W n b 0 := by
  refine cs_lp W (fun k s => s = cs_oL c v b k) N (fun n s e => hx n s (by rw [e]; exact h)) ?_ b rfl
  intro n k s hk e H
  subst e
  have H' := H (cs_oL c v b (k + 1)) rfl
  cases hc : c k
  · have e : cs_oL c v b (k + 1) = cs_oL c v b k := by
      show (bif c k then cs_oL c v b k ||| v k else cs_oL c v b k) = _
      rw [hc]; rfl
    rw [e] at H'
    exact h0 n k _ hk hc H'
  · have e : cs_oL c v b (k + 1) = cs_oL c v b k ||| v k := by
      show (bif c k then cs_oL c v b k ||| v k else cs_oL c v b k) = _
      rw [hc]; rfl
    rw [e] at H'
    exact h1 n k _ hk hc H'
/-! small numbers -/
theorem cs_8 {k : Nat} (h : k < 8) : ¬ (8 : Int32) ≤ nI k := nI_ge (b := 8) h (by decide)
theorem cs_64 {k : Nat} (h : k < 64) : ¬ (64 : Int32) ≤ nI k := nI_ge (b := 64) h (by decide)
theorem cs_256 {k : Nat} (h : k < 256) : ¬ (256 : Int32) ≤ nI k := nI_ge (b := 256) h (by decide)
theorem cs_3 {k : Nat} (h : k < 3) : ¬ (3 : Int32) ≤ nI k := nI_ge (b := 3) h (by decide)
theorem cs_m3 (q a : Nat) : nI q * 3 + nI a = nI (q * 3 + a) := by rw [show (3 : Int32) = nI 3 from rfl, pk_mul, nI_add]
theorem cs_m8 (p q : Nat) : nI p * 8 + nI q = nI (p * 8 + q) := by rw [show (8 : Int32) = nI 8 from rfl, pk_mul, nI_add]
theorem cs_x8 (p : Nat) : nI p * 8 = nI (p * 8) := by rw [show (8 : Int32) = nI 8 from rfl, pk_mul]
theorem cs_m256 (p q : Nat) : nI p * 256 + nI q = nI (p * 256 + q) := by rw [show (256 : Int32) = nI 256 from rfl, pk_mul, nI_add]
theorem cs_m41 (c a : Nat) : nI c * 4 + nI a + 1 = nI (c * 4 + a + 1) := by rw [show (4 : Int32) = nI 4 from rfl, pk_mul, nI_add, nI_1]
theorem cs_i3 {q a : Nat} (hq : q < 8) (ha : a < 3) : vp_in (nI q * 3 + nI a) 24 := by rw [cs_m3]; exact vp_in_nI (by omega) (by decide)
theorem cs_j3 {q a : Nat} (hq : q < 8) (ha : a < 3) : (nI q * 3 + nI a).toNatClampNeg = q * 3 + a := by rw [cs_m3]; exact nI_clamp (by omega)
end
section
/-! the pure functions of both sides, by their bits -/
def cs_sn (nx : Nat → Int32) (S : Int32) (a : Nat) : Int32 := cs_os (fun k => bt S k) (fun k => nx (k * 3 + a)) 0 8
def cs_nr (rf : Nat → Int32) (S : Int32) : Int32 := cs_os (fun k => bt S k) rf 0 8
def cs_grid (f g : Int32) : Int64 := cs_oL (fun p => bt f p) (fun p => g.toInt64 <<< ((nI p * 8).toInt64 &&& 63)) 0 8
def cs_row (P : Int64) (p : Nat) : Int32 := (((P.toUInt64 >>> ((nI p * 8).toInt64.toUInt64 &&& Int64.toUInt64 63)).toInt64).toInt32) &&& 255
def cs_srow (nx : Nat → Int32) (sh : Int32) (p : Nat) (row : Int32) (a : Nat) : Int64 := bif bt sh a then cs_grid (nx (p * 3 + a)) (cs_sn nx row a) else cs_grid (nx (p * 3 + a)) row ||| ((cs_sn nx row a).toInt64 <<< ((nI p * 8).toInt64 &&& 63))
def cs_step (nx : Nat → Int32) (sh : Int32) (P : Int64) (a : Nat) : Int64 := cs_oL (fun p => !decide (cs_row P p = 0)) (fun p => cs_srow nx sh p (cs_row P p) a) 0 8
theorem cs_sh_b {g : Int32} (hg : cs_B8 g) {p i : Nat} (hp : p < 8) (hi : i < 64) : cs_bL (g.toInt64 <<< ((nI p * 8).toInt64 &&& 63)) i = true ↔ p = i / 8 ∧ bt g (i % 8) = true := by
  rw [cs_x8, cs_L_shl _ (by omega) hi, Bool.and_eq_true, decide_eq_true_eq]
  constructor
  · rintro ⟨h1, h2⟩
    rw [cs_L_i64 hg (by omega)] at h2
    have h3 : i - p * 8 < 8 := by
      rcases Nat.lt_or_ge (i - p * 8) 8 with z | z
      · exact z
      · rw [hg _ z] at h2; exact absurd h2 (by decide)
    have h4 : i - p * 8 = i % 8 := by omega
    rw [h4] at h2
    exact ⟨by omega, h2⟩
  · rintro ⟨h1, h2⟩
    have h4 : i - p * 8 = i % 8 := by omega
    rw [h4, cs_L_i64 hg (by omega)]
    exact ⟨by omega, h2⟩
theorem cs_grid_b {f g : Int32} (hg : cs_B8 g) {i : Nat} (hi : i < 64) : cs_bL (cs_grid f g) i = true ↔ bt f (i / 8) = true ∧ bt g (i % 8) = true := by
  unfold cs_grid
  rw [cs_oL0]
  constructor
  · rintro ⟨k, hk, hc, h⟩
    obtain ⟨rfl, h2⟩ := (cs_sh_b hg hk hi).mp h
    exact ⟨hc, h2⟩
  · rintro ⟨h1, h2⟩
    exact ⟨i / 8, by omega, h1, (cs_sh_b hg (by omega) hi).mpr ⟨rfl, h2⟩⟩
theorem cs_row_b (P : Int64) {p q : Nat} (hp : p < 8) : bt (cs_row P p) q = true ↔ q < 8 ∧ cs_bL P (p * 8 + q) = true := by
  unfold cs_row
  rw [b_and, b_255, cs_x8, Bool.and_eq_true, decide_eq_true_eq]
  constructor
  · rintro ⟨h1, h2⟩
    rw [cs_b_i32 _ (by omega), cs_L_ushr P (by omega)] at h1
    exact ⟨h2, h1⟩
  · rintro ⟨h1, h2⟩
    rw [cs_b_i32 _ (by omega), cs_L_ushr P (by omega)]
    exact ⟨h2, h1⟩
theorem cs_row_B8 (P : Int64) (p : Nat) : cs_B8 (cs_row P p) := fun i hi => by
  unfold cs_row
  rw [b_and, cs_B8_255 i hi, Bool.and_false]
theorem cs_sn_b (nx : Nat → Int32) (S : Int32) (a i : Nat) : bt (cs_sn nx S a) i = true ↔ ∃ k, k < 8 ∧ bt S k = true ∧ bt (nx (k * 3 + a)) i = true := cs_os0 _ _ _ _
theorem cs_nr_b (rf : Nat → Int32) (S : Int32) (i : Nat) : bt (cs_nr rf S) i = true ↔ ∃ k, k < 8 ∧ bt S k = true ∧ bt (rf k) i = true := cs_os0 _ _ _ _
theorem cs_sn_B8 {nx : Nat → Int32} (hnx : ∀ i, cs_B8 (nx i)) (S : Int32) (a : Nat) : cs_B8 (cs_sn nx S a) := cs_B8_os 8 cs_B8_0 fun _ _ _ => hnx _
/-- one step of a pair -/
def cs_tr (nx : Nat → Int32) (sh : Int32) (a p q p' q' : Nat) : Prop := (bt sh a = true ∧ bt (nx (p * 3 + a)) p' = true ∧ bt (nx (q * 3 + a)) q' = true) ∨ (bt sh a = false ∧ ((bt (nx (p * 3 + a)) p' = true ∧ q' = q) ∨ (p' = p ∧ bt (nx (q * 3 + a)) q' = true)))
theorem cs_srow_b {nx : Nat → Int32} (hnx : ∀ i, cs_B8 (nx i)) {sh row : Int32} (hr : cs_B8 row) {a p i : Nat} (hp : p < 8) (hi : i < 64) : cs_bL (cs_srow nx sh p row a) i = true ↔ ∃ q, q < 8 ∧ bt row q = true ∧ cs_tr nx sh a p q (i / 8) (i % 8) := by
  unfold cs_srow cs_tr
  cases hs : bt sh a
  · show cs_bL (cs_grid (nx (p * 3 + a)) row ||| ((cs_sn nx row a).toInt64 <<< ((nI p * 8).toInt64 &&& 63))) i = true ↔ _
    rw [cs_L_or, Bool.or_eq_true, cs_grid_b hr hi, cs_sh_b (cs_sn_B8 hnx _ _) hp hi, cs_sn_b]
    constructor
    · rintro (⟨h1, h2⟩ | ⟨h1, k, hk, h2, h3⟩)
      · exact ⟨i % 8, by omega, h2, Or.inr ⟨rfl, Or.inl ⟨h1, rfl⟩⟩⟩
      · exact ⟨k, hk, h2, Or.inr ⟨rfl, Or.inr ⟨h1.symm, h3⟩⟩⟩
    · rintro ⟨q, hq, h1, (⟨h2, _⟩ | ⟨_, (⟨h2, h3⟩ | ⟨h2, h3⟩)⟩)⟩
      · exact absurd h2 (by decide)
      · exact Or.inl ⟨h2, by rw [h3]; exact h1⟩
      · exact Or.inr ⟨h2.symm, q, hq, h1, h3⟩
  · show cs_bL (cs_grid (nx (p * 3 + a)) (cs_sn nx row a)) i = true ↔ _
    rw [cs_grid_b (cs_sn_B8 hnx _ _) hi, cs_sn_b]
    constructor
    · rintro ⟨h1, k, hk, h2, h3⟩
      exact ⟨k, hk, h2, Or.inl ⟨rfl, h1, h3⟩⟩
    · rintro ⟨q, hq, h1, (⟨_, h2, h3⟩ | ⟨h2, _⟩)⟩
      · exact ⟨h2, q, hq, h1, h3⟩
      · exact absurd h2 (by decide)
theorem cs_step_b {nx : Nat → Int32} (hnx : ∀ i, cs_B8 (nx i)) (sh : Int32) (P : Int64) (a : Nat) {i : Nat} (hi : i < 64) : cs_bL (cs_step nx sh P a) i = true ↔ ∃ p q, p < 8 ∧ q < 8 ∧ cs_bL P (p * 8 + q) = true ∧ cs_tr nx sh a p q (i / 8) (i % 8) := by
  unfold cs_step
  rw [cs_oL0]
  constructor
  · rintro ⟨p, hp, _, h⟩
    obtain ⟨q, hq, h1, h2⟩ := (cs_srow_b hnx (cs_row_B8 P p) hp hi).mp h
    exact ⟨p, q, hp, hq, ((cs_row_b P hp).mp h1).2, h2⟩
  · rintro ⟨p, q, hp, hq, h1, h2⟩
    have hb : bt (cs_row P p) q = true := (cs_row_b P hp).mpr ⟨hq, h1⟩
    have hd : (!decide (cs_row P p = 0)) = true := by rw [decide_eq_false (cs_bnz hb)]; rfl
    exact ⟨p, hp, hd, (cs_srow_b hnx (cs_row_B8 P p) hp hi).mpr ⟨q, hq, hb, h2⟩⟩
theorem cs_step_0 {nx : Nat → Int32} (hnx : ∀ i, cs_B8 (nx i)) (sh : Int32) (a : Nat) : cs_step nx sh 0 a = 0 := cs_zL fun i hi => cs_nt fun t => by
  obtain ⟨p, q, _, _, h, _⟩ := (cs_step_b hnx sh 0 a hi).mp t
  rw [cs_L_0] at h
  exact absurd h (by decide)
/-- the refusals of two that share s -/
def cs_cnd (s y z : Nat) : Bool := decide ((nI y ||| nI s) = (nI z ||| nI s))
def cs_j1 (s : Nat) (f g : Int32) (y : Nat) (acc : Int32) : Int32 := cs_os (fun z => bt f y && bt g z && cs_cnd s y z) (fun z => (1 : Int32) <<< ((nI y ||| nI z) &&& 31)) acc 8
def cs_jf (s : Nat) (f g : Int32) : Nat → Int32
  | 0 => 0
  | n + 1 => cs_j1 s f g n (cs_jf s f g n)
def cs_jn (s : Nat) (f g : Int32) : Int32 := cs_jf s f g 8
def cs_Jb (s : Nat) (f g : Int32) (r : Nat) : Prop := ∃ y z, y < 8 ∧ z < 8 ∧ bt f y = true ∧ bt g z = true ∧ cs_cnd s y z = true ∧ bt ((1 : Int32) <<< ((nI y ||| nI z) &&& 31)) r = true
theorem cs_jf_b (s : Nat) (f g : Int32) (r : Nat) : ∀ n, bt (cs_jf s f g n) r = true ↔ ∃ y z, y < n ∧ z < 8 ∧ bt f y = true ∧ bt g z = true ∧ cs_cnd s y z = true ∧ bt ((1 : Int32) <<< ((nI y ||| nI z) &&& 31)) r = true := by
  intro n
  induction n with
  | zero =>
    show bt 0 r = true ↔ _
    rw [b_0]
    exact ⟨fun h => absurd h (by decide), fun ⟨y, z, h, _⟩ => absurd h (by omega)⟩
  | succ n ih =>
    show bt (cs_os _ _ (cs_jf s f g n) 8) r = true ↔ _
    rw [cs_os_b, ih]
    constructor
    · rintro (⟨y, z, h1, h2⟩ | ⟨z, hz, h1, h2⟩)
      · exact ⟨y, z, by omega, h2⟩
      · rw [Bool.and_eq_true, Bool.and_eq_true] at h1
        exact ⟨n, z, by omega, hz, h1.1.1, h1.1.2, h1.2, h2⟩
    · rintro ⟨y, z, h1, hz, h2, h3, h4, h5⟩
      rcases Nat.lt_or_ge y n with e | e
      · exact Or.inl ⟨y, z, e, hz, h2, h3, h4, h5⟩
      · obtain rfl : y = n := by omega
        exact Or.inr ⟨z, hz, by rw [Bool.and_eq_true, Bool.and_eq_true]; exact ⟨⟨h2, h3⟩, h4⟩, h5⟩
theorem cs_jn_b (s : Nat) (f g : Int32) (r : Nat) : bt (cs_jn s f g) r = true ↔ cs_Jb s f g r := cs_jf_b s f g r 8
theorem cs_yz : ∀ y, y < 8 → ∀ z, z < 8 → ∀ r, r < 32 → 8 ≤ r → bt ((1 : Int32) <<< ((nI y ||| nI z) &&& 31)) r = false := by decide +kernel
theorem cs_jn_B8 (s : Nat) (f g : Int32) : cs_B8 (cs_jn s f g) := fun i hi => cs_nt fun t => by
  rcases Nat.lt_or_ge i 32 with h | h
  · obtain ⟨y, z, hy, hz, _, _, _, h5⟩ := (cs_jn_b s f g i).mp t
    rw [cs_yz y hy z hz i h hi] at h5
    exact absurd h5 (by decide)
  · rw [b_big h] at t
    exact absurd t (by decide)
/-- the refusals of a set of pairs -/
def cs_Rf (s : Nat) (rf : Nat → Int32) (P : Int64) : Int32 := cs_os (fun b => cs_bL P b) (fun b => cs_jn s (rf (b / 8)) (rf (b % 8))) 0 64
theorem cs_Rf_b (s : Nat) (rf : Nat → Int32) (P : Int64) (r : Nat) : bt (cs_Rf s rf P) r = true ↔ ∃ p q, p < 8 ∧ q < 8 ∧ cs_bL P (p * 8 + q) = true ∧ cs_Jb s (rf p) (rf q) r := by
  unfold cs_Rf
  rw [cs_os0]
  constructor
  · rintro ⟨k, hk, h1, h2⟩
    refine ⟨k / 8, k % 8, by omega, by omega, ?_, (cs_jn_b _ _ _ _).mp h2⟩
    rw [show k / 8 * 8 + k % 8 = k by omega]
    exact h1
  · rintro ⟨p, q, hp, hq, h1, h2⟩
    refine ⟨p * 8 + q, by omega, h1, ?_⟩
    show bt (cs_jn s (rf ((p * 8 + q) / 8)) (rf ((p * 8 + q) % 8))) r = true
    rw [show (p * 8 + q) / 8 = p by omega, show (p * 8 + q) % 8 = q by omega]
    exact (cs_jn_b _ _ _ _).mpr h2
theorem cs_Rf_B8 (s : Nat) (rf : Nat → Int32) (P : Int64) : cs_B8 (cs_Rf s rf P) := cs_B8_os 64 cs_B8_0 fun _ _ _ => cs_jn_B8 _ _ _
theorem cs_00 : ∀ s, s < 8 → cs_cnd s 0 0 = true ∧ bt ((1 : Int32) <<< ((nI 0 ||| nI 0) &&& 31)) 0 = true := by decide +kernel
theorem cs_Rf_0 {s : Nat} (hs : s < 8) {rf : Nat → Int32} (hr : ∀ k, k < 8 → bt (rf k) 0 = true) (P : Int64) : cs_Rf s rf P = 0 ↔ P = 0 := by
  constructor
  · intro h
    refine Classical.byContradiction fun n => ?_
    obtain ⟨i, hi, t⟩ := cs_nzL n
    have t' : bt (cs_Rf s rf P) 0 = true := (cs_Rf_b _ _ _ _).mpr ⟨i / 8, i % 8, by omega, by omega, by rw [show i / 8 * 8 + i % 8 = i by omega]; exact t, 0, 0, by omega, by omega, hr _ (by omega), hr _ (by omega), (cs_00 s hs).1, (cs_00 s hs).2⟩
    exact cs_bnz t' h
  · intro h
    subst h
    refine cs_z32 fun i _ => cs_nt fun t => ?_
    obtain ⟨p, q, _, _, h, _⟩ := (cs_Rf_b _ _ _ _).mp t
    rw [cs_L_0] at h
    exact absurd h (by decide)
theorem cs_nr_0 {rf : Nat → Int32} (hr : ∀ k, k < 8 → bt (rf k) 0 = true) {S : Int32} (hS : cs_B8 S) : cs_nr rf S = 0 ↔ S = 0 := by
  constructor
  · intro h
    refine Classical.byContradiction fun n => ?_
    obtain ⟨i, hi, t⟩ := cs_nz32 n
    have h8 : i < 8 := by
      rcases Nat.lt_or_ge i 8 with z | z
      · exact z
      · rw [hS i z] at t; exact absurd t (by decide)
    exact cs_bnz ((cs_nr_b _ _ _).mpr ⟨i, h8, t, hr i h8⟩) h
  · intro h
    subst h
    refine cs_z32 fun i _ => cs_nt fun t => ?_
    obtain ⟨k, _, h, _⟩ := (cs_nr_b _ _ _).mp t
    rw [b_0] at h
    exact absurd h (by decide)
/-! words -/
def cs_F (nx rf : Nat → Int32) : List Nat → Nat → Int32
  | [], k => rf k
  | a :: w, k => cs_os (fun b => bt (nx (k * 3 + a)) b) (cs_F nx rf w) 0 8
def cs_NS (nx : Nat → Int32) (w : List Nat) (S : Int32) : Int32 := w.foldl (cs_sn nx) S
def cs_PS (nx : Nat → Int32) (sh : Int32) (w : List Nat) (P : Int64) : Int64 := w.foldl (cs_step nx sh) P
theorem cs_F_b (nx rf : Nat → Int32) (a : Nat) (w : List Nat) (k r : Nat) : bt (cs_F nx rf (a :: w) k) r = true ↔ ∃ b, b < 8 ∧ bt (nx (k * 3 + a)) b = true ∧ bt (cs_F nx rf w b) r = true := cs_os0 _ _ _ _
theorem cs_nr_NS (nx rf : Nat → Int32) (r : Nat) : ∀ (w : List Nat) (S : Int32), bt (cs_nr rf (cs_NS nx w S)) r = true ↔ ∃ k, k < 8 ∧ bt S k = true ∧ bt (cs_F nx rf w k) r = true := by
  intro w
  induction w with
  | nil => intro S; exact cs_nr_b _ _ _
  | cons a w ih =>
    intro S
    show bt (cs_nr rf (cs_NS nx w (cs_sn nx S a))) r = true ↔ _
    rw [ih]
    constructor
    · rintro ⟨b, hb, h1, h2⟩
      obtain ⟨k, hk, h3, h4⟩ := (cs_sn_b _ _ _ _).mp h1
      exact ⟨k, hk, h3, (cs_F_b _ _ _ _ _ _).mpr ⟨b, hb, h4, h2⟩⟩
    · rintro ⟨k, hk, h3, h5⟩
      obtain ⟨b, hb, h4, h2⟩ := (cs_F_b _ _ _ _ _ _).mp h5
      exact ⟨b, hb, (cs_sn_b _ _ _ _).mpr ⟨k, hk, h3, h4⟩, h2⟩
theorem cs_nr_F (nx rf : Nat → Int32) (w : List Nat) {k : Nat} (hk : k < 8) : cs_nr rf (cs_NS nx w ((1 : Int32) <<< (nI k &&& 31))) = cs_F nx rf w k := b_ext fun r _ => cs_beq (by
  rw [cs_nr_NS]
  constructor
  · rintro ⟨k', _, h1, h2⟩
    rw [cs_b_p (by omega), decide_eq_true_eq] at h1
    rw [← h1]; exact h2
  · intro h
    exact ⟨k, hk, by rw [cs_b_p (by omega), decide_eq_true_eq], h⟩)
theorem cs_NS_B8 {nx : Nat → Int32} (hnx : ∀ i, cs_B8 (nx i)) : ∀ (w : List Nat) (S : Int32), cs_B8 S → cs_B8 (cs_NS nx w S) := by
  intro w
  induction w with
  | nil => intro S h; exact h
  | cons a w ih => intro S _; exact ih _ (cs_sn_B8 hnx _ _)
/-- the refusals of a pair after a word, by its first event -/
def cs_G (nx : Nat → Int32) (s : Nat) (rf : Nat → Int32) : List Nat → Nat → Nat → Nat → Prop
  | [], p, q, r => cs_Jb s (rf p) (rf q) r
  | a :: w, p, q, r => ∃ p' q', p' < 8 ∧ q' < 8 ∧ cs_tr nx (nI s) a p q p' q' ∧ cs_G nx s rf w p' q' r
theorem cs_Rf_PS {nx : Nat → Int32} (hnx : ∀ i, cs_B8 (nx i)) (s : Nat) (rf : Nat → Int32) (r : Nat) : ∀ (w : List Nat) (P : Int64), bt (cs_Rf s rf (cs_PS nx (nI s) w P)) r = true ↔ ∃ p q, p < 8 ∧ q < 8 ∧ cs_bL P (p * 8 + q) = true ∧ cs_G nx s rf w p q r := by
  intro w
  induction w with
  | nil => intro P; exact cs_Rf_b _ _ _ _
  | cons a w ih =>
    intro P
    show bt (cs_Rf s rf (cs_PS nx (nI s) w (cs_step nx (nI s) P a))) r = true ↔ _
    rw [ih]
    constructor
    · rintro ⟨p', q', hp', hq', h1, h2⟩
      obtain ⟨p, q, hp, hq, h3, h4⟩ := (cs_step_b hnx _ _ _ (by omega)).mp h1
      rw [show (p' * 8 + q') / 8 = p' by omega, show (p' * 8 + q') % 8 = q' by omega] at h4
      exact ⟨p, q, hp, hq, h3, p', q', hp', hq', h4, h2⟩
    · rintro ⟨p, q, hp, hq, h3, p', q', hp', hq', h4, h2⟩
      refine ⟨p', q', hp', hq', (cs_step_b hnx _ _ _ (by omega)).mpr ⟨p, q, hp, hq, h3, ?_⟩, h2⟩
      rw [show (p' * 8 + q') / 8 = p' by omega, show (p' * 8 + q') % 8 = q' by omega]
      exact h4
/-- the part of a word that the first (second) does, m's bits saying who does what is not shared -/
def cs_pl (sh : Int32) (sec : Bool) : List Nat → Nat → List Nat
  | [], _ => []
  | a :: w, m => bif (bt sh a || (decide (m % 2 = 1) == sec)) then a :: cs_pl sh sec w (m / 2) else cs_pl sh sec w (m / 2)
theorem cs_pl_t {sh : Int32} {sec : Bool} {a : Nat} {w : List Nat} {m : Nat} (h : (bt sh a || (decide (m % 2 = 1) == sec)) = true) : cs_pl sh sec (a :: w) m = a :: cs_pl sh sec w (m / 2) := by
  show (bif (bt sh a || (decide (m % 2 = 1) == sec)) then _ else _) = _
  rw [h]; rfl
theorem cs_pl_f {sh : Int32} {sec : Bool} {a : Nat} {w : List Nat} {m : Nat} (h : (bt sh a || (decide (m % 2 = 1) == sec)) = false) : cs_pl sh sec (a :: w) m = cs_pl sh sec w (m / 2) := by
  show (bif (bt sh a || (decide (m % 2 = 1) == sec)) then _ else _) = _
  rw [h]; rfl
theorem cs_J_l (nx rf : Nat → Int32) (s a : Nat) (w : List Nat) (p : Nat) (g : Int32) (r : Nat) : cs_Jb s (cs_F nx rf (a :: w) p) g r ↔ ∃ p', p' < 8 ∧ bt (nx (p * 3 + a)) p' = true ∧ cs_Jb s (cs_F nx rf w p') g r := by
  constructor
  · rintro ⟨y, z, hy, hz, h1, h2⟩
    obtain ⟨b, hb, h3, h4⟩ := (cs_F_b _ _ _ _ _ _).mp h1
    exact ⟨b, hb, h3, y, z, hy, hz, h4, h2⟩
  · rintro ⟨b, hb, h3, y, z, hy, hz, h4, h2⟩
    exact ⟨y, z, hy, hz, (cs_F_b _ _ _ _ _ _).mpr ⟨b, hb, h3, h4⟩, h2⟩
theorem cs_J_r (nx rf : Nat → Int32) (s a : Nat) (w : List Nat) (q : Nat) (f : Int32) (r : Nat) : cs_Jb s f (cs_F nx rf (a :: w) q) r ↔ ∃ q', q' < 8 ∧ bt (nx (q * 3 + a)) q' = true ∧ cs_Jb s f (cs_F nx rf w q') r := by
  constructor
  · rintro ⟨y, z, hy, hz, h0, h1, h2⟩
    obtain ⟨b, hb, h3, h4⟩ := (cs_F_b _ _ _ _ _ _).mp h1
    exact ⟨b, hb, h3, y, z, hy, hz, h0, h4, h2⟩
  · rintro ⟨b, hb, h3, y, z, hy, hz, h0, h4, h2⟩
    exact ⟨y, z, hy, hz, h0, (cs_F_b _ _ _ _ _ _).mpr ⟨b, hb, h3, h4⟩, h2⟩
theorem cs_G_pl (nx rf : Nat → Int32) (s : Nat) (r : Nat) : ∀ (w : List Nat) (p q : Nat), p < 8 → q < 8 → (cs_G nx s rf w p q r ↔ ∃ m, m < 2 ^ w.length ∧ cs_Jb s (cs_F nx rf (cs_pl (nI s) false w m) p) (cs_F nx rf (cs_pl (nI s) true w m) q) r) := by
  intro w
  induction w with
  | nil =>
    intro p q _ _
    exact ⟨fun h => ⟨0, by decide, h⟩, fun ⟨_, _, h⟩ => h⟩
  | cons a w ih =>
    intro p q hp hq
    have e2 : 2 ^ (a :: w).length = 2 * 2 ^ w.length := by rw [List.length_cons, Nat.pow_succ, Nat.mul_comm]
    constructor
    · rintro ⟨p', q', hp', hq', ht, hG⟩
      obtain ⟨m, hm, hJ⟩ := (ih p' q' hp' hq').mp hG
      rcases ht with ⟨hs, h1, h2⟩ | ⟨hs, (⟨h1, h2⟩ | ⟨h1, h2⟩)⟩
      · refine ⟨2 * m, by rw [e2]; omega, ?_⟩
        rw [cs_pl_t (by rw [hs]; rfl), cs_pl_t (by rw [hs]; rfl), show 2 * m / 2 = m by omega, cs_J_l]
        refine ⟨p', hp', h1, ?_⟩
        rw [cs_J_r]
        exact ⟨q', hq', h2, hJ⟩
      · refine ⟨2 * m, by rw [e2]; omega, ?_⟩
        rw [cs_pl_t (by rw [show 2 * m % 2 = 0 by omega, hs]; rfl), cs_pl_f (by rw [show 2 * m % 2 = 0 by omega, hs]; rfl), show 2 * m / 2 = m by omega, cs_J_l]
        exact ⟨p', hp', h1, by rw [← h2]; exact hJ⟩
      · refine ⟨2 * m + 1, by rw [e2]; omega, ?_⟩
        rw [cs_pl_f (by rw [show (2 * m + 1) % 2 = 1 by omega, hs]; rfl), cs_pl_t (by rw [show (2 * m + 1) % 2 = 1 by omega, hs]; rfl), show (2 * m + 1) / 2 = m by omega, cs_J_r]
        exact ⟨q', hq', h2, by rw [← h1]; exact hJ⟩
    · rintro ⟨m, hm, hJ⟩
      rw [e2] at hm
      cases hs : bt (nI s) a
      · rcases Nat.mod_two_eq_zero_or_one m with e | e
        · rw [cs_pl_t (by rw [e, hs]; rfl), cs_pl_f (by rw [e, hs]; rfl), cs_J_l] at hJ
          obtain ⟨p', hp', h1, h2⟩ := hJ
          exact ⟨p', q, hp', hq, Or.inr ⟨hs, Or.inl ⟨h1, rfl⟩⟩, (ih p' q hp' hq).mpr ⟨m / 2, by omega, h2⟩⟩
        · rw [cs_pl_f (by rw [e, hs]; rfl), cs_pl_t (by rw [e, hs]; rfl), cs_J_r] at hJ
          obtain ⟨q', hq', h1, h2⟩ := hJ
          exact ⟨p, q', hp, hq', Or.inr ⟨hs, Or.inr ⟨rfl, h1⟩⟩, (ih p q' hp hq').mpr ⟨m / 2, by omega, h2⟩⟩
      · rw [cs_pl_t (by rw [hs]; rfl), cs_pl_t (by rw [hs]; rfl), cs_J_l] at hJ
        obtain ⟨p', hp', h1, h2⟩ := hJ
        rw [cs_J_r] at h2
        obtain ⟨q', hq', h3, h4⟩ := h2
        exact ⟨p', q', hp', hq', Or.inl ⟨hs, h1, h3⟩, (ih p' q' hp' hq').mpr ⟨m / 2, by omega, h4⟩⟩
/-- the first set of pairs -/
def cs_P0 (l r : Nat) : Int64 := (1 : Int64) <<< ((nI l * 8 + nI r).toInt64 &&& 63)
theorem cs_P0_1 : ∀ k, k < 64 → ∀ i, i < 64 → cs_bL ((1 : Int64) <<< ((nI k).toInt64 &&& 63)) i = decide (i = k) := by decide +kernel
theorem cs_P0_b {l r : Nat} (hl : l < 8) (hr : r < 8) {i : Nat} (hi : i < 64) : cs_bL (cs_P0 l r) i = true ↔ i = l * 8 + r := by
  unfold cs_P0
  rw [cs_m8, cs_P0_1 _ (by omega) i hi, decide_eq_true_eq]
theorem cs_P0_nz {l r : Nat} (hl : l < 8) (hr : r < 8) : ¬ cs_P0 l r = 0 := cs_Lnz ((cs_P0_b hl hr (i := l * 8 + r) (by omega)).mpr rfl)
theorem cs_pair_b {nx : Nat → Int32} (hnx : ∀ i, cs_B8 (nx i)) (s : Nat) (rf : Nat → Int32) (w : List Nat) {l r : Nat} (hl : l < 8) (hr : r < 8) (i : Nat) : bt (cs_Rf s rf (cs_PS nx (nI s) w (cs_P0 l r))) i = true ↔ ∃ m, m < 2 ^ w.length ∧ cs_Jb s (cs_F nx rf (cs_pl (nI s) false w m) l) (cs_F nx rf (cs_pl (nI s) true w m) r) i := by
  rw [cs_Rf_PS hnx]
  constructor
  · rintro ⟨p, q, hp, hq, h1, h2⟩
    have h3 := (cs_P0_b hl hr (by omega)).mp h1
    obtain rfl : p = l := by omega
    obtain rfl : q = r := by omega
    exact (cs_G_pl nx rf s i w p q hp hq).mp h2
  · intro h
    exact ⟨l, r, hl, hr, (cs_P0_b hl hr (by omega)).mpr rfl, (cs_G_pl nx rf s i w l r hl hr).mpr h⟩
end
section
/-! codes of words: base 4, digits 1, 2, 3 -/
def cs_ln (c : Nat) : Nat := if c = 0 then 0 else if c < 4 then 1 else if c < 16 then 2 else if c < 64 then 3 else 4
def cs_dg (c p : Nat) : Nat := c / 4 ^ (cs_ln c - 1 - p) % 4
def cs_isW (c : Nat) : Bool := (List.range (cs_ln c)).all (fun p => !(cs_dg c p == 0))
def cs_wl (c : Nat) : List Nat := (List.range (cs_ln c)).map (fun p => cs_dg c p - 1)
theorem cs_T1 : ∀ c, c < 64 → cs_isW c = true → ∀ a, a < 3 → cs_isW (c * 4 + a + 1) = true ∧ cs_wl (c * 4 + a + 1) = cs_wl c ++ [a] ∧ cs_ln (c * 4 + a + 1) = cs_ln c + 1 := by decide +kernel
theorem cs_T2 : ∀ c, c < 256 → cs_isW c = true → ¬ c = 0 → cs_dg c 0 - 1 < 3 ∧ 1 ≤ cs_dg c 0 ∧ cs_isW (c - cs_dg c 0 * 4 ^ (cs_ln c - 1)) = true ∧ c - cs_dg c 0 * 4 ^ (cs_ln c - 1) < c ∧ cs_wl c = (cs_dg c 0 - 1) :: cs_wl (c - cs_dg c 0 * 4 ^ (cs_ln c - 1)) := by decide +kernel
theorem cs_T3 : ∀ c, c < 256 → cs_isW c = true → c = 0 ∨ ((c - 1) / 4 < 64 ∧ cs_isW ((c - 1) / 4) = true ∧ (c - 1) % 4 < 3 ∧ c = (c - 1) / 4 * 4 + (c - 1) % 4 + 1) := by decide +kernel
theorem cs_T4 : ∀ c, c < 256 → cs_isW c = true → (∀ a, a ∈ cs_wl c → a < 3) ∧ (cs_wl c).length = cs_ln c := by decide +kernel
theorem cs_T5 : ∀ c, c < 256 → ∀ p, p < 4 → p < cs_ln c → ((nI c >>> ((2 * ((nI (cs_ln c) - 1) - nI p)) &&& 31)) &&& 3) = nI (cs_dg c p) := by decide +kernel
theorem cs_T6 : ∀ c, c < 256 → cs_ln c ≤ 4 := by decide +kernel
theorem cs_W0 : cs_isW 0 = true := by decide
theorem cs_wl0 : cs_wl 0 = [] := by decide
theorem cs_ln3 {c : Nat} (h : cs_ln c ≤ 3) : c < 64 := by
  unfold cs_ln at h
  split at h
  · omega
  · split at h
    · omega
    · split at h
      · omega
      · split at h <;> omega
/-- rank of a code among the words -/
def cs_rk : Nat → Nat
  | 0 => 0
  | c + 1 => cs_rk c + (bif cs_isW c then 1 else 0)
theorem cs_rk_le : ∀ {a b : Nat}, a ≤ b → cs_rk a ≤ cs_rk b := by
  intro a b h
  induction b with
  | zero => obtain rfl : a = 0 := by omega
            exact Nat.le_refl _
  | succ b ih =>
    rcases Nat.lt_or_ge a (b + 1) with z | z
    · exact Nat.le_trans (ih (by omega)) (Nat.le_add_right _ _)
    · obtain rfl : a = b + 1 := by omega
      exact Nat.le_refl _
theorem cs_rk_lt {a b : Nat} (hw : cs_isW a = true) (h : a < b) : cs_rk a + 1 ≤ cs_rk b := by
  have e : cs_rk (a + 1) = cs_rk a + 1 := by
    show cs_rk a + (bif cs_isW a then 1 else 0) = _
    rw [hw]; rfl
  rw [← e]
  exact cs_rk_le h
theorem cs_rk_256 : cs_rk 256 = 121 := by decide +kernel
theorem cs_rk_top {c : Nat} (hw : cs_isW c = true) (h : c < 256) : cs_rk c ≤ 120 := by
  have := cs_rk_lt hw h
  rw [cs_rk_256] at this
  omega
/-- codes read on -/
def cs_en (c : Nat) (w : List Nat) : Nat := w.foldl (fun c a => c * 4 + a + 1) c
theorem cs_en_w : ∀ (w : List Nat) (c : Nat), cs_isW c = true → c < 256 → (∀ a, a ∈ w → a < 3) → cs_ln c + w.length ≤ 4 → cs_isW (cs_en c w) = true ∧ cs_en c w < 256 ∧ cs_wl (cs_en c w) = cs_wl c ++ w := by
  intro w
  induction w with
  | nil => intro c h1 h2 _ _; exact ⟨h1, h2, (List.append_nil _).symm⟩
  | cons a w ih =>
    intro c h1 h2 h3 h4
    rw [List.length_cons] at h4
    have h5 : c < 64 := cs_ln3 (by omega)
    have ha : a < 3 := h3 a (List.mem_cons_self ..)
    obtain ⟨t1, t2, t3⟩ := cs_T1 c h5 h1 a ha
    obtain ⟨i1, i2, i3⟩ := ih (c * 4 + a + 1) t1 (by omega) (fun b hb => h3 b (List.mem_cons_of_mem _ hb)) (by omega)
    refine ⟨i1, i2, ?_⟩
    show cs_wl (cs_en (c * 4 + a + 1) w) = _
    rw [i3, t2, List.append_assoc]
    rfl
theorem cs_pl_mem (sh : Int32) (sec : Bool) : ∀ (w : List Nat) (m a : Nat), a ∈ cs_pl sh sec w m → a ∈ w := by
  intro w
  induction w with
  | nil => intro m a h; exact h
  | cons b w ih =>
    intro m a h
    cases hc : (bt sh b || (decide (m % 2 = 1) == sec))
    · rw [cs_pl_f hc] at h
      exact List.mem_cons_of_mem _ (ih _ _ h)
    · rw [cs_pl_t hc] at h
      rcases List.mem_cons.mp h with e | e
      · rw [e]; exact List.mem_cons_self ..
      · exact List.mem_cons_of_mem _ (ih _ _ e)
theorem cs_pl_len (sh : Int32) (sec : Bool) : ∀ (w : List Nat) (m : Nat), (cs_pl sh sec w m).length ≤ w.length := by
  intro w
  induction w with
  | nil => intro m; exact Nat.le_refl _
  | cons b w ih =>
    intro m
    have := ih (m / 2)
    cases hc : (bt sh b || (decide (m % 2 = 1) == sec))
    · rw [cs_pl_f hc, List.length_cons]; omega
    · rw [cs_pl_t hc, List.length_cons, List.length_cons]; omega
/-- the part's code is a word's, and reads as the part -/
theorem cs_part {c : Nat} (hc : c < 256) (hw : cs_isW c = true) (sh : Int32) (sec : Bool) (m : Nat) : cs_isW (cs_en 0 (cs_pl sh sec (cs_wl c) m)) = true ∧ cs_en 0 (cs_pl sh sec (cs_wl c) m) < 256 ∧ cs_wl (cs_en 0 (cs_pl sh sec (cs_wl c) m)) = cs_pl sh sec (cs_wl c) m := by
  obtain ⟨h1, h2⟩ := cs_T4 c hc hw
  have h3 := cs_pl_len sh sec (cs_wl c) m
  have h4 := cs_T6 c hc
  have := cs_en_w (cs_pl sh sec (cs_wl c) m) 0 cs_W0 (by decide) (fun a ha => h1 a (cs_pl_mem sh sec _ _ _ ha)) (by show 0 + _ ≤ 4; omega)
  rw [cs_wl0, List.nil_append] at this
  exact this
end
section
/-! the component's inner methods -/
theorem cs_t1n {x : Int32} {k : Nat} (hk : k < 32) (h : bt x k = false) : ¬ ((x >>> (nI k &&& 31)) &&& 1) = 1 := fun z => by
  rw [(cs_t1 hk).mp z] at h; exact absurd h (by decide)
theorem cs_tLn {x : Int64} {k : Nat} (hk : k < 64) (h : cs_bL x k = false) : ¬ (((x.toUInt64 >>> ((nI k).toInt64.toUInt64 &&& Int64.toUInt64 63)).toInt64) &&& 1) = 1 := fun z => by
  rw [(cs_tL hk).mp z] at h; exact absurd h (by decide)
theorem cs_own : ∀ s, s < 8 → ∀ y, y < 8 → ∀ z, z < 8 → (((nI y &&& (7 &&& (nI s ^^^ (-1)))) = (nI z &&& (7 &&& (nI s ^^^ (-1))))) ↔ cs_cnd s y z = true) := by decide +kernel
def cs_PR (s : Nat) (rf prf : Nat → Int32) : Prop := ∀ p q, p < 8 → q < 8 → prf (p * 8 + q) = cs_jn s (rf p) (rf q)
def cs_Pd (s : Nat) (rf : Nat → Int32) (pd : Int32) (prf : Nat → Int32) : Prop := pd = 0 ∨ (pd = 1 ∧ cs_PR s rf prf)
section
variable {f_height f_left f_right f_shared f_paired f_logged f_nodes : Int32} {a_termRefuse a_termNext a_refuse a_next a_pairRefuse a_events a_layer a_spec a_code a_ways : Nat → Int32} {a_after a_pairs : Nat → Int64}
theorem cs_w_grid {post : Int64 → Prop} (f g : Int32) (h : post (cs_grid f g)) : wpX_grid post (f_height, f_left, f_right, f_shared, f_paired, f_logged, f_nodes, a_termRefuse, a_termNext, a_refuse, a_next, a_pairRefuse, a_events, a_after, a_layer, a_pairs, a_spec, a_code, a_ways) f g :=
  cs_lL (fun n s i => wX_grid_5 post f g f_height f_left f_right f_shared f_paired f_logged f_nodes a_termRefuse a_termNext a_refuse a_next a_pairRefuse a_events a_after a_layer a_pairs a_spec a_code a_ways n s i) post (fun p => bt f p) (fun p => g.toInt64 <<< ((nI p * 8).toInt64 &&& 63)) 8
    (fun _ _ hp => br_t (by decide) hp)
    (fun _ k _ hk hc hw => br_f (cs_8 hk) (br_t ((cs_t1 (by omega)).mpr hc) (nm_e (nm_r (nI_1 k) hw))))
    (fun _ k _ hk hc hw => br_f (cs_8 hk) (br_f (cs_t1n (by omega) hc) (nm_r (nI_1 k) hw))) 0 h
theorem cs_w_stepRow {post : Int64 → Prop} {p a : Nat} (hp : p < 8) (ha : a < 3) (row : Int32) (h : post (cs_srow a_next f_shared p row a)) : wpX_stepRow post (f_height, f_left, f_right, f_shared, f_paired, f_logged, f_nodes, a_termRefuse, a_termNext, a_refuse, a_next, a_pairRefuse, a_events, a_after, a_layer, a_pairs, a_spec, a_code, a_ways) (nI p) row (nI a) := by
  refine And.intro (cs_i3 hp ha) (nm_r (congrArg a_next (cs_j3 hp ha)) ?_)
  refine cs_lo (fun n s i => wX_stepRow_18 post (nI p) row (nI a) (a_next (p * 3 + a)) f_height f_left f_right f_shared f_paired f_logged f_nodes a_termRefuse a_termNext a_refuse a_next a_pairRefuse a_events a_after a_layer a_pairs a_spec a_code a_ways n s i) (fun t => t = cs_sn a_next row a) (fun q => bt row q) (fun q => a_next (q * 3 + a)) 8 ?_ ?_ ?_ 0 rfl
  · intro n t e
    subst e
    refine br_t (by decide) ?_
    unfold cs_srow at h
    cases hs : bt f_shared a
    · rw [hs] at h
      exact br_f (cs_t1n (by omega) hs) (cs_w_grid _ _ h)
    · rw [hs] at h
      exact br_t ((cs_t1 (by omega)).mpr hs) (cs_w_grid _ _ h)
  · intro n k s hk hc hw
    exact br_f (cs_8 hk) (br_t ((cs_t1 (by omega)).mpr hc) ⟨cs_i3 hk ha, nm_r (by rw [cs_j3 hk ha]) (nm_r (nI_1 k) hw)⟩)
  · intro n k s hk hc hw
    exact br_f (cs_8 hk) (br_f (cs_t1n (by omega) hc) (nm_r (nI_1 k) hw))
theorem cs_w_step {post : Int64 → Prop} (P : Int64) {a : Nat} (ha : a < 3) (h : post (cs_step a_next f_shared P a)) : wpX_step post (f_height, f_left, f_right, f_shared, f_paired, f_logged, f_nodes, a_termRefuse, a_termNext, a_refuse, a_next, a_pairRefuse, a_events, a_after, a_layer, a_pairs, a_spec, a_code, a_ways) P (nI a) := by
  refine cs_lL (fun n s i => wX_step_6 post P (nI a) f_height f_left f_right f_shared f_paired f_logged f_nodes a_termRefuse a_termNext a_refuse a_next a_pairRefuse a_events a_after a_layer a_pairs a_spec a_code a_ways n s i) post (fun p => !decide (cs_row P p = 0)) (fun p => cs_srow a_next f_shared p (cs_row P p) a) 8 ?_ ?_ ?_ 0 h
  · intro n s hp
    exact br_t (by decide) hp
  · intro n k s hk hc hw
    have hz : ¬ cs_row P k = 0 := fun e => by
      have : (!decide (cs_row P k = 0)) = true := hc
      rw [decide_eq_true e] at this; exact absurd this (by decide)
    refine br_f (cs_8 hk) (nm_r (e' := cs_row P k) rfl (br_f hz (cs_w_stepRow hk ha _ ?_)))
    exact nm_e (nm_r (nI_1 k) hw)
  · intro n k s hk hc hw
    have hz : cs_row P k = 0 := Classical.byContradiction fun e => by
      have : (!decide (cs_row P k = 0)) = false := hc
      rw [decide_eq_false e] at this; exact absurd this (by decide)
    exact br_f (cs_8 hk) (nm_r (e' := cs_row P k) rfl (br_t hz (nm_r (nI_1 k) hw)))
theorem cs_w_joint {post : Int32 → Prop} {s : Nat} (hs : s < 8) (f g : Int32) (h : post (cs_jn s f g)) : wpX_joint post (f_height, f_left, f_right, nI s, f_paired, f_logged, f_nodes, a_termRefuse, a_termNext, a_refuse, a_next, a_pairRefuse, a_events, a_after, a_layer, a_pairs, a_spec, a_code, a_ways) f g := by
  refine nm_e ?_
  refine cs_lp (fun n t i => wX_joint_16 post f g (7 &&& (nI s ^^^ (-1))) f_height f_left f_right (nI s) f_paired f_logged f_nodes a_termRefuse a_termNext a_refuse a_next a_pairRefuse a_events a_after a_layer a_pairs a_spec a_code a_ways n t i) (fun k t => t = cs_jf s f g k) 8 ?_ ?_ 0 rfl
  · intro n t e
    subst e
    exact br_t (by decide) h
  · intro n y t hy e H
    refine br_f (cs_8 hy) ?_
    refine cs_lo (fun m t i => wX_joint_26 post (wX_joint_16 post f g (7 &&& (nI s ^^^ (-1))) f_height f_left f_right (nI s) f_paired f_logged f_nodes a_termRefuse a_termNext a_refuse a_next a_pairRefuse a_events a_after a_layer a_pairs a_spec a_code a_ways n) f g (7 &&& (nI s ^^^ (-1))) (nI y) f_height f_left f_right (nI s) f_paired f_logged f_nodes a_termRefuse a_termNext a_refuse a_next a_pairRefuse a_events a_after a_layer a_pairs a_spec a_code a_ways m t i) (fun t' => t' = cs_j1 s f g y t) (fun z => bt f y && bt g z && cs_cnd s y z) (fun z => (1 : Int32) <<< ((nI y ||| nI z) &&& 31)) 8 ?_ ?_ ?_ t rfl
    · intro m t' e'
      exact br_t (by decide) (nm_r (nI_1 y) (H t' (by rw [e', e]; rfl)))
    · intro m z t' hz hc hw
      have hc' : (bt f y && bt g z && cs_cnd s y z) = true := hc
      rw [Bool.and_eq_true, Bool.and_eq_true] at hc'
      exact br_f (cs_8 hz) (br_t ((cs_t1 (by omega)).mpr hc'.1.1) (br_t ((cs_t1 (by omega)).mpr hc'.1.2) (br_f (by decide) (br_t ((cs_own s hs y hy z hz).mpr hc'.2) (nm_e (nm_r (nI_1 z) hw))))))
    · intro m z t' hz hc hw
      have hc' : (bt f y && bt g z && cs_cnd s y z) = false := hc
      refine br_f (cs_8 hz) ?_
      cases h1 : bt f y
      · exact br_f (cs_t1n (by omega) h1) (br_t rfl (nm_r (nI_1 z) hw))
      · refine br_t ((cs_t1 (by omega)).mpr h1) ?_
        cases h2 : bt g z
        · exact br_f (cs_t1n (by omega) h2) (br_t rfl (nm_r (nI_1 z) hw))
        · refine br_t ((cs_t1 (by omega)).mpr h2) ?_
          have h3 : ¬ cs_cnd s y z = true := fun z => by rw [h1, h2, z] at hc'; exact absurd hc' (by decide)
          exact br_f (by decide) (br_f (fun z' => h3 ((cs_own s hs y hy z hz).mp z')) (nm_r (nI_1 z) hw))
theorem cs_w_pairUp {post : SX → Prop} {s : Nat} (hs : s < 8) (hpd : cs_Pd s a_refuse f_paired a_pairRefuse) (h : ∀ prf, cs_PR s a_refuse prf → post (f_height, f_left, f_right, nI s, 1, f_logged, f_nodes, a_termRefuse, a_termNext, a_refuse, a_next, prf, a_events, a_after, a_layer, a_pairs, a_spec, a_code, a_ways)) : wpX_pairUp post (f_height, f_left, f_right, nI s, f_paired, f_logged, f_nodes, a_termRefuse, a_termNext, a_refuse, a_next, a_pairRefuse, a_events, a_after, a_layer, a_pairs, a_spec, a_code, a_ways) := by
  rcases hpd with e | ⟨e, hp⟩
  · subst e
    refine br_t rfl ?_
    refine cs_lp (fun n prf i => wX_pairUp_10 post f_height f_left f_right (nI s) 0 f_logged f_nodes n i a_termRefuse a_termNext a_refuse a_next prf a_events a_after a_layer a_pairs a_spec a_code a_ways) (fun p prf => ∀ p' q, p' < p → q < 8 → prf (p' * 8 + q) = cs_jn s (a_refuse p') (a_refuse q)) 8 ?_ ?_ a_pairRefuse (fun p' q hp' => absurd hp' (by omega))
    · intro n prf hI
      exact br_t (by decide) (h prf hI)
    · intro n p prf hp hI H
      refine br_f (cs_8 hp) ?_
      refine cs_lp (fun m prf i => wX_pairUp_18 post (wX_pairUp_10 post f_height f_left f_right (nI s) 0 f_logged f_nodes n) (nI p) f_height f_left f_right (nI s) 0 f_logged f_nodes m i a_termRefuse a_termNext a_refuse a_next prf a_events a_after a_layer a_pairs a_spec a_code a_ways) (fun q prf => (∀ p' q', p' < p → q' < 8 → prf (p' * 8 + q') = cs_jn s (a_refuse p') (a_refuse q')) ∧ ∀ q', q' < q → prf (p * 8 + q') = cs_jn s (a_refuse p) (a_refuse q')) 8 ?_ ?_ prf ⟨hI, fun q' hq' => absurd hq' (by omega)⟩
      · intro m prf' hI'
        refine br_t (by decide) (nm_r (nI_1 p) (H prf' ?_))
        intro p' q' hp' hq'
        rcases Nat.lt_or_ge p' p with z | z
        · exact hI'.1 p' q' z hq'
        · obtain rfl : p' = p := by omega
          exact hI'.2 q' hq'
      · intro m q prf' hq hI' H'
        refine br_f (cs_8 hq) ⟨vp_in_nI hp (by decide), vp_in_nI hq (by decide), cs_w_joint hs _ _ ⟨?_, ?_⟩⟩
        · rw [cs_m8]; exact vp_in_nI (by omega) (by decide)
        · refine nm_r (e' := upd prf' (p * 8 + q) (cs_jn s (a_refuse p) (a_refuse q))) (by rw [cs_m8, nI_clamp (by omega), nI_clamp (by omega), nI_clamp (by omega)]) (nm_r (nI_1 q) (H' _ ⟨?_, ?_⟩))
          · intro p' q' hp' hq'
            rw [pk_un (by omega)]
            exact hI'.1 p' q' hp' hq'
          · intro q' hq'
            rcases Nat.lt_or_ge q' q with z | z
            · rw [pk_un (by omega)]
              exact hI'.2 q' z
            · obtain rfl : q' = q := by omega
              exact pk_us
  · subst e
    exact br_f (by decide) (h _ hp)
theorem cs_w_refusals {post : Int32 → SX → Prop} {s : Nat} (hs : s < 8) (hpd : cs_Pd s a_refuse f_paired a_pairRefuse) (P : Int64) (h : ∀ prf, cs_PR s a_refuse prf → post (cs_Rf s a_refuse P) (f_height, f_left, f_right, nI s, 1, f_logged, f_nodes, a_termRefuse, a_termNext, a_refuse, a_next, prf, a_events, a_after, a_layer, a_pairs, a_spec, a_code, a_ways)) : wpX_refusals post (f_height, f_left, f_right, nI s, f_paired, f_logged, f_nodes, a_termRefuse, a_termNext, a_refuse, a_next, a_pairRefuse, a_events, a_after, a_layer, a_pairs, a_spec, a_code, a_ways) P := by
  unfold wpX_refusals
  dsimp only
  refine cs_w_pairUp hs hpd ?_
  intro prf hp
  refine cs_lo (fun n t i => wX_refusals_9 post P f_height f_left f_right (nI s) 1 f_logged f_nodes a_termRefuse a_termNext a_refuse a_next prf a_events a_after a_layer a_pairs a_spec a_code a_ways n t i) (fun t => t = cs_Rf s a_refuse P) (fun b => cs_bL P b) (fun b => cs_jn s (a_refuse (b / 8)) (a_refuse (b % 8))) 64 ?_ ?_ ?_ 0 rfl
  · intro n t e
    subst e
    exact br_t (by decide) (h prf hp)
  · intro n k t hk hc hw
    have e : prf k = cs_jn s (a_refuse (k / 8)) (a_refuse (k % 8)) := by
      have := hp (k / 8) (k % 8) (by omega) (by omega)
      rw [show k / 8 * 8 + k % 8 = k by omega] at this
      exact this
    exact br_f (cs_64 hk) (br_t ((cs_tL hk).mpr hc) ⟨vp_in_nI hk (by decide), nm_r (by rw [nI_clamp (by omega), e]) (nm_r (nI_1 k) hw)⟩)
  · intro n k t hk hc hw
    exact br_f (cs_64 hk) (br_f (cs_tLn hk hc) (nm_r (nI_1 k) hw))
theorem cs_w_stepNames {post : Int32 → Prop} (S : Int32) {a : Nat} (ha : a < 3) (h : post (cs_sn a_next S a)) : wpX_stepNames post (f_height, f_left, f_right, f_shared, f_paired, f_logged, f_nodes, a_termRefuse, a_termNext, a_refuse, a_next, a_pairRefuse, a_events, a_after, a_layer, a_pairs, a_spec, a_code, a_ways) S (nI a) :=
  cs_lo (fun n t i => wX_stepNames_5 post S (nI a) f_height f_left f_right f_shared f_paired f_logged f_nodes a_termRefuse a_termNext a_refuse a_next a_pairRefuse a_events a_after a_layer a_pairs a_spec a_code a_ways n t i) post (fun k => bt S k) (fun k => a_next (k * 3 + a)) 8
    (fun _ _ hp => br_t (by decide) hp)
    (fun _ k _ hk hc hw => br_f (cs_8 hk) (br_t ((cs_t1 (by omega)).mpr hc) ⟨cs_i3 hk ha, nm_r (by rw [cs_j3 hk ha]) (nm_r (nI_1 k) hw)⟩))
    (fun _ k _ hk hc hw => br_f (cs_8 hk) (br_f (cs_t1n (by omega) hc) (nm_r (nI_1 k) hw))) 0 h
theorem cs_w_nameRefusals {post : Int32 → Prop} (S : Int32) (h : post (cs_nr a_refuse S)) : wpX_nameRefusals post (f_height, f_left, f_right, f_shared, f_paired, f_logged, f_nodes, a_termRefuse, a_termNext, a_refuse, a_next, a_pairRefuse, a_events, a_after, a_layer, a_pairs, a_spec, a_code, a_ways) S :=
  cs_lo (fun n t i => wX_nameRefusals_4 post S f_height f_left f_right f_shared f_paired f_logged f_nodes a_termRefuse a_termNext a_refuse a_next a_pairRefuse a_events a_after a_layer a_pairs a_spec a_code a_ways n t i) post (fun k => bt S k) a_refuse 8
    (fun _ _ hp => br_t (by decide) hp)
    (fun _ k _ hk hc hw => br_f (cs_8 hk) (br_t ((cs_t1 (by omega)).mpr hc) ⟨vp_in_nI hk (by decide), nm_r (by rw [nI_clamp (by omega)]) (nm_r (nI_1 k) hw)⟩))
    (fun _ k _ hk hc hw => br_f (cs_8 hk) (br_f (cs_t1n (by omega) hc) (nm_r (nI_1 k) hw))) 0 h
theorem cs_w_excess {post : Int32 → SX → Prop} {s : Nat} (hs : s < 8) (hpd : cs_Pd s a_refuse f_paired a_pairRefuse) {n : Nat} (hn : n < 128) (h : ∀ prf, cs_PR s a_refuse prf → post (cs_Rf s a_refuse (a_pairs n) &&& (cs_nr a_refuse (a_spec n) ^^^ (-1))) (f_height, f_left, f_right, nI s, 1, f_logged, f_nodes, a_termRefuse, a_termNext, a_refuse, a_next, prf, a_events, a_after, a_layer, a_pairs, a_spec, a_code, a_ways)) : wpX_excess post (f_height, f_left, f_right, nI s, f_paired, f_logged, f_nodes, a_termRefuse, a_termNext, a_refuse, a_next, a_pairRefuse, a_events, a_after, a_layer, a_pairs, a_spec, a_code, a_ways) (nI n) := by
  unfold wpX_excess
  dsimp only
  rw [nI_clamp (show n < 2 ^ 31 by omega)]
  refine ⟨vp_in_nI hn (by decide), cs_w_refusals hs hpd _ ?_⟩
  intro prf hp
  exact ⟨vp_in_nI hn (by decide), cs_w_nameRefusals _ (h prf hp)⟩
end
end
section
/-! the reference's inner methods -/
theorem cs_T7 : ∀ c, c < 256 → ¬ c = 0 → nI c - (((nI (cs_dg c 0) - 1) + 1) <<< ((2 * (nI (cs_ln c) - 1)) &&& 31)) = nI (c - cs_dg c 0 * 4 ^ (cs_ln c - 1)) := by decide +kernel
theorem cs_T8 : ∀ c, c < 256 → cs_isW c = true → ∀ p, p < 4 → p < cs_ln c → (cs_wl c).drop p = (cs_dg c p - 1) :: (cs_wl c).drop (p + 1) ∧ 1 ≤ cs_dg c p := by decide +kernel
theorem cs_T9 : ∀ m, m < 16 → ∀ p, p < 4 → bt (nI m) p = decide (m / 2 ^ p % 2 = 1) := by decide +kernel
theorem cs_T10 : ∀ l, l < 5 → (1 : Int32) <<< (nI l &&& 31) = nI (2 ^ l) := by decide +kernel
theorem cs_T11 : ∀ c, c < 256 → 0 < cs_ln c ∨ c = 0 := by decide +kernel
theorem cs_dg4 (c p : Nat) : cs_dg c p < 4 := Nat.mod_lt _ (by decide)
theorem cs_isW_all {c : Nat} : cs_isW c = true ↔ ∀ p, p < cs_ln c → ¬ cs_dg c p = 0 := by
  unfold cs_isW
  rw [List.all_eq_true]
  constructor
  · intro h p hp e
    have := h p (List.mem_range.mpr hp)
    rw [e] at this
    exact absurd this (by decide)
  · intro h p hp
    have := h p (List.mem_range.mp hp)
    cases hb : (cs_dg c p == 0)
    · rfl
    · exact absurd (by simpa using hb) this
theorem cs_p1 {d : Nat} (h : 1 ≤ d) : nI d - 1 = nI (d - 1) := pk_sub h
/-- what the reference's tables hold -/
def cs_Ft (nx rf : Nat → Int32) (k c : Nat) : Int32 := bif cs_isW c then cs_F nx rf (cs_wl c) k else 0
def cs_Pt (nx rf : Nat → Int32) (s l r c : Nat) : Int32 := bif cs_isW c then cs_Rf s rf (cs_PS nx (nI s) (cs_wl c) (cs_P0 l r)) else 0
section
variable {f_depth f_i f_j f_shared f_log : Int32} {a_termFirst a_termNext a_first a_next a_failures a_pair : Nat → Int32}
theorem cs_y_len {post : Int32 → Prop} {c : Nat} (hc : c < 256) (h : post (nI (cs_ln c))) : wpY_lengthOf post (f_depth, f_i, f_j, f_shared, f_log, a_termFirst, a_termNext, a_first, a_next, a_failures, a_pair) (nI c) := by
  unfold cs_ln at h
  refine pk_eq c 0 (fun e => ?_) (fun e => ?_)
  · rw [if_pos e] at h; exact h
  · rw [if_neg e] at h
    refine pk_le 4 c (fun e => ?_) (fun e => ?_)
    · rw [if_neg (by omega)] at h
      refine pk_le 16 c (fun e => ?_) (fun e => ?_)
      · rw [if_neg (by omega)] at h
        refine pk_le 64 c (fun e => ?_) (fun e => ?_)
        · rw [if_neg (by omega)] at h; exact h
        · rw [if_pos (by omega)] at h; exact h
      · rw [if_pos (by omega)] at h; exact h
    · rw [if_pos (by omega)] at h; exact h
theorem cs_y_ev {post : Int32 → Prop} {c p : Nat} (hc : c < 256) (hp : p < cs_ln c) (h : post (nI (cs_dg c p) - 1)) : wpY_eventAt post (f_depth, f_i, f_j, f_shared, f_log, a_termFirst, a_termNext, a_first, a_next, a_failures, a_pair) (nI c) (nI p) := by
  unfold wpY_eventAt
  dsimp only
  refine cs_y_len hc ?_
  rw [cs_T5 c hc p (by have := cs_T6 c hc; omega) hp]
  exact h
theorem cs_y_isW {post : Int32 → Prop} {c : Nat} (hc : c < 256) (h : post (bif cs_isW c then 1 else 0)) : wpY_isWord post (f_depth, f_i, f_j, f_shared, f_log, a_termFirst, a_termNext, a_first, a_next, a_failures, a_pair) (nI c) := by
  unfold wpY_isWord
  dsimp only
  refine cs_y_len hc ?_
  have h4 := cs_T6 c hc
  refine cs_lp (fun n (_ : Unit) i => wY_isWord_8 post (nI c) (nI (cs_ln c)) f_depth f_i f_j f_shared f_log a_termFirst a_termNext a_first a_next a_failures a_pair n i) (fun p _ => ∀ p', p' < p → ¬ cs_dg c p' = 0) (cs_ln c) ?_ ?_ () (fun p' hp' => absurd hp' (by omega))
  · intro n _ hI
    rw [cs_isW_all.mpr hI] at h
    exact br_t (nI_le (Nat.le_refl _) (by omega)) h
  · intro n p _ hp hI H
    refine br_f (nI_ge hp (by omega)) (cs_y_ev hc hp ?_)
    by_cases e : cs_dg c p = 0
    · have hw : cs_isW c = false := cs_nt fun z => cs_isW_all.mp z p hp e
      rw [hw] at h
      rw [e]
      exact br_f (by decide) h
    · rw [cs_p1 (by omega)]
      refine br_t (nI_pos' (by have := cs_dg4 c p; omega)) (nm_r (nI_1 p) (H () ?_))
      intro p' hp'
      rcases Nat.lt_or_ge p' p with z | z
      · exact hI p' z
      · obtain rfl : p' = p := by omega
        exact e
theorem cs_y_refOf {post : Int32 → Prop} {c k : Nat} (hc : c < 256) (hw : cs_isW c = true) (hk : k < 8) (hF : ∀ b c', b < 8 → c' < c → cs_isW c' = true → a_failures (b * 256 + c') = cs_F a_next a_first (cs_wl c') b) (h : post (cs_F a_next a_first (cs_wl c) k)) : wpY_refusalsOf post (f_depth, f_i, f_j, f_shared, f_log, a_termFirst, a_termNext, a_first, a_next, a_failures, a_pair) (nI k) (nI c) := by
  by_cases e : c = 0
  · subst e
    refine br_t rfl ⟨vp_in_nI hk (by decide), ?_⟩
    rw [nI_clamp (by omega)]
    exact h
  · obtain ⟨t1, t2, t3, t4, t5⟩ := cs_T2 c hc hw e
    have hl : 0 < cs_ln c := (cs_T11 c hc).elim id (fun z => absurd z e)
    refine br_f (nI_ne0 (by omega) (by omega)) (cs_y_len hc (cs_y_ev (p := 0) hc hl ?_))
    refine nm_r (cs_T7 c hc e) ?_
    rw [cs_p1 t2]
    rw [t5] at h
    generalize cs_dg c 0 - 1 = a at *
    generalize c - cs_dg c 0 * 4 ^ (cs_ln c - 1) = q at *
    refine cs_lo (fun n t i => wY_refusalsOf_45 post (nI k) (nI a) (nI q) f_depth f_i f_j f_shared f_log a_termFirst a_termNext a_first a_next a_failures a_pair n t i) post (fun b => bt (a_next (k * 3 + a)) b) (cs_F a_next a_first (cs_wl q)) 8 ?_ ?_ ?_ 0 h
    · intro n t hp
      exact br_t (by decide) hp
    · intro n b t hb hcb hW
      refine br_f (cs_8 hb) ⟨cs_i3 hk t1, br_t ?_ ⟨?_, nm_r (by rw [cs_m256, nI_clamp (by omega), hF b q hb t4 t3]) (nm_r (nI_1 b) hW)⟩⟩
      · rw [cs_j3 hk t1]
        exact (cs_t1 (by omega)).mpr hcb
      · rw [cs_m256]; exact vp_in_nI (by omega) (by decide)
    · intro n b t hb hcb hW
      refine br_f (cs_8 hb) ⟨cs_i3 hk t1, br_f ?_ (nm_r (nI_1 b) hW)⟩
      rw [cs_j3 hk t1]
      exact cs_t1n (by omega) hcb
theorem cs_y_united {post : Int32 → Prop} {s : Nat} (f g : Int32) (h : post (cs_jn s f g)) : wpY_united post (f_depth, f_i, f_j, nI s, f_log, a_termFirst, a_termNext, a_first, a_next, a_failures, a_pair) f g := by
  refine cs_lp (fun n t i => wY_united_5 post f g f_depth f_i f_j (nI s) f_log a_termFirst a_termNext a_first a_next a_failures a_pair n t i) (fun k t => t = cs_jf s f g k) 8 ?_ ?_ 0 rfl
  · intro n t e
    subst e
    exact br_t (by decide) h
  · intro n y t hy e H
    refine br_f (cs_8 hy) ?_
    refine cs_lo (fun m t i => wY_united_15 post (wY_united_5 post f g f_depth f_i f_j (nI s) f_log a_termFirst a_termNext a_first a_next a_failures a_pair n) f g (nI y) f_depth f_i f_j (nI s) f_log a_termFirst a_termNext a_first a_next a_failures a_pair m t i) (fun t' => t' = cs_j1 s f g y t) (fun z => bt f y && bt g z && cs_cnd s y z) (fun z => (1 : Int32) <<< ((nI y ||| nI z) &&& 31)) 8 ?_ ?_ ?_ t rfl
    · intro m t' e'
      exact br_t (by decide) (nm_r (nI_1 y) (H t' (by rw [e', e]; rfl)))
    · intro m z t' hz hc hw
      have hc' : (bt f y && bt g z && cs_cnd s y z) = true := hc
      rw [Bool.and_eq_true, Bool.and_eq_true] at hc'
      exact br_f (cs_8 hz) (br_t ((cs_t1 (by omega)).mpr hc'.1.1) (br_t ((cs_t1 (by omega)).mpr hc'.1.2) (br_f (by decide) (br_t (of_decide_eq_true hc'.2) (nm_e (nm_r (nI_1 z) hw))))))
    · intro m z t' hz hc hw
      have hc' : (bt f y && bt g z && cs_cnd s y z) = false := hc
      refine br_f (cs_8 hz) ?_
      cases h1 : bt f y
      · exact br_f (cs_t1n (by omega) h1) (br_t rfl (nm_r (nI_1 z) hw))
      · refine br_t ((cs_t1 (by omega)).mpr h1) ?_
        cases h2 : bt g z
        · exact br_f (cs_t1n (by omega) h2) (br_t rfl (nm_r (nI_1 z) hw))
        · refine br_t ((cs_t1 (by omega)).mpr h2) ?_
          have h3 : cs_cnd s y z = false := cs_nt fun z => by rw [h1, h2, z] at hc'; exact absurd hc' (by decide)
          exact br_f (by decide) (br_f (of_decide_eq_false h3) (nm_r (nI_1 z) hw))
theorem cs_y_part {post : Int32 → Prop} {c m : Nat} (hc : c < 256) (hw : cs_isW c = true) (hm : m < 16) (sec : Bool) (h : post (nI (cs_en 0 (cs_pl f_shared sec (cs_wl c) m)))) : wpY_partOf post (f_depth, f_i, f_j, f_shared, f_log, a_termFirst, a_termNext, a_first, a_next, a_failures, a_pair) (nI c) (nI m) (bif sec then 1 else 0) := by
  unfold wpY_partOf
  dsimp only
  refine cs_y_len hc ?_
  have h4 := cs_T6 c hc
  have H : ∀ d p part, p + d = cs_ln c → post (nI (cs_en part (cs_pl f_shared sec ((cs_wl c).drop p) (m / 2 ^ p)))) → wY_partOf_13 post (nI c) (nI m) (bif sec then 1 else 0) (nI (cs_ln c)) f_depth f_i f_j f_shared f_log a_termFirst a_termNext a_first a_next a_failures a_pair (d + 1) (nI part) (nI p) := by
    intro d
    induction d with
    | zero =>
      intro p part hp hq
      have hd : (cs_wl c).drop p = [] := List.drop_eq_nil_of_le (by rw [(cs_T4 c hc hw).2]; omega)
      rw [hd] at hq
      exact br_t (nI_le (by omega) (by omega)) hq
    | succ d ih =>
      intro p part hp hq
      obtain ⟨t1, t2⟩ := cs_T8 c hc hw p (by omega) (by omega)
      have t3 := cs_dg4 c p
      refine br_f (nI_ge (by omega) (by omega)) (cs_y_ev hc (by omega) ?_)
      rw [cs_p1 t2]
      rw [t1] at hq
      have ha : cs_dg c p - 1 < 3 := by omega
      generalize cs_dg c p - 1 = a at *
      have e2 : m / 2 ^ p / 2 = m / 2 ^ (p + 1) := by rw [Nat.div_div_eq_div_mul, ← Nat.pow_succ]
      have hbit := cs_T9 m hm p (by omega)
      have go : post (nI (cs_en (part * 4 + a + 1) (cs_pl f_shared sec ((cs_wl c).drop (p + 1)) (m / 2 ^ (p + 1))))) → wY_partOf_13 post (nI c) (nI m) (bif sec then 1 else 0) (nI (cs_ln c)) f_depth f_i f_j f_shared f_log a_termFirst a_termNext a_first a_next a_failures a_pair (d + 1) (nI part * 4 + nI a + 1) (nI p + 1) := by
        intro hq
        rw [cs_m41, nI_1]
        exact ih (p + 1) _ (by omega) hq
      have no : post (nI (cs_en part (cs_pl f_shared sec ((cs_wl c).drop (p + 1)) (m / 2 ^ (p + 1))))) → wY_partOf_13 post (nI c) (nI m) (bif sec then 1 else 0) (nI (cs_ln c)) f_depth f_i f_j f_shared f_log a_termFirst a_termNext a_first a_next a_failures a_pair (d + 1) (nI part) (nI p + 1) := by
        intro hq
        rw [nI_1]
        exact ih (p + 1) _ (by omega) hq
      cases hs : bt f_shared a
      · refine br_f (cs_t1n (by omega) hs) (br_t rfl ?_)
        by_cases em : m / 2 ^ p % 2 = 1
        · refine br_t ((cs_t1 (by omega)).mpr (by rw [hbit, decide_eq_true em])) ?_
          cases sec
          · rw [cs_pl_f (by rw [hs, decide_eq_true em]; rfl), e2] at hq
            exact br_f (by decide) (nm_e (no hq))
          · rw [cs_pl_t (by rw [hs, decide_eq_true em]; rfl), e2] at hq
            exact br_t rfl (nm_e (nm_e (go hq)))
        · refine br_f (cs_t1n (by omega) (by rw [hbit, decide_eq_false em])) ?_
          cases sec
          · rw [cs_pl_t (by rw [hs, decide_eq_false em]; rfl), e2] at hq
            exact br_t rfl (nm_e (nm_e (go hq)))
          · rw [cs_pl_f (by rw [hs, decide_eq_false em]; rfl), e2] at hq
            exact br_f (by decide) (nm_e (no hq))
      · rw [cs_pl_t (by rw [hs]; rfl), e2] at hq
        exact br_t ((cs_t1 (by omega)).mpr hs) (br_f (by decide) (nm_e (nm_e (go hq))))
  exact ⟨cs_ln c + 1, H (cs_ln c) 0 0 (by omega) (by rw [List.drop_zero, Nat.pow_zero, Nat.div_one]; exact h)⟩
theorem cs_y_pairRef {post : Int32 → Prop} {c l r s : Nat} (hc : c < 256) (hw : cs_isW c = true) (hl : l < 8) (hr : r < 8) (hnx : ∀ i, cs_B8 (a_next i)) (hF : ∀ b c', b < 8 → c' < 256 → cs_isW c' = true → a_failures (b * 256 + c') = cs_F a_next a_first (cs_wl c') b) (h : post (cs_Rf s a_first (cs_PS a_next (nI s) (cs_wl c) (cs_P0 l r)))) : wpY_pairRefusals post (f_depth, nI l, nI r, nI s, f_log, a_termFirst, a_termNext, a_first, a_next, a_failures, a_pair) (nI c) := by
  unfold wpY_pairRefusals
  dsimp only
  refine cs_y_len hc ?_
  have h4 := cs_T6 c hc
  have h16 : 2 ^ cs_ln c ≤ 2 ^ 4 := Nat.pow_le_pow_right (by decide) h4
  have hb := cs_T10 (cs_ln c) (by omega)
  refine cs_lo (fun n t i => wY_pairRefusals_11 post (nI c) (nI (cs_ln c)) f_depth (nI l) (nI r) (nI s) f_log a_termFirst a_termNext a_first a_next a_failures a_pair n t i) post (fun m => !decide (cs_F a_next a_first (cs_pl (nI s) false (cs_wl c) m) l = 0) && !decide (cs_F a_next a_first (cs_pl (nI s) true (cs_wl c) m) r = 0)) (fun m => cs_jn s (cs_F a_next a_first (cs_pl (nI s) false (cs_wl c) m) l) (cs_F a_next a_first (cs_pl (nI s) true (cs_wl c) m) r)) (2 ^ cs_ln c) ?_ ?_ ?_ 0 ?_
  · intro n t hp
    exact br_t (by rw [hb]; exact nI_le (Nat.le_refl _) (by omega)) hp
  · intro n m t hm hcm hW
    obtain ⟨p1, p2, p3⟩ := cs_part hc hw (nI s) false m
    obtain ⟨q1, q2, q3⟩ := cs_part hc hw (nI s) true m
    have hcm' : (!decide (cs_F a_next a_first (cs_pl (nI s) false (cs_wl c) m) l = 0) && !decide (cs_F a_next a_first (cs_pl (nI s) true (cs_wl c) m) r = 0)) = true := hcm
    rw [Bool.and_eq_true, Bool.not_eq_true', Bool.not_eq_true', decide_eq_false_iff_not, decide_eq_false_iff_not] at hcm'
    refine br_f (by rw [hb]; exact nI_ge hm (by omega)) (cs_y_part hc hw (by omega) false (cs_y_part hc hw (by omega) true ?_))
    refine ⟨by rw [cs_m256]; exact vp_in_nI (by omega) (by decide), nm_r (e' := cs_F a_next a_first (cs_pl (nI s) false (cs_wl c) m) l) (by rw [cs_m256, nI_clamp (by omega), hF l _ hl p2 p1, p3]) ⟨by rw [cs_m256]; exact vp_in_nI (by omega) (by decide), nm_r (e' := cs_F a_next a_first (cs_pl (nI s) true (cs_wl c) m) r) (by rw [cs_m256, nI_clamp (by omega), hF r _ hr q2 q1, q3]) ?_⟩⟩
    exact br_f hcm'.1 (br_f hcm'.2 (cs_y_united _ _ (nm_e (nm_r (nI_1 m) hW))))
  · intro n m t hm hcm hW
    obtain ⟨p1, p2, p3⟩ := cs_part hc hw (nI s) false m
    obtain ⟨q1, q2, q3⟩ := cs_part hc hw (nI s) true m
    have hcm' : (!decide (cs_F a_next a_first (cs_pl (nI s) false (cs_wl c) m) l = 0) && !decide (cs_F a_next a_first (cs_pl (nI s) true (cs_wl c) m) r = 0)) = false := hcm
    refine br_f (by rw [hb]; exact nI_ge hm (by omega)) (cs_y_part hc hw (by omega) false (cs_y_part hc hw (by omega) true ?_))
    refine ⟨by rw [cs_m256]; exact vp_in_nI (by omega) (by decide), nm_r (e' := cs_F a_next a_first (cs_pl (nI s) false (cs_wl c) m) l) (by rw [cs_m256, nI_clamp (by omega), hF l _ hl p2 p1, p3]) ⟨by rw [cs_m256]; exact vp_in_nI (by omega) (by decide), nm_r (e' := cs_F a_next a_first (cs_pl (nI s) true (cs_wl c) m) r) (by rw [cs_m256, nI_clamp (by omega), hF r _ hr q2 q1, q3]) ?_⟩⟩
    by_cases e1 : cs_F a_next a_first (cs_pl (nI s) false (cs_wl c) m) l = 0
    · exact br_t e1 (nm_r (nI_1 m) hW)
    · refine br_f e1 (br_t ?_ (nm_r (nI_1 m) hW))
      rw [decide_eq_false e1] at hcm'
      exact of_decide_eq_true (by simpa using hcm')
  · refine Eq.mp (congrArg post (b_ext fun i _ => cs_beq ?_)) h
    rw [cs_pair_b hnx s a_first (cs_wl c) hl hr, cs_os0, (cs_T4 c hc hw).2]
    constructor
    · rintro ⟨m, hm, hJ⟩
      refine ⟨m, hm, ?_, (cs_jn_b _ _ _ _).mpr hJ⟩
      obtain ⟨y, z, _, _, h1, h2, _⟩ := hJ
      show (!decide (cs_F a_next a_first (cs_pl (nI s) false (cs_wl c) m) l = 0) && !decide (cs_F a_next a_first (cs_pl (nI s) true (cs_wl c) m) r = 0)) = true
      rw [decide_eq_false (cs_bnz h1), decide_eq_false (cs_bnz h2)]
      rfl
    · rintro ⟨m, hm, _, hJ⟩
      exact ⟨m, hm, (cs_jn_b _ _ _ _).mp hJ⟩
theorem cs_y_list {post : SY → Prop} {l r s : Nat} (hl : l < 8) (hr : r < 8) (hnx : ∀ i, cs_B8 (a_next i)) (h : ∀ fl pr : Nat → Int32, (∀ k c, k < 8 → c < 256 → fl (k * 256 + c) = cs_Ft a_next a_first k c) → (∀ c, c < 256 → pr c = cs_Pt a_next a_first s l r c) → post (f_depth, nI l, nI r, nI s, f_log, a_termFirst, a_termNext, a_first, a_next, fl, pr)) : wpY_list post (f_depth, nI l, nI r, nI s, f_log, a_termFirst, a_termNext, a_first, a_next, a_failures, a_pair) := by
  refine cs_lp (fun n fl i => wY_list_2 post f_depth (nI l) (nI r) (nI s) f_log n i a_termFirst a_termNext a_first a_next fl a_pair) (fun c fl => ∀ k c', k < 8 → c' < c → fl (k * 256 + c') = cs_Ft a_next a_first k c') 256 ?_ ?_ a_failures (fun k c' _ hc' => absurd hc' (by omega))
  · intro n fl hI
    refine br_t (by decide) ?_
    have hF : ∀ b c', b < 8 → c' < 256 → cs_isW c' = true → fl (b * 256 + c') = cs_F a_next a_first (cs_wl c') b := by
      intro b c' hb hc' hw
      rw [hI b c' hb hc']
      unfold cs_Ft
      rw [hw]; rfl
    refine cs_lp (fun n pr i => wY_list_63 post f_depth (nI l) (nI r) (nI s) f_log n i a_termFirst a_termNext a_first a_next fl pr) (fun c pr => ∀ c', c' < c → pr c' = cs_Pt a_next a_first s l r c') 256 ?_ ?_ a_pair (fun c' hc' => absurd hc' (by omega))
    · intro m pr hJ
      exact br_t (by decide) (h fl pr hI hJ)
    · intro m c pr hc hJ H
      have st : ∀ x, x = cs_Pt a_next a_first s l r c → ∀ c', c' < c + 1 → upd pr c x c' = cs_Pt a_next a_first s l r c' := by
        intro x ex c' hc'
        rcases Nat.lt_or_ge c' c with z | z
        · rw [pk_un (by omega)]; exact hJ c' z
        · obtain rfl : c' = c := by omega
          rw [pk_us]; exact ex
      refine br_f (cs_256 hc) (cs_y_isW hc ?_)
      cases hw : cs_isW c
      · refine br_t rfl ⟨vp_in_nI hc (by decide), nm_r (e' := upd pr c 0) (by rw [nI_clamp (by omega)]) (nm_r (nI_1 c) (H _ (st 0 ?_)))⟩
        unfold cs_Pt
        rw [hw]; rfl
      · refine br_f (by decide) (cs_y_pairRef hc hw hl hr hnx hF ⟨vp_in_nI hc (by decide), nm_r (e' := upd pr c (cs_Rf s a_first (cs_PS a_next (nI s) (cs_wl c) (cs_P0 l r)))) (by rw [nI_clamp (by omega)]) (nm_r (nI_1 c) (H _ (st _ ?_)))⟩)
        unfold cs_Pt
        rw [hw]; rfl
  · intro n c fl hc hI H
    refine br_f (cs_256 hc) (cs_y_isW hc ?_)
    refine cs_lp (fun m fl i => wY_list_17 post (wY_list_2 post f_depth (nI l) (nI r) (nI s) f_log n) (nI c) (bif cs_isW c then 1 else 0) f_depth (nI l) (nI r) (nI s) f_log m i a_termFirst a_termNext a_first a_next fl a_pair) (fun k fl => (∀ k' c', k' < 8 → c' < c → fl (k' * 256 + c') = cs_Ft a_next a_first k' c') ∧ ∀ k', k' < k → fl (k' * 256 + c) = cs_Ft a_next a_first k' c) 8 ?_ ?_ fl ⟨hI, fun k' hk' => absurd hk' (by omega)⟩
    · intro m fl' hI'
      refine br_t (by decide) (nm_r (nI_1 c) (H fl' ?_))
      intro k' c' hk' hc'
      rcases Nat.lt_or_ge c' c with z | z
      · exact hI'.1 k' c' hk' z
      · obtain rfl : c' = c := by omega
        exact hI'.2 k' hk'
    · intro m k fl' hk hI' H'
      have st : ∀ x, x = cs_Ft a_next a_first k c → (∀ k' c', k' < 8 → c' < c → upd fl' (k * 256 + c) x (k' * 256 + c') = cs_Ft a_next a_first k' c') ∧ ∀ k', k' < k + 1 → upd fl' (k * 256 + c) x (k' * 256 + c) = cs_Ft a_next a_first k' c := by
        intro x ex
        refine ⟨fun k' c' hk' hc' => ?_, fun k' hk' => ?_⟩
        · rw [pk_un (by omega)]; exact hI'.1 k' c' hk' hc'
        · rcases Nat.lt_or_ge k' k with z | z
          · rw [pk_un (by omega)]; exact hI'.2 k' z
          · obtain rfl : k' = k := by omega
            rw [pk_us]; exact ex
      refine br_f (cs_8 hk) ?_
      cases hw : cs_isW c
      · rw [hw] at H'
        refine br_t rfl ⟨by rw [cs_m256]; exact vp_in_nI (by omega) (by decide), nm_r (e' := upd fl' (k * 256 + c) 0) (by rw [cs_m256, nI_clamp (by omega)]) (nm_r (nI_1 k) (H' _ (st 0 ?_)))⟩
        unfold cs_Ft
        rw [hw]; rfl
      · rw [hw] at H'
        refine br_f (by decide) (cs_y_refOf hc hw hk ?_ ⟨by rw [cs_m256]; exact vp_in_nI (by omega) (by decide), nm_r (e' := upd fl' (k * 256 + c) (cs_F a_next a_first (cs_wl c) k)) (by rw [cs_m256, nI_clamp (by omega)]) (nm_r (nI_1 k) (H' _ (st _ ?_)))⟩)
        · intro b c' hb hc' hw'
          rw [hI'.1 b c' hb hc']
          unfold cs_Ft
          rw [hw']; rfl
        · unfold cs_Ft
          rw [hw]; rfl
end
end
section
/-! the walk over the states, pure: sums and the invariant -/
def cs_sm (f : Nat → Int32) (lo : Nat) : Nat → Int32
  | 0 => 0
  | n + 1 => if lo ≤ n then cs_sm f lo n + f n else cs_sm f lo n
theorem cs_sm_s {f : Nat → Int32} {lo n : Nat} (h : lo ≤ n) : cs_sm f lo (n + 1) = cs_sm f lo n + f n := if_pos h
theorem cs_sm_e {f : Nat → Int32} {lo : Nat} : ∀ {n : Nat}, n ≤ lo → cs_sm f lo n = 0 := by
  intro n
  induction n with
  | zero => intro _; rfl
  | succ n ih =>
    intro h
    show (if lo ≤ n then cs_sm f lo n + f n else cs_sm f lo n) = 0
    rw [if_neg (by omega)]
    exact ih (by omega)
theorem cs_sm_c {f g : Nat → Int32} {lo : Nat} : ∀ {n : Nat}, (∀ k, lo ≤ k → k < n → f k = g k) → cs_sm f lo n = cs_sm g lo n := by
  intro n
  induction n with
  | zero => intro _; rfl
  | succ n ih =>
    intro h
    show (if lo ≤ n then cs_sm f lo n + f n else cs_sm f lo n) = (if lo ≤ n then cs_sm g lo n + g n else cs_sm g lo n)
    rw [ih (fun k h1 h2 => h k h1 (by omega))]
    by_cases e : lo ≤ n
    · rw [if_pos e, if_pos e, h n e (by omega)]
    · rw [if_neg e, if_neg e]
theorem cs_sm_u {f g : Nat → Int32} {lo k : Nat} {x : Int32} (hk : lo ≤ k) (h1 : ∀ n, n ≠ k → g n = f n) (h2 : g k = f k + x) : ∀ {n : Nat}, k < n → cs_sm g lo n = cs_sm f lo n + x := by
  intro n
  induction n with
  | zero => intro h; omega
  | succ n ih =>
    intro h
    rcases Nat.lt_or_ge k n with z | z
    · rw [cs_sm_s (by omega), cs_sm_s (by omega), ih z, h1 n (by omega)]
      rw [Int32.add_assoc, Int32.add_comm x, Int32.add_assoc]
    · obtain rfl : k = n := by omega
      rw [cs_sm_s hk, cs_sm_s hk, h2, cs_sm_c (fun j _ hj => h1 j (by omega)), Int32.add_assoc]
/-- the weight of a state's first a successors -/
def cs_pt (st : Int64 → Nat → Int64) (v : Int64 → Int32) (P : Int64) : Nat → Int32
  | 0 => 0
  | a + 1 => cs_pt st v P a + v (st P a)
/-- the weight of all words of a length -/
def cs_Vs (st : Int64 → Nat → Int64) (P0 : Int64) : Nat → (Int64 → Int32) → Int32
  | 0, v => v P0
  | l + 1, v => cs_Vs st P0 l (fun P => cs_pt st v P 3)
def cs_Nd (Pc : Nat → Int64) (Nc : Nat → Int32) (N : Nat) (cd : Nat → Nat) (pa : Nat → Int64) (sp co : Nat → Int32) : Prop := ∀ n, n < N → cs_isW (cd n) = true ∧ cd n < 256 ∧ co n = nI (cd n) ∧ pa n = Pc (cd n) ∧ sp n = Nc (cd n) ∧ ¬ Pc (cd n) = 0 ∧ n ≤ cs_rk (cd n)
def cs_Mo (N : Nat) (cd : Nat → Nat) : Prop := ∀ n m, n < m → m < N → cd n < cd m
def cs_Cl (Pc : Nat → Int64) (Nc : Nat → Int32) (N : Nat) (cd : Nat → Nat) (m a : Nat) : Prop := ∀ n b, b < 3 → (n < m ∨ (n = m ∧ b < a)) → ¬ Pc (cd n * 4 + b + 1) = 0 → ∃ n', n' < N ∧ cd n' ≤ cd n * 4 + b + 1 ∧ Pc (cd n') = Pc (cd n * 4 + b + 1) ∧ Nc (cd n') = Nc (cd n * 4 + b + 1)
/-- within a layer: the nodes before m are expanded, of m the events before a -/
def cs_In (Pc : Nat → Int64) (Nc : Nat → Int32) (st : Int64 → Nat → Int64) (G : Prop) (T lo N0 : Nat) (cd0 : Nat → Nat) (pa0 : Nat → Int64) (wy0 : Nat → Int32) (m a N : Nat) (cd : Nat → Nat) (pa : Nat → Int64) (sp co wy : Nat → Int32) : Prop :=
  N0 ≤ N ∧ cs_Nd Pc Nc N cd pa sp co ∧ cs_Mo N cd ∧ (∀ n, n < N → cd n < T * 4) ∧ (m < N0 → ∀ n, n < N → cd n < cd m * 4 + a + 1) ∧ (∀ n, N0 ≤ n → n < N → T ≤ cd n) ∧ cs_Cl Pc Nc N cd m a ∧ (∀ n, n < N0 → cd n = cd0 n ∧ pa n = pa0 n ∧ (G → wy n = wy0 n)) ∧ (G → ∀ v : Int64 → Int32, v 0 = 0 → cs_sm (fun n => wy n * v (pa n)) N0 N = cs_sm (fun n => wy0 n * cs_pt st v (pa0 n) 3) lo m + wy0 m * cs_pt st v (pa0 m) a)
/-- what stays fixed within a layer -/
def cs_K (T lo N0 : Nat) (cd0 : Nat → Nat) : Prop := T ≤ 64 ∧ (∀ n, n < N0 → cd0 n < T) ∧ (∀ n, lo ≤ n → n < N0 → T ≤ cd0 n * 4 + 1)
section
variable {Pc : Nat → Int64} {Nc : Nat → Int32} {st : Int64 → Nat → Int64} {G : Prop} {T lo N0 : Nat} {cd0 : Nat → Nat} {pa0 : Nat → Int64} {wy0 : Nat → Int32} {m a N : Nat} {cd : Nat → Nat} {pa : Nat → Int64} {sp co wy : Nat → Int32}
/-- the node in hand -/
theorem cs_In_at (hK : cs_K T lo N0 cd0) (hP : ∀ c, c < 64 → cs_isW c = true → ∀ a, a < 3 → Pc (c * 4 + a + 1) = st (Pc c) a) (I : cs_In Pc Nc st G T lo N0 cd0 pa0 wy0 m a N cd pa sp co wy) (ha : a < 3) (hl : lo ≤ m) (hm : m < N0) : m < N ∧ cd m < 64 ∧ cs_isW (cd m) = true ∧ cs_isW (cd m * 4 + a + 1) = true ∧ cd m * 4 + a + 1 < 256 ∧ cd m < T ∧ T ≤ cd m * 4 + 1 ∧ pa m = Pc (cd m) ∧ sp m = Nc (cd m) ∧ co m = nI (cd m) ∧ st (pa0 m) a = Pc (cd m * 4 + a + 1) ∧ st (pa m) a = Pc (cd m * 4 + a + 1) ∧ N ≤ cs_rk (cd m * 4 + a + 1) ∧ N < 128 := by
  obtain ⟨hN, hNd, hMo, hT4, hlt, hge, hCl, hfr, hsum⟩ := I
  obtain ⟨k1, k2, k3⟩ := hK
  obtain ⟨w1, w2, w3, w4, w5, w6, w7⟩ := hNd m (by omega)
  obtain ⟨f1, f2, _⟩ := hfr m hm
  have c1 : cd m < T := by rw [f1]; exact k2 m hm
  have c2 : T ≤ cd m * 4 + 1 := by rw [f1]; exact k3 m hl hm
  have c3 : cd m < 64 := by omega
  have hw := (cs_T1 (cd m) c3 w1 a ha).1
  have hst : st (pa m) a = Pc (cd m * 4 + a + 1) := by rw [w4, hP _ c3 w1 a ha]
  have hrk : N ≤ cs_rk (cd m * 4 + a + 1) := by
    obtain ⟨v1, _, _, _, _, _, v7⟩ := hNd (N - 1) (by omega)
    have := cs_rk_lt v1 (hlt hm (N - 1) (by omega))
    omega
  have htop := cs_rk_top hw (by omega)
  exact ⟨by omega, c3, w1, hw, by omega, c1, c2, w4, w5, w3, by rw [← f2]; exact hst, hst, hrk, by omega⟩
theorem cs_In_skip (hK : cs_K T lo N0 cd0) (hP : ∀ c, c < 64 → cs_isW c = true → ∀ a, a < 3 → Pc (c * 4 + a + 1) = st (Pc c) a) (I : cs_In Pc Nc st G T lo N0 cd0 pa0 wy0 m a N cd pa sp co wy) (ha : a < 3) (hl : lo ≤ m) (hm : m < N0) (hz : Pc (cd m * 4 + a + 1) = 0) : cs_In Pc Nc st G T lo N0 cd0 pa0 wy0 m (a + 1) N cd pa sp co wy := by
  obtain ⟨_, _, _, _, _, _, _, _, _, _, e1, _⟩ := cs_In_at hK hP I ha hl hm
  obtain ⟨hN, hNd, hMo, hT4, hlt, hge, hCl, hfr, hsum⟩ := I
  refine ⟨hN, hNd, hMo, hT4, fun h n hn => by have := hlt h n hn; omega, hge, ?_, hfr, ?_⟩
  · intro n b hb hc hnz
    rcases hc with h | ⟨h1, h2⟩
    · exact hCl n b hb (Or.inl h) hnz
    · rcases Nat.lt_or_ge b a with z | z
      · exact hCl n b hb (Or.inr ⟨h1, z⟩) hnz
      · obtain rfl : b = a := by omega
        rw [h1] at hnz
        exact absurd hz hnz
  · intro g v hv
    rw [hsum g v hv]
    show _ = _ + wy0 m * (cs_pt st v (pa0 m) a + v (st (pa0 m) a))
    rw [e1, hz, hv, Int32.add_zero]
theorem cs_In_merge (hK : cs_K T lo N0 cd0) (hP : ∀ c, c < 64 → cs_isW c = true → ∀ a, a < 3 → Pc (c * 4 + a + 1) = st (Pc c) a) (I : cs_In Pc Nc st G T lo N0 cd0 pa0 wy0 m a N cd pa sp co wy) (ha : a < 3) (hl : lo ≤ m) (hm : m < N0) {k : Nat} (hk : k < N) (hG : G → N0 ≤ k) (e1 : pa k = Pc (cd m * 4 + a + 1)) (e2 : sp k = Nc (cd m * 4 + a + 1)) : cs_In Pc Nc st G T lo N0 cd0 pa0 wy0 m (a + 1) N cd pa sp co (upd wy k (wy k + wy m)) := by
  obtain ⟨_, _, _, _, _, _, _, _, _, _, q1, _⟩ := cs_In_at hK hP I ha hl hm
  obtain ⟨hN, hNd, hMo, hT4, hlt, hge, hCl, hfr, hsum⟩ := I
  refine ⟨hN, hNd, hMo, hT4, fun h n hn => by have := hlt h n hn; omega, hge, ?_, ?_, ?_⟩
  · intro n b hb hc hnz
    rcases hc with h | ⟨h1, h2⟩
    · exact hCl n b hb (Or.inl h) hnz
    · rcases Nat.lt_or_ge b a with z | z
      · exact hCl n b hb (Or.inr ⟨h1, z⟩) hnz
      · obtain rfl : b = a := by omega
        subst h1
        obtain ⟨_, _, _, w4, w5, _, _⟩ := hNd k hk
        have := hlt hm k hk
        exact ⟨k, hk, by omega, by rw [← w4, e1], by rw [← w5, e2]⟩
  · intro n hn
    obtain ⟨f1, f2, f3⟩ := hfr n hn
    exact ⟨f1, f2, fun g => by rw [pk_un (by have := hG g; omega)]; exact f3 g⟩
  · intro g v hv
    have hf := (hfr m hm).2.2 g
    rw [cs_sm_u (f := fun n => wy n * v (pa n)) (x := wy m * v (pa k)) (hG g) (fun n hn => by show upd wy k _ n * _ = _; rw [pk_un hn]) (by show upd wy k _ k * _ = _; rw [pk_us, Int32.add_mul]) hk, hsum g v hv]
    show _ = _ + wy0 m * (cs_pt st v (pa0 m) a + v (st (pa0 m) a))
    rw [q1, e1, hf, Int32.mul_add, Int32.add_assoc]
theorem cs_In_app (hK : cs_K T lo N0 cd0) (hP : ∀ c, c < 64 → cs_isW c = true → ∀ a, a < 3 → Pc (c * 4 + a + 1) = st (Pc c) a) (I : cs_In Pc Nc st G T lo N0 cd0 pa0 wy0 m a N cd pa sp co wy) (ha : a < 3) (hl : lo ≤ m) (hm : m < N0) (hz : ¬ Pc (cd m * 4 + a + 1) = 0) : cs_In Pc Nc st G T lo N0 cd0 pa0 wy0 m (a + 1) (N + 1) (fun n => if n = N then cd m * 4 + a + 1 else cd n) (vp_updL pa N (Pc (cd m * 4 + a + 1))) (upd sp N (Nc (cd m * 4 + a + 1))) (upd co N (nI (cd m * 4 + a + 1))) (upd wy N (wy m)) := by
  obtain ⟨a1, a2, a3, a4, a5, a6, a7, a8, a9, a10, a11, a12, a13, a14⟩ := cs_In_at hK hP I ha hl hm
  obtain ⟨hN, hNd, hMo, hT4, hlt, hge, hCl, hfr, hsum⟩ := I
  have hlt' := hlt hm
  generalize hw : cd m * 4 + a + 1 = w at *
  have cn : ∀ n, n < N → (if n = N then w else cd n) = cd n := fun n hn => if_neg (by omega)
  have cN : (if N = N then w else cd N) = w := if_pos rfl
  refine ⟨by omega, ?_, ?_, ?_, ?_, ?_, ?_, ?_, ?_⟩
  · intro n hn
    rcases Nat.lt_or_ge n N with z | z
    · show cs_isW (if n = N then w else cd n) = true ∧ (if n = N then w else cd n) < 256 ∧ upd co N (nI w) n = nI (if n = N then w else cd n) ∧ vp_updL pa N (Pc w) n = Pc (if n = N then w else cd n) ∧ upd sp N (Nc w) n = Nc (if n = N then w else cd n) ∧ ¬ Pc (if n = N then w else cd n) = 0 ∧ n ≤ cs_rk (if n = N then w else cd n)
      rw [cn n z, pk_un (by omega), pk_un (by omega), pk_uLn (by omega)]
      exact hNd n z
    · obtain rfl : n = N := by omega
      show cs_isW (if n = n then w else cd n) = true ∧ (if n = n then w else cd n) < 256 ∧ upd co n (nI w) n = nI (if n = n then w else cd n) ∧ vp_updL pa n (Pc w) n = Pc (if n = n then w else cd n) ∧ upd sp n (Nc w) n = Nc (if n = n then w else cd n) ∧ ¬ Pc (if n = n then w else cd n) = 0 ∧ n ≤ cs_rk (if n = n then w else cd n)
      rw [cN, pk_us, pk_us, pk_uLs]
      exact ⟨a4, a5, rfl, rfl, rfl, hz, a13⟩
  · intro n k hnk hk
    show (if n = N then w else cd n) < (if k = N then w else cd k)
    rw [cn n (by omega)]
    rcases Nat.lt_or_ge k N with z | z
    · rw [cn k z]; exact hMo n k hnk z
    · obtain rfl : k = N := by omega
      rw [cN]; exact hlt' n (by omega)
  · intro n hn
    show (if n = N then w else cd n) < T * 4
    rcases Nat.lt_or_ge n N with z | z
    · rw [cn n z]; exact hT4 n z
    · obtain rfl : n = N := by omega
      rw [cN]; omega
  · intro _ n hn
    show (if n = N then w else cd n) < (if m = N then w else cd m) * 4 + (a + 1) + 1
    rw [cn m a1]
    rcases Nat.lt_or_ge n N with z | z
    · rw [cn n z]; have := hlt' n z; omega
    · obtain rfl : n = N := by omega
      rw [cN]; omega
  · intro n h0 hn
    show T ≤ (if n = N then w else cd n)
    rcases Nat.lt_or_ge n N with z | z
    · rw [cn n z]; exact hge n h0 z
    · obtain rfl : n = N := by omega
      rw [cN]; omega
  · intro n b hb hc hnz
    have hnN : n < N := by rcases hc with h | ⟨h1, h2⟩ <;> omega
    have hnz' : ¬ Pc (cd n * 4 + b + 1) = 0 := by
      have : ¬ Pc ((if n = N then w else cd n) * 4 + b + 1) = 0 := hnz
      rw [cn n hnN] at this; exact this
    show ∃ n', n' < N + 1 ∧ (if n' = N then w else cd n') ≤ (if n = N then w else cd n) * 4 + b + 1 ∧ Pc (if n' = N then w else cd n') = Pc ((if n = N then w else cd n) * 4 + b + 1) ∧ Nc (if n' = N then w else cd n') = Nc ((if n = N then w else cd n) * 4 + b + 1)
    rw [cn n hnN]
    have old : (n < m ∨ (n = m ∧ b < a)) → ∃ n', n' < N + 1 ∧ (if n' = N then w else cd n') ≤ cd n * 4 + b + 1 ∧ Pc (if n' = N then w else cd n') = Pc (cd n * 4 + b + 1) ∧ Nc (if n' = N then w else cd n') = Nc (cd n * 4 + b + 1) := by
      intro h
      obtain ⟨n', h1, h2⟩ := hCl n b hb h hnz'
      exact ⟨n', by omega, by rw [cn n' h1]; exact h2⟩
    rcases hc with h | ⟨h1, h2⟩
    · exact old (Or.inl h)
    · rcases Nat.lt_or_ge b a with z | z
      · exact old (Or.inr ⟨h1, z⟩)
      · obtain rfl : b = a := by omega
        subst h1
        rw [hw]
        exact ⟨N, by omega, by rw [cN]; exact ⟨Nat.le_refl _, rfl, rfl⟩⟩
  · intro n hn
    obtain ⟨f1, f2, f3⟩ := hfr n hn
    refine ⟨by show (if n = N then w else cd n) = _; rw [cn n (by omega)]; exact f1, by rw [pk_uLn (by omega)]; exact f2, fun g => by rw [pk_un (by omega)]; exact f3 g⟩
  · intro g v hv
    have hf := (hfr m hm).2.2 g
    rw [cs_sm_s hN]
    show cs_sm _ N0 N + upd wy N (wy m) N * v (vp_updL pa N (Pc w) N) = _
    rw [pk_us, pk_uLs, cs_sm_c (g := fun n => wy n * v (pa n)) (fun k _ hk => by show upd wy N (wy m) k * v (vp_updL pa N (Pc w) k) = _; rw [pk_un (by omega), pk_uLn (by omega)]), hsum g v hv]
    show _ = _ + wy0 m * (cs_pt st v (pa0 m) a + v (st (pa0 m) a))
    rw [a11, hf, Int32.mul_add, Int32.add_assoc]
theorem cs_In_next (I : cs_In Pc Nc st G T lo N0 cd0 pa0 wy0 m 3 N cd pa sp co wy) (hl : lo ≤ m) (hm : m < N0) : cs_In Pc Nc st G T lo N0 cd0 pa0 wy0 (m + 1) 0 N cd pa sp co wy := by
  obtain ⟨hN, hNd, hMo, hT4, hlt, hge, hCl, hfr, hsum⟩ := I
  refine ⟨hN, hNd, hMo, hT4, ?_, hge, ?_, hfr, ?_⟩
  · intro h n hn
    have h1 := hlt hm n hn
    have h2 := hMo m (m + 1) (by omega) (by omega)
    omega
  · intro n b hb hc hnz
    refine hCl n b hb ?_ hnz
    omega
  · intro g v hv
    rw [hsum g v hv, cs_sm_s hl]
    show _ = _ + wy0 (m + 1) * 0
    rw [Int32.mul_zero, Int32.add_zero]
end
/-- at the head of a layer -/
def cs_A (Pc : Nat → Int64) (Nc : Nat → Int32) (st : Int64 → Nat → Int64) (G : Prop) (len N : Nat) (Lf : Nat → Nat) (la : Nat → Int32) (cd : Nat → Nat) (pa : Nat → Int64) (sp co wy : Nat → Int32) : Prop :=
  1 ≤ N ∧ cd 0 = 0 ∧ cs_Nd Pc Nc N cd pa sp co ∧ cs_Mo N cd ∧ (∀ n, n < N → cd n < 4 ^ len) ∧ (∀ l, l ≤ len → Lf l ≤ N) ∧ (∀ n, Lf len ≤ n → n < N → 4 ^ len ≤ cd n * 4 + 1) ∧ (∀ n, n < Lf len → cd n * 4 < 4 ^ len) ∧ cs_Cl Pc Nc N cd (Lf len) 0 ∧ (∀ l, l ≤ len → la l = nI (Lf l)) ∧ (G → ∀ v : Int64 → Int32, v 0 = 0 → cs_sm (fun n => wy n * v (pa n)) (Lf len) N = cs_Vs st (Pc 0) len v) ∧ (G → ∀ l, l < len → ∀ v : Int64 → Int32, v 0 = 0 → cs_sm (fun n => wy n * v (pa n)) (Lf l) (Lf (l + 1)) = cs_Vs st (Pc 0) l v)
section
variable {Pc : Nat → Int64} {Nc : Nat → Int32} {st : Int64 → Nat → Int64} {G : Prop} {len N : Nat} {Lf : Nat → Nat} {la : Nat → Int32} {cd : Nat → Nat} {pa : Nat → Int64} {sp co wy : Nat → Int32}
theorem cs_A_N (A : cs_A Pc Nc st G len N Lf la cd pa sp co wy) : N ≤ 121 := by
  obtain ⟨h1, _, hNd, _⟩ := A
  obtain ⟨v1, v2, _, _, _, _, v7⟩ := hNd (N - 1) (by omega)
  have := cs_rk_top v1 v2
  omega
theorem cs_A_K (hlen : len < 4) (A : cs_A Pc Nc st G len N Lf la cd pa sp co wy) : cs_K (4 ^ len) (Lf len) N cd := by
  obtain ⟨h1, h2, hNd, hMo, hT, hL, hg, hlow, hCl, hla, hs, hss⟩ := A
  have : 4 ^ len ≤ 4 ^ 3 := Nat.pow_le_pow_right (by decide) (by omega)
  exact ⟨this, hT, hg⟩
theorem cs_A_In (A : cs_A Pc Nc st G len N Lf la cd pa sp co wy) : cs_In Pc Nc st G (4 ^ len) (Lf len) N cd pa wy (Lf len) 0 N cd pa sp co wy := by
  obtain ⟨h1, h2, hNd, hMo, hT, hL, hg, hlow, hCl, hla, hs, hss⟩ := A
  refine ⟨Nat.le_refl _, hNd, hMo, fun n hn => by have := hT n hn; omega, ?_, fun n h1 h2 => by omega, hCl, fun n _ => ⟨rfl, rfl, fun _ => rfl⟩, ?_⟩
  · intro h n hn
    have := hT n hn
    have := hg (Lf len) (Nat.le_refl _) h
    omega
  · intro g v hv
    rw [cs_sm_e (Nat.le_refl _), cs_sm_e (Nat.le_refl _)]
    show (0 : Int32) = 0 + wy (Lf len) * 0
    rw [Int32.mul_zero, Int32.add_zero]
theorem cs_In_A (hst : ∀ a, a < 3 → st 0 a = 0) (A : cs_A Pc Nc st G len N Lf la cd pa sp co wy) {N' : Nat} {cd' : Nat → Nat} {pa' : Nat → Int64} {sp' co' wy' : Nat → Int32} (I : cs_In Pc Nc st G (4 ^ len) (Lf len) N cd pa wy N 0 N' cd' pa' sp' co' wy') : cs_A Pc Nc st G (len + 1) N' (fun l => if l = len + 1 then N else Lf l) (upd la (len + 1) (nI N)) cd' pa' sp' co' wy' := by
  obtain ⟨h1, h2, hNd0, hMo0, hT, hL, hg, hlow, hCl0, hla, hs, hss⟩ := A
  obtain ⟨hN, hNd, hMo, hT4, hlt, hge, hCl, hfr, hsum⟩ := I
  have e1 : (if len + 1 = len + 1 then N else Lf (len + 1)) = N := if_pos rfl
  have en : ∀ l, l ≤ len → (if l = len + 1 then N else Lf l) = Lf l := fun l hl => if_neg (by omega)
  have ep : 4 ^ (len + 1) = 4 ^ len * 4 := Nat.pow_succ 4 len
  refine ⟨by omega, by rw [(hfr 0 (by omega)).1]; exact h2, hNd, hMo, by rw [ep]; exact hT4, ?_, ?_, ?_, ?_, ?_, ?_, ?_⟩
  · intro l hl
    show (if l = len + 1 then N else Lf l) ≤ N'
    rcases Nat.lt_or_ge l (len + 1) with z | z
    · rw [en l (by omega)]; have := hL l (by omega); omega
    · obtain rfl : l = len + 1 := by omega
      rw [e1]; exact hN
  · show ∀ n, (if len + 1 = len + 1 then N else Lf (len + 1)) ≤ n → n < N' → 4 ^ (len + 1) ≤ cd' n * 4 + 1
    rw [e1, ep]
    intro n hn hn'
    have := hge n hn hn'
    omega
  · show ∀ n, n < (if len + 1 = len + 1 then N else Lf (len + 1)) → cd' n * 4 < 4 ^ (len + 1)
    rw [e1, ep]
    intro n hn
    have := hT n hn
    rw [(hfr n hn).1]
    omega
  · show cs_Cl Pc Nc N' cd' (if len + 1 = len + 1 then N else Lf (len + 1)) 0
    rw [e1]
    exact hCl
  · intro l hl
    show upd la (len + 1) (nI N) l = nI (if l = len + 1 then N else Lf l)
    rcases Nat.lt_or_ge l (len + 1) with z | z
    · rw [en l (by omega), pk_un (by omega)]; exact hla l (by omega)
    · obtain rfl : l = len + 1 := by omega
      rw [e1, pk_us]
  · intro g v hv
    show cs_sm _ (if len + 1 = len + 1 then N else Lf (len + 1)) N' = cs_Vs st (Pc 0) len (fun P => cs_pt st v P 3)
    rw [e1, hsum g v hv]
    have hv' : (fun P => cs_pt st v P 3) 0 = 0 := by
      show (0 : Int32) + v (st 0 0) + v (st 0 1) + v (st 0 2) = 0
      rw [hst 0 (by decide), hst 1 (by decide), hst 2 (by decide), hv]
      rfl
    rw [← hs g _ hv']
    show cs_sm _ (Lf len) N + wy N * 0 = _
    rw [Int32.mul_zero, Int32.add_zero]
  · intro g l hl v hv
    show cs_sm _ (if l = len + 1 then N else Lf l) (if l + 1 = len + 1 then N else Lf (l + 1)) = _
    rw [en l (by omega)]
    rcases Nat.lt_or_ge l len with z | z
    · rw [en (l + 1) (by omega), ← hss g l z v hv]
      refine cs_sm_c fun k _ hk => ?_
      have := hL (l + 1) (by omega)
      obtain ⟨_, f2, f3⟩ := hfr k (by omega)
      show wy' k * v (pa' k) = wy k * v (pa k)
      rw [f2, f3 g]
    · obtain rfl : l = len := by omega
      rw [e1, ← hs g v hv]
      refine cs_sm_c fun k _ hk => ?_
      obtain ⟨_, f2, f3⟩ := hfr k hk
      show wy' k * v (pa' k) = wy k * v (pa k)
      rw [f2, f3 g]
/-- every word with a state has a node of no greater code and the same state -/
theorem cs_cover {sn : Int32 → Nat → Int32} (hst : ∀ a, a < 3 → st 0 a = 0) (hP : ∀ c, c < 64 → cs_isW c = true → ∀ a, a < 3 → Pc (c * 4 + a + 1) = st (Pc c) a) (hQ : ∀ c, c < 64 → cs_isW c = true → ∀ a, a < 3 → Nc (c * 4 + a + 1) = sn (Nc c) a) (A : cs_A Pc Nc st G 4 N Lf la cd pa sp co wy) : ∀ c, c < 256 → cs_isW c = true → ¬ Pc c = 0 → ∃ n, n < N ∧ cd n ≤ c ∧ Pc (cd n) = Pc c ∧ Nc (cd n) = Nc c ∧ (c < 64 → n < Lf 4) := by
  obtain ⟨h1, h2, hNd, hMo, hT, hL, hg, hlow, hCl, hla, hs, hss⟩ := A
  have fin : ∀ c n, n < N → cd n ≤ c → c < 64 → n < Lf 4 := by
    intro c n hn hc h64
    rcases Nat.lt_or_ge n (Lf 4) with z | z
    · exact z
    · have h := hg n z hn
      rw [show 4 ^ 4 = 256 from rfl] at h
      omega
  intro c
  induction c using Nat.strongRecOn with
  | ind c ih =>
    intro hc hw hnz
    rcases cs_T3 c hc hw with e | ⟨t1, t2, t3, t4⟩
    · subst e
      exact ⟨0, h1, by omega, by rw [h2], by rw [h2], fun _ => fin 0 0 h1 (by omega) (by decide)⟩
    · generalize (c - 1) / 4 = c0 at *
      generalize (c - 1) % 4 = a at *
      have e := hP c0 t1 t2 a t3
      have e' := hQ c0 t1 t2 a t3
      rw [← t4] at e e'
      have hnz0 : ¬ Pc c0 = 0 := fun z => hnz (by rw [e, z, hst a t3])
      obtain ⟨n, hn, i1, i2, i3, i4⟩ := ih c0 (by omega) (by omega) t2 hnz0
      have hnL := i4 t1
      obtain ⟨w1, w2, _⟩ := hNd n hn
      have p1 : Pc (cd n * 4 + a + 1) = Pc c := by rw [hP (cd n) (by omega) w1 a t3, i2, e]
      have p2 : Nc (cd n * 4 + a + 1) = Nc c := by rw [hQ (cd n) (by omega) w1 a t3, i3, e']
      obtain ⟨n', q1, q2, q3, q4⟩ := hCl n a t3 (Or.inl hnL) (by rw [p1]; exact hnz)
      exact ⟨n', q1, by omega, by rw [q3, p1], by rw [q4, p2], fun h64 => fin c n' q1 (by omega) h64⟩
end
end
section
/-! the component's walk -/
def cs_Pc (nx : Nat → Int32) (sh : Int32) (P0 : Int64) (c : Nat) : Int64 := cs_PS nx sh (cs_wl c) P0
def cs_Nc (nx : Nat → Int32) (S : Int32) (c : Nat) : Int32 := cs_NS nx (cs_wl c) S
theorem cs_Pc_s (nx : Nat → Int32) (sh : Int32) (P0 : Int64) : ∀ c, c < 64 → cs_isW c = true → ∀ a, a < 3 → cs_Pc nx sh P0 (c * 4 + a + 1) = cs_step nx sh (cs_Pc nx sh P0 c) a := by
  intro c hc hw a ha
  unfold cs_Pc cs_PS
  rw [(cs_T1 c hc hw a ha).2.1, List.foldl_append]
  rfl
theorem cs_Nc_s (nx : Nat → Int32) (S : Int32) : ∀ c, c < 64 → cs_isW c = true → ∀ a, a < 3 → cs_Nc nx S (c * 4 + a + 1) = cs_sn nx (cs_Nc nx S c) a := by
  intro c hc hw a ha
  unfold cs_Nc cs_NS
  rw [(cs_T1 c hc hw a ha).2.1, List.foldl_append]
  rfl
theorem cs_Pc_0 (nx : Nat → Int32) (sh : Int32) (P0 : Int64) : cs_Pc nx sh P0 0 = P0 := rfl
theorem cs_Nc_0 (nx : Nat → Int32) (S : Int32) : cs_Nc nx S 0 = S := rfl
section
variable {f_height f_left f_right f_shared f_paired f_logged f_nodes : Int32} {a_termRefuse a_termNext a_refuse a_next a_pairRefuse a_events a_layer a_spec a_code a_ways : Nat → Int32} {a_after a_pairs : Nat → Int64}
theorem cs_w_enter {post : SX → Prop} {N f : Nat} (hN : N < 128) (hf : f ≤ N) (P : Int64) (S wd ct : Int32) (hm : ∀ k, f ≤ k → k < N → a_pairs k = P → a_spec k = S → post (f_height, f_left, f_right, f_shared, f_paired, f_logged, nI N, a_termRefuse, a_termNext, a_refuse, a_next, a_pairRefuse, a_events, a_after, a_layer, a_pairs, a_spec, a_code, upd a_ways k (a_ways k + ct))) (hn : post (f_height, f_left, f_right, f_shared, f_paired, f_logged, nI (N + 1), a_termRefuse, a_termNext, a_refuse, a_next, a_pairRefuse, a_events, a_after, a_layer, vp_updL a_pairs N P, upd a_spec N S, upd a_code N wd, upd a_ways N ct)) : wpX_enter post (f_height, f_left, f_right, f_shared, f_paired, f_logged, nI N, a_termRefuse, a_termNext, a_refuse, a_next, a_pairRefuse, a_events, a_after, a_layer, a_pairs, a_spec, a_code, a_ways) P S wd ct (nI f) := by
  have eN : (nI N).toNatClampNeg = N := nI_clamp (by omega)
  have hi : vp_in (nI N) 128 := vp_in_nI hN (by decide)
  have H : ∀ d k, k + d = N → f ≤ k → wX_enter_4 post P S wd ct f_height f_left f_right f_shared f_paired f_logged (nI N) a_termRefuse a_termNext a_refuse a_next a_pairRefuse a_events a_after a_layer a_pairs a_spec a_code a_ways (d + 1) (nI k) := by
    intro d
    induction d with
    | zero =>
      intro k hk _
      refine br_t (nI_le (by omega) (by omega)) (br_f (nI_ge (b := 128) hN (by decide)) ?_)
      exact ⟨hi, nm_r (by rw [eN]) ⟨hi, nm_r (by rw [eN]) ⟨hi, nm_r (by rw [eN]) ⟨hi, nm_r (by rw [eN]) (nm_r (nI_1 N) hn)⟩⟩⟩⟩
    | succ d ih =>
      intro k hk hfk
      have ek : (nI k).toNatClampNeg = k := nI_clamp (by omega)
      have hik : vp_in (nI k) 128 := vp_in_nI (by omega) (by decide)
      refine br_f (nI_ge (by omega) (by omega)) ⟨hik, ?_⟩
      by_cases h1 : a_pairs k = P
      · refine br_t (by rw [ek]; exact h1) ⟨hik, ?_⟩
        by_cases h2 : a_spec k = S
        · exact br_t (by rw [ek]; exact h2) ⟨hik, hik, nm_r (by rw [ek]) (hm k hfk (by omega) h1 h2)⟩
        · exact br_f (by rw [ek]; exact h2) (nm_r (nI_1 k) (ih (k + 1) (by omega) (by omega)))
      · exact br_f (by rw [ek]; exact h1) (nm_r (nI_1 k) (ih (k + 1) (by omega) (by omega)))
  exact ⟨N - f + 1, H (N - f) f (by omega) (Nat.le_refl _)⟩
theorem cs_w_expand {post : SX → Prop} {Pc : Nat → Int64} {Nc : Nat → Int32} {G : Prop} {T lo N0 : Nat} {cd0 : Nat → Nat} {pa0 : Nat → Int64} {wy0 : Nat → Int32} {m fr N : Nat} {cd : Nat → Nat} (hK : cs_K T lo N0 cd0) (hP : ∀ c, c < 64 → cs_isW c = true → ∀ a, a < 3 → Pc (c * 4 + a + 1) = cs_step a_next f_shared (Pc c) a) (hQ : ∀ c, c < 64 → cs_isW c = true → ∀ a, a < 3 → Nc (c * 4 + a + 1) = cs_sn a_next (Nc c) a) (hl : lo ≤ m) (hm : m < N0) (hfr : fr ≤ N0) (hG : G → N0 ≤ fr) (I0 : cs_In Pc Nc (cs_step a_next f_shared) G T lo N0 cd0 pa0 wy0 m 0 N cd a_pairs a_spec a_code a_ways) (h : ∀ N cd pa sp co wy, cs_In Pc Nc (cs_step a_next f_shared) G T lo N0 cd0 pa0 wy0 m 3 N cd pa sp co wy → post (f_height, f_left, f_right, f_shared, f_paired, f_logged, nI N, a_termRefuse, a_termNext, a_refuse, a_next, a_pairRefuse, a_events, a_after, a_layer, pa, sp, co, wy)) : wpX_expand post (f_height, f_left, f_right, f_shared, f_paired, f_logged, nI N, a_termRefuse, a_termNext, a_refuse, a_next, a_pairRefuse, a_events, a_after, a_layer, a_pairs, a_spec, a_code, a_ways) (nI m) (nI fr) := by
  have H : ∀ d a N cd pa sp co wy, a + d = 3 → cs_In Pc Nc (cs_step a_next f_shared) G T lo N0 cd0 pa0 wy0 m a N cd pa sp co wy → wX_expand_2 post (nI m) (nI fr) (d + 1) (nI a) f_height f_left f_right f_shared f_paired f_logged (nI N) a_termRefuse a_termNext a_refuse a_next a_pairRefuse a_events a_after a_layer pa sp co wy := by
    intro d
    induction d with
    | zero =>
      intro a N cd pa sp co wy ha I
      obtain rfl : a = 3 := by omega
      exact br_t (by decide) (h N cd pa sp co wy I)
    | succ d ih =>
      intro a N cd pa sp co wy hd I
      have ha : a < 3 := by omega
      obtain ⟨a1, a2, a3, a4, a5, a6, a7, a8, a9, a10, a11, a12, a13, a14⟩ := cs_In_at hK hP I ha hl hm
      have hNN : N0 ≤ N := I.1
      have em : (nI m).toNatClampNeg = m := nI_clamp (by omega)
      have hi : vp_in (nI m) 128 := vp_in_nI (by omega) (by decide)
      have eS : cs_sn a_next (sp m) a = Nc (cd m * 4 + a + 1) := by rw [a9, hQ _ a2 a3 a ha]
      have eC : co m * 4 + nI a + 1 = nI (cd m * 4 + a + 1) := by rw [a10, cs_m41]
      refine br_f (cs_3 ha) ⟨hi, ?_⟩
      rw [em]
      refine cs_w_step _ ha ?_
      rw [a12]
      by_cases hz : Pc (cd m * 4 + a + 1) = 0
      · exact br_t hz (nm_r (nI_1 a) (ih (a + 1) N cd pa sp co wy (by omega) (cs_In_skip hK hP I ha hl hm hz)))
      · refine br_f hz ⟨hi, cs_w_stepNames _ ha ?_⟩
        rw [eS]
        refine ⟨hi, hi, ?_⟩
        rw [eC]
        refine cs_w_enter a14 (by omega) _ _ _ _ ?_ ?_
        · intro k hk1 hk2 e1 e2
          exact nm_r (nI_1 a) (ih (a + 1) N cd pa sp co _ (by omega) (cs_In_merge hK hP I ha hl hm hk2 (fun g => by have := hG g; omega) e1 e2))
        · exact nm_r (nI_1 a) (ih (a + 1) (N + 1) _ _ _ _ _ (by omega) (cs_In_app hK hP I ha hl hm hz))
  exact ⟨4, H 3 0 N cd a_pairs a_spec a_code a_ways (by omega) I0⟩
theorem cs_w_walk {post : SX → Prop} {Pc : Nat → Int64} {Nc : Nat → Int32} {l r : Nat} (md : Int32) (hP : ∀ c, c < 64 → cs_isW c = true → ∀ a, a < 3 → Pc (c * 4 + a + 1) = cs_step a_next f_shared (Pc c) a) (hQ : ∀ c, c < 64 → cs_isW c = true → ∀ a, a < 3 → Nc (c * 4 + a + 1) = cs_sn a_next (Nc c) a) (hst : ∀ a, a < 3 → cs_step a_next f_shared 0 a = 0) (hP0 : Pc 0 = cs_P0 l r) (hPz : ¬ Pc 0 = 0) (h : ∀ N Lf la cd pa sp co wy, cs_A Pc Nc (cs_step a_next f_shared) (¬ md = 0) 4 N Lf la cd pa sp co wy → post (f_height, nI l, nI r, f_shared, f_paired, f_logged, nI N, a_termRefuse, a_termNext, a_refuse, a_next, a_pairRefuse, a_events, a_after, upd la 5 (nI N), pa, sp, co, wy)) : wpX_walk post (f_height, nI l, nI r, f_shared, f_paired, f_logged, f_nodes, a_termRefuse, a_termNext, a_refuse, a_next, a_pairRefuse, a_events, a_after, a_layer, a_pairs, a_spec, a_code, a_ways) (Nc 0) md := by
  have H : ∀ d len N Lf la cd pa sp co wy, len + d = 4 → cs_A Pc Nc (cs_step a_next f_shared) (¬ md = 0) len N Lf la cd pa sp co wy → wX_walk_55 post md (d + 1) (nI len) f_height (nI l) (nI r) f_shared f_paired f_logged (nI N) a_termRefuse a_termNext a_refuse a_next a_pairRefuse a_events a_after la pa sp co wy := by
    intro d
    induction d with
    | zero =>
      intro len N Lf la cd pa sp co wy hd A
      obtain rfl : len = 4 := by omega
      exact br_t (by decide) (nm_e (h N Lf la cd pa sp co wy A))
    | succ d ih =>
      intro len N Lf la cd pa sp co wy hd A
      have hN := cs_A_N A
      have hK := cs_A_K (by omega) A
      have hLN : Lf len ≤ N := A.2.2.2.2.2.1 len (Nat.le_refl _)
      have hla : la len = nI (Lf len) := A.2.2.2.2.2.2.2.2.2.1 len (Nat.le_refl _)
      have e1 : (nI len + 1).toNatClampNeg = len + 1 := by rw [nI_1]; exact nI_clamp (by omega)
      refine br_f (nI_ge (b := 4) (by omega) (by decide)) ⟨by rw [nI_1]; exact vp_in_nI (by omega) (by decide), nm_r (e' := upd la (len + 1) (nI N)) (by rw [e1]) ⟨vp_in_nI (by omega) (by decide), nm_r (e' := nI (Lf len)) (by rw [nI_clamp (by omega), pk_un (by omega), hla]) ?_⟩⟩
      have H2 : ∀ d' m N' cd' pa' sp' co' wy', m + d' = N → Lf len ≤ m → cs_In Pc Nc (cs_step a_next f_shared) (¬ md = 0) (4 ^ len) (Lf len) N cd pa wy m 0 N' cd' pa' sp' co' wy' → wX_walk_84 post (wX_walk_55 post md (d + 1)) md (nI len) (nI N) (d' + 1) (nI m) f_height (nI l) (nI r) f_shared f_paired f_logged (nI N') a_termRefuse a_termNext a_refuse a_next a_pairRefuse a_events a_after (upd la (len + 1) (nI N)) pa' sp' co' wy' := by
        intro d'
        induction d' with
        | zero =>
          intro m N' cd' pa' sp' co' wy' hd' hl I
          obtain rfl : m = N := by omega
          exact br_t (nI_le (Nat.le_refl _) (by omega)) (nm_r (nI_1 len) (ih (len + 1) N' _ _ cd' pa' sp' co' wy' (by omega) (cs_In_A hst A I)))
        | succ d' ih' =>
          intro m N' cd' pa' sp' co' wy' hd' hl I
          refine br_f (nI_ge (by omega) (by omega)) ?_
          by_cases hmd : md = 0
          · refine br_t hmd ?_
            unfold wX_walk_104
            refine cs_w_expand (fr := 0) hK hP hQ hl (by omega) (by omega) (fun g => absurd hmd g) I ?_
            intro N2 cd2 pa2 sp2 co2 wy2 I2
            exact nm_r (nI_1 m) (ih' (m + 1) N2 cd2 pa2 sp2 co2 wy2 (by omega) (by omega) (cs_In_next I2 hl (by omega)))
          · refine br_f hmd ?_
            unfold wX_walk_104
            refine cs_w_expand (fr := N) hK hP hQ hl (by omega) (by omega) (fun _ => Nat.le_refl _) I ?_
            intro N2 cd2 pa2 sp2 co2 wy2 I2
            exact nm_r (nI_1 m) (ih' (m + 1) N2 cd2 pa2 sp2 co2 wy2 (by omega) (by omega) (cs_In_next I2 hl (by omega)))
      exact ⟨N - Lf len + 1, H2 (N - Lf len) (Lf len) N cd pa sp co wy (by omega) (Nat.le_refl _) (cs_A_In A)⟩
  unfold wpX_walk
  refine nm_r (e' := vp_updL a_pairs 0 (Pc 0)) (by rw [hP0]; rfl) (nm_e (nm_e (nm_e (nm_e ?_))))
  refine ⟨5, H 4 0 1 (fun _ => 0) _ (fun _ => 0) _ _ _ _ rfl ?_⟩
  refine ⟨by omega, rfl, ?_, fun n m h1 h2 => by omega, fun n _ => (by decide : 0 < 4 ^ 0), fun _ _ => Nat.zero_le _, fun n _ _ => (by decide : 4 ^ 0 ≤ 0 * 4 + 1), fun n hn => absurd hn (Nat.not_lt_zero n), fun n b _ hc => ?_, ?_, ?_, fun _ l hl => absurd hl (Nat.not_lt_zero l)⟩
  · intro n hn
    obtain rfl : n = 0 := by omega
    exact ⟨cs_W0, (by decide : 0 < 256), pk_us, pk_uLs, pk_us, hPz, Nat.zero_le _⟩
  · exact absurd hc (by show ¬ (n < 0 ∨ (n = 0 ∧ b < 0)); omega)
  · intro l hl
    obtain rfl : l = 0 := by omega
    exact pk_us
  · intro _ v _
    show (0 : Int32) + upd a_ways 0 1 0 * v (vp_updL a_pairs 0 (Pc 0) 0) = v (Pc 0)
    rw [pk_us, pk_uLs, Int32.one_mul, Int32.zero_add]
end
end
section
/-! least words and first nodes; counts -/
def cs_Ls (Q : Nat → Prop) (c : Nat) : Prop := c < 256 ∧ Q c ∧ ∀ c', c' < c → ¬ Q c'
theorem cs_Ls_u {Q : Nat → Prop} {c d : Nat} (h : cs_Ls Q c) (h' : cs_Ls Q d) : c = d := by
  rcases Nat.lt_trichotomy c d with z | z | z
  · exact absurd h.2.1 (h'.2.2 c z)
  · exact z
  · exact absurd h'.2.1 (h.2.2 d z)
/-- a word whose state satisfies R -/
def cs_Qw (Pc : Nat → Int64) (Nc : Nat → Int32) (R : Int64 → Int32 → Prop) (c : Nat) : Prop := cs_isW c = true ∧ ¬ Pc c = 0 ∧ R (Pc c) (Nc c)
/-- a word whose last event the state before it may refuse -/
def cs_Qu (Pc : Nat → Int64) (F : Int64 → Int32) (c : Nat) : Prop := ∃ c0 a, c0 < 64 ∧ cs_isW c0 = true ∧ a < 3 ∧ c = c0 * 4 + a + 1 ∧ ¬ Pc c = 0 ∧ bt (F (Pc c0)) (2 ^ a) = true
section
variable {Pc : Nat → Int64} {Nc : Nat → Int32} {st : Int64 → Nat → Int64} {sn : Int32 → Nat → Int32} {G : Prop} {N : Nat} {Lf : Nat → Nat} {la : Nat → Int32} {cd : Nat → Nat} {pa : Nat → Int64} {sp co wy : Nat → Int32}
theorem cs_first {R : Int64 → Int32 → Prop} (hst : ∀ a, a < 3 → st 0 a = 0) (hP : ∀ c, c < 64 → cs_isW c = true → ∀ a, a < 3 → Pc (c * 4 + a + 1) = st (Pc c) a) (hQ : ∀ c, c < 64 → cs_isW c = true → ∀ a, a < 3 → Nc (c * 4 + a + 1) = sn (Nc c) a) (A : cs_A Pc Nc st G 4 N Lf la cd pa sp co wy) {n : Nat} (hn : n < N) (h : R (pa n) (sp n)) (hb : ∀ n', n' < n → ¬ R (pa n') (sp n')) : cs_Ls (cs_Qw Pc Nc R) (cd n) := by
  have hcov := cs_cover hst hP hQ A
  obtain ⟨h1, h2, hNd, hMo, _⟩ := A
  obtain ⟨w1, w2, w3, w4, w5, w6, w7⟩ := hNd n hn
  rw [w4, w5] at h
  refine ⟨w2, ⟨w1, w6, h⟩, ?_⟩
  rintro c' hc' ⟨q1, q2, q3⟩
  obtain ⟨n', i1, i2, i3, i4, _⟩ := hcov c' (by omega) q1 q2
  obtain ⟨_, _, _, v4, v5, _, _⟩ := hNd n' i1
  have hlt : n' < n := by
    rcases Nat.lt_or_ge n' n with z | z
    · exact z
    · rcases Nat.lt_or_ge n n' with y | y
      · have := hMo n n' y i1; omega
      · obtain rfl : n' = n := by omega
        omega
  exact hb n' hlt (by rw [v4, v5, i3, i4]; exact q3)
theorem cs_none {R : Int64 → Int32 → Prop} (hst : ∀ a, a < 3 → st 0 a = 0) (hP : ∀ c, c < 64 → cs_isW c = true → ∀ a, a < 3 → Pc (c * 4 + a + 1) = st (Pc c) a) (hQ : ∀ c, c < 64 → cs_isW c = true → ∀ a, a < 3 → Nc (c * 4 + a + 1) = sn (Nc c) a) (A : cs_A Pc Nc st G 4 N Lf la cd pa sp co wy) (hb : ∀ n', n' < N → ¬ R (pa n') (sp n')) : ∀ c, c < 256 → ¬ cs_Qw Pc Nc R c := by
  have hcov := cs_cover hst hP hQ A
  obtain ⟨h1, h2, hNd, hMo, _⟩ := A
  rintro c hc ⟨q1, q2, q3⟩
  obtain ⟨n', i1, i2, i3, i4, _⟩ := hcov c hc q1 q2
  obtain ⟨_, _, _, v4, v5, _, _⟩ := hNd n' i1
  exact hb n' i1 (by rw [v4, v5, i3, i4]; exact q3)
theorem cs_ufirst {F : Int64 → Int32} (hst : ∀ a, a < 3 → st 0 a = 0) (hP : ∀ c, c < 64 → cs_isW c = true → ∀ a, a < 3 → Pc (c * 4 + a + 1) = st (Pc c) a) (hQ : ∀ c, c < 64 → cs_isW c = true → ∀ a, a < 3 → Nc (c * 4 + a + 1) = sn (Nc c) a) (A : cs_A Pc Nc st G 4 N Lf la cd pa sp co wy) {n a : Nat} (hn : n < Lf 4) (ha : a < 3) (hz : ¬ st (pa n) a = 0) (h : bt (F (pa n)) (2 ^ a) = true) (hb : ∀ n' a', a' < 3 → (n' < n ∨ (n' = n ∧ a' < a)) → ¬ (¬ st (pa n') a' = 0 ∧ bt (F (pa n')) (2 ^ a') = true)) : cs_Ls (cs_Qu Pc F) (cd n * 4 + a + 1) := by
  have hcov := cs_cover hst hP hQ A
  obtain ⟨h1, h2, hNd, hMo, _, hL, hg, hlow, _⟩ := A
  have hnN : n < N := by have := hL 4 (Nat.le_refl _); omega
  obtain ⟨w1, w2, w3, w4, w5, w6, w7⟩ := hNd n hnN
  have h64 : cd n < 64 := by have h := hlow n hn; rw [show 4 ^ 4 = 256 from rfl] at h; omega
  rw [w4] at h hz
  refine ⟨by omega, ⟨cd n, a, h64, w1, ha, rfl, by rw [hP _ h64 w1 a ha]; exact hz, h⟩, ?_⟩
  rintro c' hc' ⟨c0, a', q1, q2, q3, q4, q5, q6⟩
  have q7 : st (Pc c0) a' = Pc c' := by rw [q4, hP c0 q1 q2 a' q3]
  have q8 : ¬ Pc c0 = 0 := fun z => q5 (by rw [← q7, z, hst a' q3])
  obtain ⟨n', i1, i2, i3, i4, i5⟩ := hcov c0 (by omega) q2 q8
  obtain ⟨_, _, _, v4, v5, _, _⟩ := hNd n' i1
  have hh : n' < n ∨ (n' = n ∧ a' < a) := by
    rcases Nat.lt_trichotomy n' n with z | z | z
    · exact Or.inl z
    · subst z; exact Or.inr ⟨rfl, by omega⟩
    · have := hMo n n' z i1; omega
  refine hb n' a' q3 hh ⟨?_, ?_⟩
  · rw [v4, i3, q7]; exact q5
  · rw [v4, i3]; exact q6
theorem cs_unone {F : Int64 → Int32} (hst : ∀ a, a < 3 → st 0 a = 0) (hP : ∀ c, c < 64 → cs_isW c = true → ∀ a, a < 3 → Pc (c * 4 + a + 1) = st (Pc c) a) (hQ : ∀ c, c < 64 → cs_isW c = true → ∀ a, a < 3 → Nc (c * 4 + a + 1) = sn (Nc c) a) (A : cs_A Pc Nc st G 4 N Lf la cd pa sp co wy) (hb : ∀ n' a', a' < 3 → n' < Lf 4 → ¬ (¬ st (pa n') a' = 0 ∧ bt (F (pa n')) (2 ^ a') = true)) : ∀ c, c < 256 → ¬ cs_Qu Pc F c := by
  have hcov := cs_cover hst hP hQ A
  obtain ⟨h1, h2, hNd, hMo, _, hL, hg, hlow, _⟩ := A
  rintro c hc ⟨c0, a', q1, q2, q3, q4, q5, q6⟩
  have q7 : st (Pc c0) a' = Pc c := by rw [q4, hP c0 q1 q2 a' q3]
  have q8 : ¬ Pc c0 = 0 := fun z => q5 (by rw [← q7, z, hst a' q3])
  obtain ⟨n', i1, i2, i3, i4, i5⟩ := hcov c0 (by omega) q2 q8
  obtain ⟨_, _, _, v4, v5, _, _⟩ := hNd n' i1
  refine hb n' a' q3 (i5 q1) ⟨?_, ?_⟩
  · rw [v4, i3, q7]; exact q5
  · rw [v4, i3]; exact q6
end
/-! counts -/
def cs_ct (q : Nat → Bool) : Nat → Int32
  | 0 => 0
  | n + 1 => bif q n then cs_ct q n + 1 else cs_ct q n
theorem cs_ct_t {q : Nat → Bool} {n : Nat} (h : q n = true) : cs_ct q (n + 1) = cs_ct q n + 1 := by
  show (bif q n then cs_ct q n + 1 else cs_ct q n) = _
  rw [h]; rfl
theorem cs_ct_f {q : Nat → Bool} {n : Nat} (h : q n = false) : cs_ct q (n + 1) = cs_ct q n := by
  show (bif q n then cs_ct q n + 1 else cs_ct q n) = _
  rw [h]; rfl
theorem cs_ct_c {q q' : Nat → Bool} : ∀ {n : Nat}, (∀ k, k < n → q k = q' k) → cs_ct q n = cs_ct q' n := by
  intro n
  induction n with
  | zero => intro _; rfl
  | succ n ih =>
    intro h
    show (bif q n then cs_ct q n + 1 else cs_ct q n) = (bif q' n then cs_ct q' n + 1 else cs_ct q' n)
    rw [ih (fun k hk => h k (by omega)), h n (by omega)]
def cs_lsum (f : Nat → Int32) : List Nat → Int32
  | [] => 0
  | c :: L => f c + cs_lsum f L
theorem cs_lsum_a (f : Nat → Int32) (L M : List Nat) : cs_lsum f (L ++ M) = cs_lsum f L + cs_lsum f M := by
  induction L with
  | nil => show cs_lsum f M = 0 + cs_lsum f M; rw [Int32.zero_add]
  | cons c L ih => show f c + cs_lsum f (L ++ M) = f c + cs_lsum f L + cs_lsum f M; rw [ih, Int32.add_assoc]
theorem cs_ct_lsum (p t : Nat → Bool) : ∀ n, cs_ct (fun c => p c && t c) n = cs_lsum (fun c => bif t c then 1 else 0) ((List.range n).filter p) := by
  intro n
  induction n with
  | zero => rfl
  | succ n ih =>
    show (bif (p n && t n) then cs_ct (fun c => p c && t c) n + 1 else cs_ct (fun c => p c && t c) n) = _
    rw [List.range_succ, List.filter_append, cs_lsum_a, ih]
    cases hp : p n
    · rw [List.filter_cons_of_neg (by rw [hp]; decide)]
      show cs_lsum _ _ = cs_lsum _ _ + 0
      rw [Int32.add_zero]
    · rw [List.filter_cons_of_pos hp]
      show _ = cs_lsum _ _ + ((bif t n then 1 else 0) + 0)
      cases t n
      · show cs_lsum _ _ = cs_lsum _ _ + (0 + 0); rw [Int32.add_zero, Int32.add_zero]
      · show cs_lsum _ _ + 1 = cs_lsum _ _ + (1 + 0); rw [Int32.add_zero]
/-- the codes of the words of a length, in their order -/
def cs_wc : Nat → List Nat
  | 0 => [0]
  | l + 1 => (cs_wc l).flatMap (fun c => [c * 4 + 0 + 1, c * 4 + 1 + 1, c * 4 + 2 + 1])
theorem cs_wc_f : ∀ l, l < 5 → (List.range 256).filter (fun c => cs_isW c && decide (cs_ln c = l)) = cs_wc l := by decide +kernel
theorem cs_wc_w : ∀ l, l < 4 → ∀ c, c ∈ cs_wc l → c < 64 ∧ cs_isW c = true := by decide +kernel
theorem cs_Vs_wc {Pc : Nat → Int64} {st : Int64 → Nat → Int64} (hP : ∀ c, c < 64 → cs_isW c = true → ∀ a, a < 3 → Pc (c * 4 + a + 1) = st (Pc c) a) : ∀ l, l < 5 → ∀ v : Int64 → Int32, cs_Vs st (Pc 0) l v = cs_lsum (fun c => v (Pc c)) (cs_wc l) := by
  intro l
  induction l with
  | zero =>
    intro _ v
    show v (Pc 0) = v (Pc 0) + 0
    rw [Int32.add_zero]
  | succ l ih =>
    intro hl v
    show cs_Vs st (Pc 0) l (fun P => cs_pt st v P 3) = cs_lsum (fun c => v (Pc c)) ((cs_wc l).flatMap (fun c => [c * 4 + 0 + 1, c * 4 + 1 + 1, c * 4 + 2 + 1]))
    rw [ih (by omega)]
    have hw := cs_wc_w l (by omega)
    generalize cs_wc l = L at hw
    clear ih
    induction L with
    | nil => rfl
    | cons c L ih2 =>
      obtain ⟨h1, h2⟩ := hw c (List.mem_cons_self ..)
      rw [List.flatMap_cons, cs_lsum_a, ← ih2 (fun d hd => hw d (List.mem_cons_of_mem _ hd))]
      show (0 + v (st (Pc c) 0) + v (st (Pc c) 1) + v (st (Pc c) 2)) + _ = (v (Pc (c * 4 + 0 + 1)) + (v (Pc (c * 4 + 1 + 1)) + (v (Pc (c * 4 + 2 + 1)) + 0))) + _
      rw [hP c h1 h2 0 (by decide), hP c h1 h2 1 (by decide), hP c h1 h2 2 (by decide), Int32.zero_add, Int32.add_zero, Int32.add_assoc (v (st (Pc c) 0))]
def cs_ind (P : Int64) : Int32 := if P = 0 then 0 else 1
theorem cs_ind_0 : cs_ind 0 = 0 := if_pos rfl
theorem cs_ind_n {P : Int64} (h : ¬ P = 0) : cs_ind P = 1 := if_neg h
/-- the words of a length with a state, counted -/
theorem cs_count {Pc : Nat → Int64} {st : Int64 → Nat → Int64} (hP : ∀ c, c < 64 → cs_isW c = true → ∀ a, a < 3 → Pc (c * 4 + a + 1) = st (Pc c) a) {l : Nat} (hl : l < 5) : cs_ct (fun c => (cs_isW c && decide (cs_ln c = l)) && !decide (Pc c = 0)) 256 = cs_Vs st (Pc 0) l cs_ind := by
  rw [cs_ct_lsum, cs_wc_f l hl, cs_Vs_wc hP l hl]
  refine congrArg (fun f => cs_lsum f (cs_wc l)) (funext fun c => ?_)
  by_cases h : Pc c = 0
  · rw [decide_eq_true h, h, cs_ind_0]; rfl
  · rw [decide_eq_false h, cs_ind_n h]; rfl
noncomputable def cs_bo (P : Prop) : Bool := @decide P (Classical.propDecidable P)
theorem cs_bo_t {P : Prop} (h : P) : cs_bo P = true := @decide_eq_true P (Classical.propDecidable P) h
theorem cs_bo_f {P : Prop} (h : ¬ P) : cs_bo P = false := @decide_eq_false P (Classical.propDecidable P) h
end
section
/-! the component's queries over the walk -/
def cs_gq (s : Nat) (rf : Nat → Int32) (kind : Nat) (P : Int64) (S : Int32) : Prop := (kind = 0 → S = 0) ∧ (¬ kind = 0 → ¬ (cs_Rf s rf P &&& (cs_nr rf S ^^^ (-1))) = 0)
/-- the gaps: words of the system that X k lacks (kind 0), or whose refusals it lacks -/
def cs_Qg (nx rf : Nat → Int32) (s l r kind k : Nat) : Nat → Prop := cs_Qw (cs_Pc nx (nI s) (cs_P0 l r)) (cs_Nc nx ((1 : Int32) <<< (nI k &&& 31))) (cs_gq s rf kind)
def cs_dq (s : Nat) (rf : Nat → Int32) (P : Int64) (_ : Int32) : Prop := bt (cs_Rf s rf P) 7 = true
section
variable {f_height f_left f_right f_shared f_paired f_logged f_nodes : Int32} {a_termRefuse a_termNext a_refuse a_next a_pairRefuse a_events a_layer a_spec a_code a_ways : Nat → Int32} {a_after a_pairs : Nat → Int64}
theorem cs_w_gapNode {post : Int32 → SX → Prop} {k kind s l r : Nat} (hk : k < 8) (hkd : kind < 2) (hs : s < 8) (hl : l < 8) (hr : r < 8) (hnx : ∀ i, cs_B8 (a_next i)) (hpd : cs_Pd s a_refuse f_paired a_pairRefuse)
    (h1 : ∀ n c nd la pa sp co wy pd prf, n < 128 → cs_Pd s a_refuse pd prf → co n = nI c → pa n = cs_Pc a_next (nI s) (cs_P0 l r) c → sp n = cs_Nc a_next ((1 : Int32) <<< (nI k &&& 31)) c → cs_Ls (cs_Qg a_next a_refuse s l r kind k) c → post (nI n) (f_height, nI l, nI r, nI s, pd, f_logged, nd, a_termRefuse, a_termNext, a_refuse, a_next, prf, a_events, a_after, la, pa, sp, co, wy))
    (h2 : ∀ nd la pa sp co wy pd prf, cs_Pd s a_refuse pd prf → (∀ c, c < 256 → ¬ cs_Qg a_next a_refuse s l r kind k c) → post (-1) (f_height, nI l, nI r, nI s, pd, f_logged, nd, a_termRefuse, a_termNext, a_refuse, a_next, prf, a_events, a_after, la, pa, sp, co, wy)) :
    wpX_gapNode post (f_height, nI l, nI r, nI s, f_paired, f_logged, f_nodes, a_termRefuse, a_termNext, a_refuse, a_next, a_pairRefuse, a_events, a_after, a_layer, a_pairs, a_spec, a_code, a_ways) (nI k) (nI kind) := by
  have hst : ∀ a, a < 3 → cs_step a_next (nI s) 0 a = 0 := fun a _ => cs_step_0 hnx (nI s) a
  unfold wpX_gapNode
  refine cs_w_walk (Pc := cs_Pc a_next (nI s) (cs_P0 l r)) (Nc := cs_Nc a_next ((1 : Int32) <<< (nI k &&& 31))) 0 (cs_Pc_s _ _ _) (cs_Nc_s _ _) hst rfl (cs_P0_nz hl hr) ?_
  intro N Lf la cd pa sp co wy A
  have hN := cs_A_N A
  have hNd := A.2.2.1
  have H : ∀ d n pd prf, n + d = N → cs_Pd s a_refuse pd prf → (∀ n', n' < n → ¬ cs_gq s a_refuse kind (pa n') (sp n')) → wX_gapNode_10 post (nI kind) (d + 1) (nI n) f_height (nI l) (nI r) (nI s) pd f_logged (nI N) a_termRefuse a_termNext a_refuse a_next prf a_events a_after (upd la 5 (nI N)) pa sp co wy := by
    intro d
    induction d with
    | zero =>
      intro n pd prf hd hp hb
      obtain rfl : n = N := by omega
      exact br_t (nI_le (Nat.le_refl _) (by omega)) (h2 _ _ _ _ _ _ _ _ hp (cs_none hst (cs_Pc_s _ _ _) (cs_Nc_s _ _) A hb))
    | succ d ih =>
      intro n pd prf hd hp hb
      have hn : n < N := by omega
      have en : (nI n).toNatClampNeg = n := nI_clamp (by omega)
      have hi : vp_in (nI n) 128 := vp_in_nI (by omega) (by decide)
      obtain ⟨w1, w2, w3, w4, w5, w6, w7⟩ := hNd n hn
      have hb' : ¬ cs_gq s a_refuse kind (pa n) (sp n) → ∀ n', n' < n + 1 → ¬ cs_gq s a_refuse kind (pa n') (sp n') := by
        intro hq n' hn'
        rcases Nat.lt_or_ge n' n with z | z
        · exact hb n' z
        · obtain rfl : n' = n := by omega
          exact hq
      have fin : cs_gq s a_refuse kind (pa n) (sp n) → cs_Ls (cs_Qg a_next a_refuse s l r kind k) (cd n) := fun hq => cs_first hst (cs_Pc_s _ _ _) (cs_Nc_s _ _) A hn hq hb
      refine br_f (nI_ge hn (by omega)) ?_
      by_cases e : kind = 0
      · subst e
        refine br_t rfl ⟨hi, ?_⟩
        by_cases hz : sp n = 0
        · exact br_t (by rw [en]; exact hz) (h1 n (cd n) _ _ _ _ _ _ _ _ (by omega) hp w3 w4 w5 (fin ⟨fun _ => hz, fun z => absurd rfl z⟩))
        · exact br_f (by rw [en]; exact hz) (nm_r (nI_1 n) (ih (n + 1) pd prf (by omega) hp (hb' fun q => hz (q.1 rfl))))
      · refine br_f (nI_ne0 (by omega) (by omega)) (cs_w_excess hs hp (by omega) ?_)
        intro prf' hp'
        by_cases hz : (cs_Rf s a_refuse (pa n) &&& (cs_nr a_refuse (sp n) ^^^ (-1))) = 0
        · exact br_t hz (nm_r (nI_1 n) (ih (n + 1) 1 prf' (by omega) (Or.inr ⟨rfl, hp'⟩) (hb' fun q => q.2 e hz)))
        · exact br_f hz (h1 n (cd n) _ _ _ _ _ _ _ _ (by omega) (Or.inr ⟨rfl, hp'⟩) w3 w4 w5 (fin ⟨fun z => absurd z e, fun _ => hz⟩))
  exact ⟨N + 1, H N 0 f_paired a_pairRefuse (by omega) hpd (fun n' hn' => by omega)⟩
theorem cs_w_deadlock {post : Int32 → SX → Prop} {s l r : Nat} (hs : s < 8) (hl : l < 8) (hr : r < 8) (hnx : ∀ i, cs_B8 (a_next i)) (hpd : cs_Pd s a_refuse f_paired a_pairRefuse)
    (h1 : ∀ c nd la pa sp co wy pd prf, cs_Pd s a_refuse pd prf → cs_Ls (cs_Qw (cs_Pc a_next (nI s) (cs_P0 l r)) (cs_Nc a_next 0) (cs_dq s a_refuse)) c → post (nI c) (f_height, nI l, nI r, nI s, pd, f_logged, nd, a_termRefuse, a_termNext, a_refuse, a_next, prf, a_events, a_after, la, pa, sp, co, wy))
    (h2 : ∀ nd la pa sp co wy pd prf, cs_Pd s a_refuse pd prf → (∀ c, c < 256 → ¬ cs_Qw (cs_Pc a_next (nI s) (cs_P0 l r)) (cs_Nc a_next 0) (cs_dq s a_refuse) c) → post (-4) (f_height, nI l, nI r, nI s, pd, f_logged, nd, a_termRefuse, a_termNext, a_refuse, a_next, prf, a_events, a_after, la, pa, sp, co, wy)) :
    wpX_deadlock post (f_height, nI l, nI r, nI s, f_paired, f_logged, f_nodes, a_termRefuse, a_termNext, a_refuse, a_next, a_pairRefuse, a_events, a_after, a_layer, a_pairs, a_spec, a_code, a_ways) := by
  have hst : ∀ a, a < 3 → cs_step a_next (nI s) 0 a = 0 := fun a _ => cs_step_0 hnx (nI s) a
  unfold wpX_deadlock
  refine cs_w_walk (Pc := cs_Pc a_next (nI s) (cs_P0 l r)) (Nc := cs_Nc a_next 0) 0 (cs_Pc_s _ _ _) (cs_Nc_s _ _) hst rfl (cs_P0_nz hl hr) ?_
  intro N Lf la cd pa sp co wy A
  have hN := cs_A_N A
  have hNd := A.2.2.1
  have H : ∀ d n pd prf, n + d = N → cs_Pd s a_refuse pd prf → (∀ n', n' < n → ¬ cs_dq s a_refuse (pa n') (sp n')) → wX_deadlock_8 post (d + 1) (nI n) f_height (nI l) (nI r) (nI s) pd f_logged (nI N) a_termRefuse a_termNext a_refuse a_next prf a_events a_after (upd la 5 (nI N)) pa sp co wy := by
    intro d
    induction d with
    | zero =>
      intro n pd prf hd hp hb
      obtain rfl : n = N := by omega
      exact br_t (nI_le (Nat.le_refl _) (by omega)) (h2 _ _ _ _ _ _ _ _ hp (cs_none hst (cs_Pc_s _ _ _) (cs_Nc_s _ _) A hb))
    | succ d ih =>
      intro n pd prf hd hp hb
      have hn : n < N := by omega
      have en : (nI n).toNatClampNeg = n := nI_clamp (by omega)
      have hi : vp_in (nI n) 128 := vp_in_nI (by omega) (by decide)
      obtain ⟨w1, w2, w3, w4, w5, w6, w7⟩ := hNd n hn
      refine br_f (nI_ge hn (by omega)) ⟨hi, ?_⟩
      rw [en]
      refine cs_w_refusals hs hp _ ?_
      intro prf' hp'
      cases hz : bt (cs_Rf s a_refuse (pa n)) 7
      · refine br_f (cs_t1n (k := 7) (by decide) hz) (nm_r (nI_1 n) (ih (n + 1) 1 prf' (by omega) (Or.inr ⟨rfl, hp'⟩) ?_))
        intro n' hn'
        rcases Nat.lt_or_ge n' n with z | z
        · exact hb n' z
        · obtain rfl : n' = n := by omega
          intro q
          have q' : bt (cs_Rf s a_refuse (pa n')) 7 = true := q
          rw [hz] at q'
          exact absurd q' (by decide)
      · refine br_t ((cs_t1 (k := 7) (by decide)).mpr hz) ⟨hi, ?_⟩
        rw [w3]
        exact h1 (cd n) _ _ _ _ _ _ _ _ (Or.inr ⟨rfl, hp'⟩) (cs_first hst (cs_Pc_s _ _ _) (cs_Nc_s _ _) A hn hz hb)
  exact ⟨N + 1, H N 0 f_paired a_pairRefuse (by omega) hpd (fun n' hn' => by omega)⟩
theorem cs_w_unsure {post : Int32 → SX → Prop} {s l r : Nat} (hs : s < 8) (hl : l < 8) (hr : r < 8) (hnx : ∀ i, cs_B8 (a_next i)) (hpd : cs_Pd s a_refuse f_paired a_pairRefuse)
    (h1 : ∀ c nd la pa sp co wy pd prf, cs_Pd s a_refuse pd prf → cs_Ls (cs_Qu (cs_Pc a_next (nI s) (cs_P0 l r)) (cs_Rf s a_refuse)) c → post (nI c) (f_height, nI l, nI r, nI s, pd, f_logged, nd, a_termRefuse, a_termNext, a_refuse, a_next, prf, a_events, a_after, la, pa, sp, co, wy))
    (h2 : ∀ nd la pa sp co wy pd prf, cs_Pd s a_refuse pd prf → (∀ c, c < 256 → ¬ cs_Qu (cs_Pc a_next (nI s) (cs_P0 l r)) (cs_Rf s a_refuse) c) → post (-4) (f_height, nI l, nI r, nI s, pd, f_logged, nd, a_termRefuse, a_termNext, a_refuse, a_next, prf, a_events, a_after, la, pa, sp, co, wy)) :
    wpX_unsure post (f_height, nI l, nI r, nI s, f_paired, f_logged, f_nodes, a_termRefuse, a_termNext, a_refuse, a_next, a_pairRefuse, a_events, a_after, a_layer, a_pairs, a_spec, a_code, a_ways) := by
  have hst : ∀ a, a < 3 → cs_step a_next (nI s) 0 a = 0 := fun a _ => cs_step_0 hnx (nI s) a
  unfold wpX_unsure
  refine cs_w_walk (Pc := cs_Pc a_next (nI s) (cs_P0 l r)) (Nc := cs_Nc a_next 0) 0 (cs_Pc_s _ _ _) (cs_Nc_s _ _) hst rfl (cs_P0_nz hl hr) ?_
  intro N Lf la cd pa sp co wy A
  have hN := cs_A_N A
  have hNd := A.2.2.1
  have hL : Lf 4 ≤ N := A.2.2.2.2.2.1 4 (Nat.le_refl _)
  have hla : upd la 5 (nI N) 4 = nI (Lf 4) := by rw [pk_un (by decide)]; exact A.2.2.2.2.2.2.2.2.2.1 4 (Nat.le_refl _)
  have H : ∀ d n pd prf, n + d = Lf 4 → cs_Pd s a_refuse pd prf → (∀ n' a', a' < 3 → n' < n → ¬ (¬ cs_step a_next (nI s) (pa n') a' = 0 ∧ bt (cs_Rf s a_refuse (pa n')) (2 ^ a') = true)) → wX_unsure_8 post (d + 1) (nI n) f_height (nI l) (nI r) (nI s) pd f_logged (nI N) a_termRefuse a_termNext a_refuse a_next prf a_events a_after (upd la 5 (nI N)) pa sp co wy := by
    intro d
    induction d with
    | zero =>
      intro n pd prf hd hp hb
      obtain rfl : n = Lf 4 := by omega
      exact br_t (by rw [hla]; exact nI_le (Nat.le_refl _) (by omega)) (h2 _ _ _ _ _ _ _ _ hp (cs_unone hst (cs_Pc_s _ _ _) (cs_Nc_s _ _) A hb))
    | succ d ih =>
      intro n pd prf hd hp hb
      have hn : n < N := by omega
      have en : (nI n).toNatClampNeg = n := nI_clamp (by omega)
      have hi : vp_in (nI n) 128 := vp_in_nI (by omega) (by decide)
      obtain ⟨w1, w2, w3, w4, w5, w6, w7⟩ := hNd n hn
      refine br_f (by rw [hla]; exact nI_ge (by omega) (by omega)) ⟨hi, ?_⟩
      rw [en]
      refine cs_w_refusals hs hp _ ?_
      intro prf' hp'
      have H2 : ∀ d' a, a + d' = 3 → (∀ a', a' < a → ¬ (¬ cs_step a_next (nI s) (pa n) a' = 0 ∧ bt (cs_Rf s a_refuse (pa n)) (2 ^ a') = true)) → wX_unsure_31 post (wX_unsure_8 post (d + 1)) (nI n) (cs_Rf s a_refuse (pa n)) f_height (nI l) (nI r) (nI s) 1 f_logged (nI N) a_termRefuse a_termNext a_refuse a_next prf' a_events a_after (upd la 5 (nI N)) pa sp co wy (d' + 1) (nI a) := by
        intro d'
        induction d' with
        | zero =>
          intro a ha hb2
          obtain rfl : a = 3 := by omega
          refine br_t (by decide) (nm_r (nI_1 n) (ih (n + 1) 1 prf' (by omega) (Or.inr ⟨rfl, hp'⟩) ?_))
          intro n' a' ha' hn'
          rcases Nat.lt_or_ge n' n with z | z
          · exact hb n' a' ha' z
          · obtain rfl : n' = n := by omega
            exact hb2 a' ha'
        | succ d' ih' =>
          intro a ha hb2
          have ha3 : a < 3 := by omega
          have hb3 : ¬ (¬ cs_step a_next (nI s) (pa n) a = 0 ∧ bt (cs_Rf s a_refuse (pa n)) (2 ^ a) = true) → ∀ a', a' < a + 1 → ¬ (¬ cs_step a_next (nI s) (pa n) a' = 0 ∧ bt (cs_Rf s a_refuse (pa n)) (2 ^ a') = true) := by
            intro q a' ha'
            rcases Nat.lt_or_ge a' a with z | z
            · exact hb2 a' z
            · obtain rfl : a' = a := by omega
              exact q
          have e2 : 2 ^ a < 32 := Nat.lt_of_le_of_lt (Nat.pow_le_pow_right (by decide) (show a ≤ 2 by omega)) (by decide)
          refine br_f (cs_3 ha3) ⟨hi, ?_⟩
          rw [en]
          refine cs_w_step _ ha3 ?_
          by_cases hz : cs_step a_next (nI s) (pa n) a = 0
          · exact br_t hz (nm_r (nI_1 a) (ih' (a + 1) (by omega) (hb3 fun q => q.1 hz)))
          · refine br_f hz ?_
            rw [cs_T10 a (by omega)]
            cases hq : bt (cs_Rf s a_refuse (pa n)) (2 ^ a)
            · exact br_f (cs_t1n e2 hq) (nm_r (nI_1 a) (ih' (a + 1) (by omega) (hb3 fun q => by rw [hq] at q; exact absurd q.2 (by decide))))
            · refine br_t ((cs_t1 e2).mpr hq) ⟨hi, ?_⟩
              rw [w3, cs_m41]
              refine h1 (cd n * 4 + a + 1) _ _ _ _ _ _ _ _ (Or.inr ⟨rfl, hp'⟩) (cs_ufirst hst (cs_Pc_s _ _ _) (cs_Nc_s _ _) A (by omega) ha3 hz hq ?_)
              intro n' a' ha' hh
              rcases hh with z | ⟨z, y⟩
              · exact hb n' a' ha' z
              · subst z; exact hb2 a' y
      exact ⟨4, H2 3 0 (by omega) (fun a' ha' => by omega)⟩
  exact ⟨Lf 4 + 1, H (Lf 4) 0 f_paired a_pairRefuse (by omega) hpd (fun n' a' _ hn' => by omega)⟩
theorem cs_w_traces {post : Int32 → SX → Prop} {s l r len : Nat} (hlen : len < 5) (hl : l < 8) (hr : r < 8) (hnx : ∀ i, cs_B8 (a_next i))
    (h : ∀ nd la pa sp co wy, post (cs_Vs (cs_step a_next (nI s)) (cs_P0 l r) len cs_ind) (f_height, nI l, nI r, nI s, f_paired, f_logged, nd, a_termRefuse, a_termNext, a_refuse, a_next, a_pairRefuse, a_events, a_after, la, pa, sp, co, wy)) :
    wpX_walk (fun u => match u with | (f_height, f_left, f_right, f_shared, f_paired, f_logged, f_nodes, a_termRefuse, a_termNext, a_refuse, a_next, a_pairRefuse, a_events, a_after, a_layer, a_pairs, a_spec, a_code, a_ways) => (vp_in (nI len) 7 ∧ ∀ x3_24 : Int32, x3_24 = a_layer (nI len).toNatClampNeg → (∃ n26 : Nat, wX_traces_26 post (nI len) f_height f_left f_right f_shared f_paired f_logged f_nodes a_termRefuse a_termNext a_refuse a_next a_pairRefuse a_events a_after a_layer a_pairs a_spec a_code a_ways n26 0 x3_24))) (f_height, nI l, nI r, nI s, f_paired, f_logged, f_nodes, a_termRefuse, a_termNext, a_refuse, a_next, a_pairRefuse, a_events, a_after, a_layer, a_pairs, a_spec, a_code, a_ways) 0 1 := by
  have hst : ∀ a, a < 3 → cs_step a_next (nI s) 0 a = 0 := fun a _ => cs_step_0 hnx (nI s) a
  refine cs_w_walk (Pc := cs_Pc a_next (nI s) (cs_P0 l r)) (Nc := cs_Nc a_next 0) 1 (cs_Pc_s _ _ _) (cs_Nc_s _ _) hst rfl (cs_P0_nz hl hr) ?_
  intro N Lf la cd pa sp co wy A
  have hN := cs_A_N A
  obtain ⟨_, _, hNd, _, _, hL, _, _, _, hla, hs1, hs2⟩ := A
  have g : ¬ (1 : Int32) = 0 := by decide
  have hg : ∀ j, j ≤ 5 → upd la 5 (nI N) j = nI (if j = 5 then N else Lf j) := by
    intro j hj
    rcases Nat.lt_or_ge j 5 with z | z
    · rw [pk_un (by omega), if_neg (by omega)]; exact hla j (by omega)
    · obtain rfl : j = 5 := by omega
      rw [pk_us, if_pos rfl]
  have hle : ∀ j, j ≤ 5 → (if j = 5 then N else Lf j) ≤ N := by
    intro j hj
    rcases Nat.lt_or_ge j 5 with z | z
    · rw [if_neg (by omega)]; exact hL j (by omega)
    · rw [if_pos (by omega)]; exact Nat.le_refl _
  have hsum : cs_sm (fun n => wy n * cs_ind (pa n)) (if len = 5 then N else Lf len) (if len + 1 = 5 then N else Lf (len + 1)) = cs_Vs (cs_step a_next (nI s)) (cs_P0 l r) len cs_ind := by
    rw [if_neg (by omega)]
    rcases Nat.lt_or_ge len 4 with z | z
    · rw [if_neg (by omega)]; exact hs2 g len z cs_ind cs_ind_0
    · obtain rfl : len = 4 := by omega
      rw [if_pos rfl]; exact hs1 g cs_ind cs_ind_0
  have q1 := hg len (by omega)
  have q2 := hg (len + 1) (by omega)
  have q3 := hle (len + 1) (by omega)
  have q4 := hle len (by omega)
  generalize (if len = 5 then N else Lf len) = lo at *
  generalize (if len + 1 = 5 then N else Lf (len + 1)) = hi at *
  have e1 : (nI len + 1).toNatClampNeg = len + 1 := by rw [nI_1]; exact nI_clamp (by omega)
  have hv : vp_in (nI len + 1) 7 := by rw [nI_1]; exact vp_in_nI (by omega) (by decide)
  refine ⟨vp_in_nI (by omega) (by decide), nm_r (e' := nI lo) (by rw [nI_clamp (by omega)]; exact q1) ?_⟩
  have H : ∀ d n, n + d = hi → lo ≤ n → n ≤ N → wX_traces_26 post (nI len) f_height (nI l) (nI r) (nI s) f_paired f_logged (nI N) a_termRefuse a_termNext a_refuse a_next a_pairRefuse a_events a_after (upd la 5 (nI N)) pa sp co wy (d + 1) (cs_sm (fun n => wy n * cs_ind (pa n)) lo n) (nI n) := by
    intro d
    induction d with
    | zero =>
      intro n hd hln hnN
      refine ⟨hv, br_t (by rw [e1, q2]; exact nI_le (by omega) (by omega)) ?_⟩
      obtain rfl : n = hi := by omega
      rw [hsum]
      exact h _ _ _ _ _ _
    | succ d ih =>
      intro n hd hln hnN
      have hn : n < hi := by omega
      refine ⟨hv, br_f (by rw [e1, q2]; exact nI_ge hn (by omega)) ⟨vp_in_nI (by omega) (by decide), ?_⟩⟩
      obtain ⟨w1, w2, w3, w4, w5, w6, w7⟩ := hNd n (by omega)
      refine nm_r (e' := cs_sm (fun n => wy n * cs_ind (pa n)) lo (n + 1)) ?_ (nm_r (nI_1 n) (ih (n + 1) (by omega) (by omega) (by omega)))
      rw [cs_sm_s hln, nI_clamp (by omega)]
      show _ = _ + wy n * cs_ind (pa n)
      rw [w4, cs_ind_n w6, Int32.mul_one]
  rcases Nat.lt_or_ge lo hi with z | z
  · have K := H (hi - lo) lo (by omega) (Nat.le_refl _) (by omega)
    rw [cs_sm_e (Nat.le_refl _)] at K
    exact ⟨hi - lo + 1, K⟩
  · refine ⟨1, hv, br_t (by rw [e1, q2]; exact nI_le z (by omega)) ?_⟩
    rw [cs_sm_e z] at hsum
    rw [hsum]
    exact h _ _ _ _ _ _
end
end
section
/-! the reference's queries over its tables -/
theorem cs_Pt_w {nx rf : Nat → Int32} {s l r c : Nat} (hw : cs_isW c = true) : cs_Pt nx rf s l r c = cs_Rf s rf (cs_Pc nx (nI s) (cs_P0 l r) c) := by
  unfold cs_Pt
  rw [hw]; rfl
theorem cs_Pt_n {nx rf : Nat → Int32} {s l r c : Nat} (hw : cs_isW c = false) : cs_Pt nx rf s l r c = 0 := by
  unfold cs_Pt
  rw [hw]; rfl
theorem cs_Ft_w {nx rf : Nat → Int32} {k c : Nat} (hk : k < 8) (hw : cs_isW c = true) : cs_Ft nx rf k c = cs_nr rf (cs_Nc nx ((1 : Int32) <<< (nI k &&& 31)) c) := by
  unfold cs_Ft
  rw [hw]
  exact (cs_nr_F nx rf (cs_wl c) hk).symm
theorem cs_Pt_nz {nx rf : Nat → Int32} {s l r c : Nat} (hs : s < 8) (hrf : ∀ k, k < 8 → bt (rf k) 0 = true) : ¬ cs_Pt nx rf s l r c = 0 ↔ cs_isW c = true ∧ ¬ cs_Pc nx (nI s) (cs_P0 l r) c = 0 := by
  cases hw : cs_isW c
  · rw [cs_Pt_n hw]
    exact ⟨fun z => absurd rfl z, fun z => absurd z.1 (by decide)⟩
  · rw [cs_Pt_w hw, cs_Rf_0 hs hrf]
    exact ⟨fun z => ⟨rfl, z⟩, fun z => z.2⟩
theorem cs_B8_Ft {nx : Nat → Int32} (hnx : ∀ i, cs_B8 (nx i)) {k : Nat} (hk : k < 8) (c : Nat) : cs_B8 (cs_Nc nx ((1 : Int32) <<< (nI k &&& 31)) c) := cs_NS_B8 hnx _ _ (cs_B8_p hk)
theorem cs_gap0 {nx rf : Nat → Int32} {s l r k c : Nat} (hs : s < 8) (hk : k < 8) (hnx : ∀ i, cs_B8 (nx i)) (hrf : ∀ k, k < 8 → bt (rf k) 0 = true) : cs_Qg nx rf s l r 0 k c ↔ ¬ cs_Pt nx rf s l r c = 0 ∧ cs_Ft nx rf k c = 0 := by
  rw [cs_Pt_nz hs hrf]
  constructor
  · rintro ⟨h1, h2, h3⟩
    refine ⟨⟨h1, h2⟩, ?_⟩
    rw [cs_Ft_w hk h1, cs_nr_0 hrf (cs_B8_Ft hnx hk c)]
    exact h3.1 rfl
  · rintro ⟨⟨h1, h2⟩, h3⟩
    rw [cs_Ft_w hk h1, cs_nr_0 hrf (cs_B8_Ft hnx hk c)] at h3
    exact ⟨h1, h2, fun _ => h3, fun z => absurd rfl z⟩
theorem cs_gap1 {nx rf : Nat → Int32} {s l r k c : Nat} (hs : s < 8) (hk : k < 8) (hrf : ∀ k, k < 8 → bt (rf k) 0 = true) : cs_Qg nx rf s l r 1 k c ↔ ¬ (cs_Pt nx rf s l r c &&& (cs_Ft nx rf k c ^^^ (-1))) = 0 := by
  constructor
  · rintro ⟨h1, h2, h3⟩
    rw [cs_Ft_w hk h1, cs_Pt_w h1]
    exact h3.2 (by decide)
  · intro h
    have h0 : ¬ cs_Pt nx rf s l r c = 0 := fun z => h (by rw [z]; exact Int32.zero_and)
    obtain ⟨h1, h2⟩ := (cs_Pt_nz hs hrf).mp h0
    rw [cs_Ft_w hk h1, cs_Pt_w h1] at h
    exact ⟨h1, h2, fun z => absurd z (by decide), fun _ => h⟩
theorem cs_dead {nx rf : Nat → Int32} {s l r c : Nat} (hs : s < 8) (hrf : ∀ k, k < 8 → bt (rf k) 0 = true) : cs_Qw (cs_Pc nx (nI s) (cs_P0 l r)) (cs_Nc nx 0) (cs_dq s rf) c ↔ bt (cs_Pt nx rf s l r c) 7 = true := by
  constructor
  · rintro ⟨h1, h2, h3⟩
    rw [cs_Pt_w h1]
    exact h3
  · intro h
    obtain ⟨h1, h2⟩ := (cs_Pt_nz hs hrf).mp (cs_bnz h)
    rw [cs_Pt_w h1] at h
    exact ⟨h1, h2, h⟩
theorem cs_uns {nx rf : Nat → Int32} {s l r c : Nat} (hs : s < 8) (hrf : ∀ k, k < 8 → bt (rf k) 0 = true) (hc : c < 256) : cs_Qu (cs_Pc nx (nI s) (cs_P0 l r)) (cs_Rf s rf) c ↔ ¬ c % 4 = 0 ∧ ¬ cs_Pt nx rf s l r c = 0 ∧ bt (cs_Pt nx rf s l r (c / 4)) (2 ^ (c % 4 - 1)) = true := by
  constructor
  · rintro ⟨c0, a, q1, q2, q3, q4, q5, q6⟩
    have e1 : c / 4 = c0 := by omega
    have e2 : c % 4 - 1 = a := by omega
    have hw : cs_isW c = true := by rw [q4]; exact (cs_T1 c0 q1 q2 a q3).1
    refine ⟨by omega, (cs_Pt_nz hs hrf).mpr ⟨hw, q5⟩, ?_⟩
    rw [e1, e2, cs_Pt_w q2]
    exact q6
  · rintro ⟨h0, h1, h2⟩
    obtain ⟨hw, hz⟩ := (cs_Pt_nz hs hrf).mp h1
    have e1 : (c - 1) / 4 = c / 4 := by omega
    have e2 : (c - 1) % 4 = c % 4 - 1 := by omega
    rcases cs_T3 c hc hw with e | ⟨t1, t2, t3, t4⟩
    · omega
    · rw [e1] at t1 t2 t4
      rw [e2] at t3 t4
      rw [cs_Pt_w t2] at h2
      exact ⟨c / 4, c % 4 - 1, t1, t2, t3, t4, hz, h2⟩
section
variable {f_depth f_i f_j f_shared f_log : Int32} {a_termFirst a_termNext a_first a_next a_failures a_pair : Nat → Int32}
theorem cs_y_firstGap {post : Int32 → Prop} {k kind s l r : Nat} (hk : k < 8) (hkd : kind < 2) (hs : s < 8) (hnx : ∀ i, cs_B8 (a_next i)) (hrf : ∀ k, k < 8 → bt (a_first k) 0 = true) (hfl : ∀ k c, k < 8 → c < 256 → a_failures (k * 256 + c) = cs_Ft a_next a_first k c) (hpr : ∀ c, c < 256 → a_pair c = cs_Pt a_next a_first s l r c) (h1 : ∀ c, cs_Ls (cs_Qg a_next a_first s l r kind k) c → post (nI c)) (h2 : (∀ c, c < 256 → ¬ cs_Qg a_next a_first s l r kind k c) → post (-4)) : wpY_firstGap post (f_depth, f_i, f_j, f_shared, f_log, a_termFirst, a_termNext, a_first, a_next, a_failures, a_pair) (nI k) (nI kind) := by
  have H : ∀ d c, c + d = 256 → (∀ c', c' < c → ¬ cs_Qg a_next a_first s l r kind k c') → wY_firstGap_2 post (nI k) (nI kind) f_depth f_i f_j f_shared f_log a_termFirst a_termNext a_first a_next a_failures a_pair (d + 1) (nI c) := by
    intro d
    induction d with
    | zero =>
      intro c hd hb
      obtain rfl : c = 256 := by omega
      exact br_t (by decide) (h2 hb)
    | succ d ih =>
      intro c hd hb
      have hc : c < 256 := by omega
      have hb' : ¬ cs_Qg a_next a_first s l r kind k c → ∀ c', c' < c + 1 → ¬ cs_Qg a_next a_first s l r kind k c' := by
        intro hq c' hc'
        rcases Nat.lt_or_ge c' c with z | z
        · exact hb c' z
        · obtain rfl : c' = c := by omega
          exact hq
      refine br_f (cs_256 hc) ⟨vp_in_nI hc (by decide), nm_r (e' := cs_Pt a_next a_first s l r c) (by rw [nI_clamp (by omega)]; exact hpr c hc) ⟨by rw [cs_m256]; exact vp_in_nI (by omega) (by decide), nm_r (e' := cs_Ft a_next a_first k c) (by rw [cs_m256, nI_clamp (by omega)]; exact hfl k c hk hc) ?_⟩⟩
      by_cases e : kind = 0
      · subst e
        refine br_t rfl ?_
        by_cases z1 : cs_Pt a_next a_first s l r c = 0
        · exact br_t z1 (br_f (by decide) (nm_r (nI_1 c) (ih (c + 1) (by omega) (hb' fun q => ((cs_gap0 hs hk hnx hrf).mp q).1 z1))))
        · refine br_f z1 ?_
          by_cases z2 : cs_Ft a_next a_first k c = 0
          · exact br_t z2 (h1 c ⟨hc, (cs_gap0 hs hk hnx hrf).mpr ⟨z1, z2⟩, hb⟩)
          · exact br_f z2 (br_f (by decide) (nm_r (nI_1 c) (ih (c + 1) (by omega) (hb' fun q => z2 ((cs_gap0 hs hk hnx hrf).mp q).2))))
      · obtain rfl : kind = 1 := by omega
        refine br_f (by decide) (br_t rfl ?_)
        by_cases z : (cs_Pt a_next a_first s l r c &&& (cs_Ft a_next a_first k c ^^^ (-1))) = 0
        · exact br_t z (nm_r (nI_1 c) (ih (c + 1) (by omega) (hb' fun q => (cs_gap1 hs hk hrf).mp q z)))
        · exact br_f z (h1 c ⟨hc, (cs_gap1 hs hk hrf).mpr z, hb⟩)
  exact ⟨257, H 256 0 rfl (fun c' hc' => by omega)⟩
theorem cs_y_traces {post : Int32 → SY → Prop} {s l r len : Nat} (hlen : len < 5) (hs : s < 8) (hrf : ∀ k, k < 8 → bt (a_first k) 0 = true) (hpr : ∀ c, c < 256 → a_pair c = cs_Pt a_next a_first s l r c) (h : post (cs_Vs (cs_step a_next (nI s)) (cs_P0 l r) len cs_ind) (f_depth, f_i, f_j, f_shared, f_log, a_termFirst, a_termNext, a_first, a_next, a_failures, a_pair)) : ∃ n19 : Nat, wY_traces_19 post (nI len) f_depth f_i f_j f_shared f_log a_termFirst a_termNext a_first a_next a_failures a_pair n19 0 0 := by
  refine cs_lp (fun n t i => wY_traces_19 post (nI len) f_depth f_i f_j f_shared f_log a_termFirst a_termNext a_first a_next a_failures a_pair n t i) (fun k t => t = cs_ct (fun c => decide (cs_ln c = len) && !decide (a_pair c = 0)) k) 256 ?_ ?_ 0 rfl
  · intro n t e
    subst e
    refine br_t (by decide) ?_
    have e : cs_ct (fun c => decide (cs_ln c = len) && !decide (a_pair c = 0)) 256 = cs_Vs (cs_step a_next (nI s)) (cs_P0 l r) len cs_ind := by
      refine Eq.trans (cs_ct_c ?_) (cs_count (cs_Pc_s a_next (nI s) (cs_P0 l r)) hlen)
      intro c hc
      show (decide (cs_ln c = len) && !decide (a_pair c = 0)) = ((cs_isW c && decide (cs_ln c = len)) && !decide (cs_Pc a_next (nI s) (cs_P0 l r) c = 0))
      rw [hpr c hc]
      have hz := cs_Pt_nz (nx := a_next) (rf := a_first) (s := s) (l := l) (r := r) (c := c) hs hrf
      by_cases z : cs_Pt a_next a_first s l r c = 0
      · rw [decide_eq_true z]
        cases hw : cs_isW c
        · simp
        · have : cs_Pc a_next (nI s) (cs_P0 l r) c = 0 := Classical.byContradiction fun y => hz.mpr ⟨hw, y⟩ z
          rw [decide_eq_true this]
          simp
      · obtain ⟨y1, y2⟩ := hz.mp z
        rw [decide_eq_false z, decide_eq_false y2, y1, Bool.true_and]
    rw [e]
    exact h
  · intro n c t hc e H
    subst e
    refine br_f (cs_256 hc) (cs_y_len hc ?_)
    have h4 := cs_T6 c hc
    by_cases e1 : cs_ln c = len
    · refine br_t (by rw [e1]) ⟨vp_in_nI hc (by decide), ?_⟩
      rw [nI_clamp (by omega)]
      by_cases e2 : a_pair c = 0
      · exact br_t e2 (nm_r (nI_1 c) (H _ (cs_ct_f (by rw [decide_eq_true e2, Bool.not_true, Bool.and_false])).symm))
      · exact br_f e2 (nm_e (nm_r (nI_1 c) (H _ (cs_ct_t (by rw [decide_eq_true e1, decide_eq_false e2]; rfl)).symm)))
    · exact br_f (fun z => e1 ((nI_eq (by omega) (by omega)).mp z)) (nm_r (nI_1 c) (H _ (cs_ct_f (by rw [decide_eq_false e1, Bool.false_and])).symm))
theorem cs_y_deadlock {post : Int32 → SY → Prop} {s l r : Nat} (hs : s < 8) (hrf : ∀ k, k < 8 → bt (a_first k) 0 = true) (hpr : ∀ c, c < 256 → a_pair c = cs_Pt a_next a_first s l r c) (h1 : ∀ c, cs_Ls (cs_Qw (cs_Pc a_next (nI s) (cs_P0 l r)) (cs_Nc a_next 0) (cs_dq s a_first)) c → post (nI c) (f_depth, f_i, f_j, f_shared, f_log, a_termFirst, a_termNext, a_first, a_next, a_failures, a_pair)) (h2 : (∀ c, c < 256 → ¬ cs_Qw (cs_Pc a_next (nI s) (cs_P0 l r)) (cs_Nc a_next 0) (cs_dq s a_first) c) → post (-4) (f_depth, f_i, f_j, f_shared, f_log, a_termFirst, a_termNext, a_first, a_next, a_failures, a_pair)) : ∃ n6 : Nat, wY_deadlock_6 post f_depth f_i f_j f_shared f_log a_termFirst a_termNext a_first a_next a_failures a_pair n6 0 := by
  have H : ∀ d c, c + d = 256 → (∀ c', c' < c → ¬ cs_Qw (cs_Pc a_next (nI s) (cs_P0 l r)) (cs_Nc a_next 0) (cs_dq s a_first) c') → wY_deadlock_6 post f_depth f_i f_j f_shared f_log a_termFirst a_termNext a_first a_next a_failures a_pair (d + 1) (nI c) := by
    intro d
    induction d with
    | zero =>
      intro c hd hb
      obtain rfl : c = 256 := by omega
      exact br_t (by decide) (h2 hb)
    | succ d ih =>
      intro c hd hb
      have hc : c < 256 := by omega
      refine br_f (cs_256 hc) ⟨vp_in_nI hc (by decide), ?_⟩
      rw [nI_clamp (by omega), hpr c hc]
      cases hz : bt (cs_Pt a_next a_first s l r c) 7
      · refine br_f (cs_t1n (k := 7) (by decide) hz) (nm_r (nI_1 c) (ih (c + 1) (by omega) ?_))
        intro c' hc'
        rcases Nat.lt_or_ge c' c with z | z
        · exact hb c' z
        · obtain rfl : c' = c := by omega
          rw [cs_dead hs hrf, hz]
          decide
      · exact br_t ((cs_t1 (k := 7) (by decide)).mpr hz) (h1 c ⟨hc, (cs_dead hs hrf).mpr hz, hb⟩)
  exact ⟨257, H 256 0 rfl (fun c' hc' => by omega)⟩
theorem cs_y_unsure {post : Int32 → SY → Prop} {s l r : Nat} (hs : s < 8) (hrf : ∀ k, k < 8 → bt (a_first k) 0 = true) (hpr : ∀ c, c < 256 → a_pair c = cs_Pt a_next a_first s l r c) (h1 : ∀ c, cs_Ls (cs_Qu (cs_Pc a_next (nI s) (cs_P0 l r)) (cs_Rf s a_first)) c → post (nI c) (f_depth, f_i, f_j, f_shared, f_log, a_termFirst, a_termNext, a_first, a_next, a_failures, a_pair)) (h2 : (∀ c, c < 256 → ¬ cs_Qu (cs_Pc a_next (nI s) (cs_P0 l r)) (cs_Rf s a_first) c) → post (-4) (f_depth, f_i, f_j, f_shared, f_log, a_termFirst, a_termNext, a_first, a_next, a_failures, a_pair)) : ∃ n6 : Nat, wY_unsure_6 post f_depth f_i f_j f_shared f_log a_termFirst a_termNext a_first a_next a_failures a_pair n6 1 := by
  have H : ∀ d c, c + d = 256 → (∀ c', c' < c → ¬ cs_Qu (cs_Pc a_next (nI s) (cs_P0 l r)) (cs_Rf s a_first) c') → wY_unsure_6 post f_depth f_i f_j f_shared f_log a_termFirst a_termNext a_first a_next a_failures a_pair (d + 1) (nI c) := by
    intro d
    induction d with
    | zero =>
      intro c hd hb
      obtain rfl : c = 256 := by omega
      exact br_t (by decide) (h2 hb)
    | succ d ih =>
      intro c hd hb
      have hc : c < 256 := by omega
      have hb' : ¬ cs_Qu (cs_Pc a_next (nI s) (cs_P0 l r)) (cs_Rf s a_first) c → ∀ c', c' < c + 1 → ¬ cs_Qu (cs_Pc a_next (nI s) (cs_P0 l r)) (cs_Rf s a_first) c' := by
        intro hq c' hc'
        rcases Nat.lt_or_ge c' c with z | z
        · exact hb c' z
        · obtain rfl : c' = c := by omega
          exact hq
      have ea : nI c &&& 3 = nI (c % 4) := pk_andN (by omega) 2 (by decide)
      have eq := cs_uns (nx := a_next) (rf := a_first) (l := l) (r := r) hs hrf hc
      refine br_f (cs_256 hc) (nm_r (e' := nI (c % 4) - 1) (by rw [ea]) ?_)
      by_cases e0 : c % 4 = 0
      · rw [e0]
        exact br_t (by decide) (nm_r (nI_1 c) (ih (c + 1) (by omega) (hb' fun q => (eq.mp q).1 e0)))
      · rw [cs_p1 (by omega)]
        refine br_f (nI_pos (by omega)) ⟨vp_in_nI hc (by decide), ?_⟩
        rw [nI_clamp (show c < 2 ^ 31 by omega), hpr c hc]
        by_cases e1 : cs_Pt a_next a_first s l r c = 0
        · exact br_t e1 (nm_r (nI_1 c) (ih (c + 1) (by omega) (hb' fun q => (eq.mp q).2.1 e1)))
        · have es : nI c >>> ((2 : Int32) &&& 31) = nI (c / 4) := pk_shrN (by omega) _ 2 (by decide)
          have ha : c % 4 - 1 < 3 := by omega
          have e2 : 2 ^ (c % 4 - 1) < 32 := Nat.lt_of_le_of_lt (Nat.pow_le_pow_right (by decide) (show c % 4 - 1 ≤ 2 by omega)) (by decide)
          refine br_f e1 ?_
          rw [es]
          refine ⟨vp_in_nI (by omega) (by decide), ?_⟩
          rw [nI_clamp (show c / 4 < 2 ^ 31 by omega), hpr (c / 4) (by omega), cs_T10 (c % 4 - 1) (by omega)]
          cases hq : bt (cs_Pt a_next a_first s l r (c / 4)) (2 ^ (c % 4 - 1))
          · exact br_f (cs_t1n e2 hq) (nm_r (nI_1 c) (ih (c + 1) (by omega) (hb' fun q => by rw [(eq.mp q).2.2] at hq; exact absurd hq (by decide))))
          · exact br_t ((cs_t1 e2).mpr hq) (h1 c ⟨hc, eq.mpr ⟨e0, e1, hq⟩, hb⟩)
  refine ⟨256, H 255 1 rfl (fun c' hc' => ?_)⟩
  obtain rfl : c' = 0 := by omega
  rintro ⟨c0, a, _, _, _, q, _⟩
  omega
end
end
section
/-! the relation -/
def cs_qc (e : Nat → Nat) : Nat → Nat
  | 0 => 0
  | i + 1 => cs_qc e i * 4 + e i + 1
theorem cs_qc_w {e : Nat → Nat} : ∀ i, i ≤ 4 → (∀ j, j < i → e j < 3) → cs_isW (cs_qc e i) = true ∧ cs_qc e i < 4 ^ i ∧ cs_ln (cs_qc e i) = i := by
  intro i
  induction i with
  | zero => intro _ _; exact ⟨cs_W0, (by decide : 0 < 4 ^ 0), rfl⟩
  | succ i ih =>
    intro hi he
    obtain ⟨h1, h2, h3⟩ := ih (by omega) (fun j hj => he j (by omega))
    have h4 : 4 ^ i ≤ 4 ^ 3 := Nat.pow_le_pow_right (by decide) (by omega)
    have h5 : cs_qc e i < 64 := Nat.lt_of_lt_of_le h2 h4
    obtain ⟨t1, t2, t3⟩ := cs_T1 _ h5 h1 (e i) (he i (by omega))
    have h6 := he i (by omega)
    refine ⟨t1, ?_, by show cs_ln (cs_qc e i * 4 + e i + 1) = _; rw [t3, h3]⟩
    show cs_qc e i * 4 + e i + 1 < 4 ^ (i + 1)
    rw [Nat.pow_succ]
    omega
theorem cs_qc_c {e e' : Nat → Nat} : ∀ i, (∀ j, j < i → e j = e' j) → cs_qc e i = cs_qc e' i := by
  intro i
  induction i with
  | zero => intro _; rfl
  | succ i ih =>
    intro h
    show cs_qc e i * 4 + e i + 1 = cs_qc e' i * 4 + e' i + 1
    rw [ih (fun j hj => h j (by omega)), h i (by omega)]
def cs_RF (h l r s lg : Nat) (e : Nat → Nat) (pd : Int32) (tr tn rf nx prf ev : Nat → Int32) (af : Nat → Int64) : Prop :=
  h ≤ 6 ∧ l < 8 ∧ r < 8 ∧ s < 8 ∧ lg ≤ 4 ∧ (∀ i, cs_B8 (tn i)) ∧ (∀ i, cs_B8 (nx i)) ∧ (∀ i, i < h → bt (tr i) 0 = true) ∧ (∀ i, i < 8 → bt (rf i) 0 = true) ∧ cs_Pd s rf pd prf ∧ (∀ i, i < lg → e i < 3 ∧ ev i = nI (e i)) ∧ (∀ i, i ≤ lg → af i = cs_Pc nx (nI s) (cs_P0 l r) (cs_qc e i))
/-- heights, system, log, terms and definitions are the same; the component's sets of pairs are those of the log's words -/
def i_Rel (_ : Nat) (u : SX) (v : SY) : Prop := match u with
  | (f_height, f_left, f_right, f_shared, f_paired, f_logged, f_nodes, a_termRefuse, a_termNext, a_refuse, a_next, a_pairRefuse, a_events, a_after, a_layer, a_pairs, a_spec, a_code, a_ways) => match v with
  | (f_depth, g_i, g_j, g_shared, f_log, b_termFirst, b_termNext, b_first, b_next, _, _) => ∃ (h l r s lg : Nat) (e : Nat → Nat), f_height = nI h ∧ f_left = nI l ∧ f_right = nI r ∧ f_shared = nI s ∧ f_logged = nI lg ∧ f_depth = nI h ∧ g_i = nI l ∧ g_j = nI r ∧ g_shared = nI s ∧ f_log = nI (cs_qc e lg) ∧ b_termFirst = a_termRefuse ∧ b_termNext = a_termNext ∧ b_first = a_refuse ∧ b_next = a_next ∧ cs_RF h l r s lg e f_paired a_termRefuse a_termNext a_refuse a_next a_pairRefuse a_events a_after
theorem i_up {k : Nat} {u : SX} {v : SY} (h : i_Rel k u v) : i_Rel (k + 4) u v := h
theorem cs_mk {k h l r s lg : Nat} {e : Nat → Nat} {f_paired f_nodes : Int32} {a_termRefuse a_termNext a_refuse a_next a_pairRefuse a_events a_layer a_spec a_code a_ways a_failures a_pair : Nat → Int32} {a_after a_pairs : Nat → Int64} (R : cs_RF h l r s lg e f_paired a_termRefuse a_termNext a_refuse a_next a_pairRefuse a_events a_after) : i_Rel k (nI h, nI l, nI r, nI s, f_paired, nI lg, f_nodes, a_termRefuse, a_termNext, a_refuse, a_next, a_pairRefuse, a_events, a_after, a_layer, a_pairs, a_spec, a_code, a_ways) (nI h, nI l, nI r, nI s, nI (cs_qc e lg), a_termRefuse, a_termNext, a_refuse, a_next, a_failures, a_pair) := ⟨h, l, r, s, lg, e, rfl, rfl, rfl, rfl, rfl, rfl, rfl, rfl, rfl, rfl, rfl, rfl, rfl, rfl, R⟩
theorem cs_el {k : Nat} {u : SX} {v : SY} {P : SX → SY → Prop} (H : ∀ (h l r s lg : Nat) (e : Nat → Nat) (f_paired f_nodes : Int32) (a_termRefuse a_termNext a_refuse a_next a_pairRefuse a_events a_layer a_spec a_code a_ways a_failures a_pair : Nat → Int32) (a_after a_pairs : Nat → Int64), cs_RF h l r s lg e f_paired a_termRefuse a_termNext a_refuse a_next a_pairRefuse a_events a_after → P (nI h, nI l, nI r, nI s, f_paired, nI lg, f_nodes, a_termRefuse, a_termNext, a_refuse, a_next, a_pairRefuse, a_events, a_after, a_layer, a_pairs, a_spec, a_code, a_ways) (nI h, nI l, nI r, nI s, nI (cs_qc e lg), a_termRefuse, a_termNext, a_refuse, a_next, a_failures, a_pair)) (I : i_Rel k u v) : P u v := by
  obtain ⟨f_height, f_left, f_right, f_shared, f_paired, f_logged, f_nodes, a_termRefuse, a_termNext, a_refuse, a_next, a_pairRefuse, a_events, a_after, a_layer, a_pairs, a_spec, a_code, a_ways⟩ := u
  obtain ⟨f_depth, g_i, g_j, g_shared, f_log, b_termFirst, b_termNext, b_first, b_next, a_failures, a_pair⟩ := v
  obtain ⟨h, l, r, s, lg, e, e1, e2, e3, e4, e5, e6, e7, e8, e9, e10, e11, e12, e13, e14, R⟩ := I
  subst e1 e2 e3 e4 e5 e6 e7 e8 e9 e10 e11 e12 e13 e14
  exact H h l r s lg e f_paired f_nodes b_termFirst b_termNext b_first b_next a_pairRefuse a_events a_layer a_spec a_code a_ways a_failures a_pair a_after a_pairs R
end
section
/-! terms and definitions -/
theorem cs_B8_upd {f : Nat → Int32} {k : Nat} {x : Int32} (h : ∀ i, cs_B8 (f i)) (hx : cs_B8 x) : ∀ i, cs_B8 (upd f k x i) := by
  intro i
  by_cases e : i = k
  · subst e; rw [pk_us]; exact hx
  · rw [pk_un e]; exact h i
theorem cs_x3 (h : Nat) : nI h * 3 = nI (h * 3) := by rw [show (3 : Int32) = nI 3 from rfl, pk_mul]
theorem cs_p2 (n : Nat) : nI n + 2 = nI (n + 2) := by rw [show (2 : Int32) = nI 2 from rfl, nI_add]
theorem cs_p3 (n : Nat) : nI n + 3 = nI (n + 3) := by rw [show (3 : Int32) = nI 3 from rfl, nI_add]
theorem cs_s2 {h : Nat} (h2 : 2 ≤ h) : nI h - 2 = nI (h - 2) := pk_sub h2
theorem cs_s1 {h : Nat} (h2 : 1 ≤ h) : nI h - 1 = nI (h - 1) := pk_sub h2
def cs_tk (tn : Nat → Int32) (h : Nat) : Nat → Nat → Int32
  | 0 => tn
  | k + 1 => upd (cs_tk tn h k) (h * 3 + k) 0
theorem cs_tk_B8 {tn : Nat → Int32} (ht : ∀ i, cs_B8 (tn i)) (h : Nat) : ∀ k i, cs_B8 (cs_tk tn h k i) := by
  intro k
  induction k with
  | zero => exact ht
  | succ k ih => exact cs_B8_upd ih cs_B8_0
def cs_gk (tn : Nat → Int32) (x : Nat) : Nat → Nat → Int32
  | 0 => tn
  | k + 1 => upd (cs_gk tn x k) (x * 3 + k) (cs_gk tn x k (x * 3 + k) ||| cs_gk tn x k (x * 3 + k + 3))
theorem cs_gk_B8 {tn : Nat → Int32} (ht : ∀ i, cs_B8 (tn i)) (x : Nat) : ∀ k i, cs_B8 (cs_gk tn x k i) := by
  intro k
  induction k with
  | zero => exact ht
  | succ k ih => exact cs_B8_upd ih (cs_B8_or (ih _) (ih _))
def cs_dk (nx tn : Nat → Int32) (k d : Nat) : Nat → Nat → Int32
  | 0 => nx
  | a + 1 => upd (cs_dk nx tn k d a) (k * 3 + a) (tn (d * 3 + a))
theorem cs_dk_B8 {nx tn : Nat → Int32} (hn : ∀ i, cs_B8 (nx i)) (ht : ∀ i, cs_B8 (tn i)) (k d : Nat) : ∀ a i, cs_B8 (cs_dk nx tn k d a i) := by
  intro a
  induction a with
  | zero => exact hn
  | succ a ih => exact cs_B8_upd ih (ht _)
def cs_fam (a : Nat) : Nat → Int32 := cs_os (fun k => !bt (nI k) a) (fun k => (1 : Int32) <<< (nI k &&& 31)) 0
theorem cs_fam_a : ∀ a, a < 3 → ∀ k, k < 8 → cs_fam a k + ((1 : Int32) <<< (nI k &&& 31)) = cs_fam a k ||| ((1 : Int32) <<< (nI k &&& 31)) := by decide +kernel
theorem cs_fam_0 : ∀ a, a < 3 → bt (cs_fam a 8) 0 = true := by decide +kernel
def cs_r8 : Nat → Nat → Int32
  | 0 => fun _ => 0
  | k + 1 => upd (cs_r8 k) k 255
theorem cs_r8_0 : ∀ i, i < 8 → bt (cs_r8 8 i) 0 = true := by decide +kernel
section
variable {f_height f_left f_right f_shared f_paired f_logged f_nodes : Int32} {a_termRefuse a_termNext a_refuse a_next a_pairRefuse a_events a_layer a_spec a_code a_ways : Nat → Int32} {a_after a_pairs : Nat → Int64}
theorem cs_w_push {post : SX → Prop} {h : Nat} (hh : h < 6) (fam : Int32) (hp : post (nI (h + 1), f_left, f_right, f_shared, f_paired, f_logged, f_nodes, upd a_termRefuse h fam, cs_tk a_termNext h 3, a_refuse, a_next, a_pairRefuse, a_events, a_after, a_layer, a_pairs, a_spec, a_code, a_ways)) : wpX_push post (nI h, f_left, f_right, f_shared, f_paired, f_logged, f_nodes, a_termRefuse, a_termNext, a_refuse, a_next, a_pairRefuse, a_events, a_after, a_layer, a_pairs, a_spec, a_code, a_ways) fam := by
  refine ⟨vp_in_nI hh (by decide), nm_r (e' := upd a_termRefuse h fam) (by rw [nI_clamp (by omega)]) ?_⟩
  refine cs_lp (fun n tn i => wX_push_12 post (nI h) f_left f_right f_shared f_paired f_logged f_nodes n i (upd a_termRefuse h fam) tn a_refuse a_next a_pairRefuse a_events a_after a_layer a_pairs a_spec a_code a_ways) (fun k tn => tn = cs_tk a_termNext h k) 3 ?_ ?_ a_termNext rfl
  · intro n tn e
    subst e
    exact br_t (by decide) (nm_r (nI_1 h) hp)
  · intro n k tn hk e H
    exact br_f (cs_3 hk) ⟨by rw [cs_m3]; exact vp_in_nI (by omega) (by decide), nm_r (e' := upd tn (h * 3 + k) 0) (by rw [cs_m3, nI_clamp (by omega)]) (nm_r (nI_1 k) (H _ (by rw [e]; rfl)))⟩
theorem cs_w_pre {post : Int32 → SX → Prop} {h a k : Nat} (hh : h < 6) (ha : a < 3) (hp : post (nI (h + 1)) (nI (h + 1), f_left, f_right, f_shared, f_paired, f_logged, f_nodes, upd a_termRefuse h (cs_fam a 8), upd (cs_tk a_termNext h 3) (h * 3 + a) ((1 : Int32) <<< (nI k &&& 31)), a_refuse, a_next, a_pairRefuse, a_events, a_after, a_layer, a_pairs, a_spec, a_code, a_ways)) : ∃ n38 : Nat, wX_pre_38 post (nI a) (nI k) (nI h) f_left f_right f_shared f_paired f_logged f_nodes a_termRefuse a_termNext a_refuse a_next a_pairRefuse a_events a_after a_layer a_pairs a_spec a_code a_ways n38 0 0 := by
  refine cs_lo (fun n t i => wX_pre_38 post (nI a) (nI k) (nI h) f_left f_right f_shared f_paired f_logged f_nodes a_termRefuse a_termNext a_refuse a_next a_pairRefuse a_events a_after a_layer a_pairs a_spec a_code a_ways n t i) (fun t => t = cs_fam a 8) (fun k => !bt (nI k) a) (fun k => (1 : Int32) <<< (nI k &&& 31)) 8 ?_ ?_ ?_ 0 rfl
  · intro n t e
    subst e
    refine br_t (by decide) (cs_w_push hh _ ⟨?_, nm_r (e' := upd (cs_tk a_termNext h 3) (h * 3 + a) ((1 : Int32) <<< (nI k &&& 31))) ?_ hp⟩)
    · rw [nI_pred, cs_m3]; exact vp_in_nI (by omega) (by decide)
    · rw [nI_pred, cs_m3, nI_clamp (by omega)]
  · intro n i t hi hc hw
    have hc' : (!bt (nI i) a) = true := hc
    exact br_f (cs_8 hi) (br_t ((cs_t0 (by omega)).mpr (by simpa using hc')) (nm_e (nm_r (nI_1 i) hw)))
  · intro n i t hi hc hw
    have hc' : (!bt (nI i) a) = false := hc
    exact br_f (cs_8 hi) (br_f (fun z => by rw [(cs_t0 (by omega)).mp z] at hc'; exact absurd hc' (by decide)) (nm_r (nI_1 i) hw))
theorem cs_w_gather {post : SX → Prop} {x : Nat} (hx : x < 5) (hp : post (f_height, f_left, f_right, f_shared, f_paired, f_logged, f_nodes, a_termRefuse, cs_gk a_termNext x 3, a_refuse, a_next, a_pairRefuse, a_events, a_after, a_layer, a_pairs, a_spec, a_code, a_ways)) : wpX_gather post (f_height, f_left, f_right, f_shared, f_paired, f_logged, f_nodes, a_termRefuse, a_termNext, a_refuse, a_next, a_pairRefuse, a_events, a_after, a_layer, a_pairs, a_spec, a_code, a_ways) (nI x) := by
  refine cs_lp (fun n tn i => wX_gather_2 post (nI x) f_height f_left f_right f_shared f_paired f_logged f_nodes n i a_termRefuse tn a_refuse a_next a_pairRefuse a_events a_after a_layer a_pairs a_spec a_code a_ways) (fun k tn => tn = cs_gk a_termNext x k) 3 ?_ ?_ a_termNext rfl
  · intro n tn e
    subst e
    exact br_t (by decide) hp
  · intro n k tn hk e H
    have e1 : (nI x * 3 + nI k).toNatClampNeg = x * 3 + k := by rw [cs_m3]; exact nI_clamp (by omega)
    have e2 : (nI x * 3 + 3 + nI k).toNatClampNeg = x * 3 + k + 3 := by rw [cs_x3, cs_p3, nI_add, nI_clamp (by omega)]; omega
    have v1 : vp_in (nI x * 3 + nI k) 18 := by rw [cs_m3]; exact vp_in_nI (by omega) (by decide)
    have v2 : vp_in (nI x * 3 + 3 + nI k) 18 := by rw [cs_x3, cs_p3, nI_add]; exact vp_in_nI (by omega) (by decide)
    exact br_f (cs_3 hk) ⟨v1, v2, v1, nm_r (e' := upd tn (x * 3 + k) (tn (x * 3 + k) ||| tn (x * 3 + k + 3))) (by rw [e1, e2]) (nm_r (nI_1 k) (H _ (by rw [e]; rfl)))⟩
theorem cs_w_define {post : Int32 → SX → Prop} {d k l r : Nat} (hd : d < 6) (hk : k < 8) (hp : post (nI d) (nI d, nI l, nI r, f_shared, 0, 0, f_nodes, a_termRefuse, a_termNext, a_refuse, cs_dk a_next a_termNext k d 3, a_pairRefuse, a_events, vp_updL a_after 0 (cs_P0 l r), a_layer, a_pairs, a_spec, a_code, a_ways)) : ∃ n49 : Nat, wX_define_49 post (nI k) (nI d) (nI l) (nI r) f_shared f_paired f_logged f_nodes n49 0 a_termRefuse a_termNext a_refuse a_next a_pairRefuse a_events a_after a_layer a_pairs a_spec a_code a_ways := by
  refine cs_lp (fun n nx i => wX_define_49 post (nI k) (nI d) (nI l) (nI r) f_shared f_paired f_logged f_nodes n i a_termRefuse a_termNext a_refuse nx a_pairRefuse a_events a_after a_layer a_pairs a_spec a_code a_ways) (fun a nx => nx = cs_dk a_next a_termNext k d a) 3 ?_ ?_ a_next rfl
  · intro n nx e
    subst e
    refine br_t (by decide) ?_
    unfold wpX_fresh
    exact nm_r (e' := vp_updL a_after 0 (cs_P0 l r)) rfl hp
  · intro n a nx ha e H
    exact br_f (cs_3 ha) ⟨by rw [cs_m3]; exact vp_in_nI (by omega) (by decide), cs_i3 hk ha, nm_r (e' := upd nx (k * 3 + a) (a_termNext (d * 3 + a))) (by rw [cs_m3, cs_m3, nI_clamp (by omega), nI_clamp (by omega)]) (nm_r (nI_1 a) (H _ (by rw [e]; rfl)))⟩
end
section
variable {f_depth f_i f_j f_shared f_log : Int32} {a_termFirst a_termNext a_first a_next a_failures a_pair : Nat → Int32}
theorem cs_y_push {post : Int32 → SY → Prop} {h : Nat} (hh : h < 6) (fam : Int32) (hp : post (nI (h + 1)) (nI (h + 1), f_i, f_j, f_shared, f_log, upd a_termFirst h fam, cs_tk a_termNext h 3, a_first, a_next, a_failures, a_pair)) : wpY_push post (nI h, f_i, f_j, f_shared, f_log, a_termFirst, a_termNext, a_first, a_next, a_failures, a_pair) fam := by
  refine ⟨vp_in_nI hh (by decide), nm_r (e' := upd a_termFirst h fam) (by rw [nI_clamp (by omega)]) ⟨by rw [cs_x3]; exact vp_in_nI (by omega) (by decide), nm_r (e' := upd a_termNext (h * 3) 0) (by rw [cs_x3, nI_clamp (by omega)]) ⟨by rw [cs_x3, nI_1]; exact vp_in_nI (by omega) (by decide), nm_r (e' := upd (upd a_termNext (h * 3) 0) (h * 3 + 1) 0) (by rw [cs_x3, nI_1, nI_clamp (by omega)]) ⟨by rw [cs_x3, cs_p2]; exact vp_in_nI (by omega) (by decide), nm_r (e' := upd (upd (upd a_termNext (h * 3) 0) (h * 3 + 1) 0) (h * 3 + 2) 0) (by rw [cs_x3, cs_p2, nI_clamp (by omega)]) (nm_r (nI_1 h) hp)⟩⟩⟩⟩
theorem cs_y_pre {post : Int32 → SY → Prop} {h a k : Nat} (hh : h < 6) (ha : a < 3) (hp : post (nI (h + 1)) (nI (h + 1), f_i, f_j, f_shared, f_log, upd a_termFirst h (cs_fam a 8), upd (cs_tk a_termNext h 3) (h * 3 + a) ((1 : Int32) <<< (nI k &&& 31)), a_first, a_next, a_failures, a_pair)) : ∃ n38 : Nat, wY_pre_38 post (nI a) (nI k) (nI h) f_i f_j f_shared f_log a_termFirst a_termNext a_first a_next a_failures a_pair n38 0 0 := by
  refine cs_lp (fun n t i => wY_pre_38 post (nI a) (nI k) (nI h) f_i f_j f_shared f_log a_termFirst a_termNext a_first a_next a_failures a_pair n t i) (fun i t => t = cs_fam a i) 8 ?_ ?_ 0 rfl
  · intro n t e
    subst e
    refine br_t (by decide) (cs_y_push hh _ ⟨?_, nm_r (e' := upd (cs_tk a_termNext h 3) (h * 3 + a) ((1 : Int32) <<< (nI k &&& 31))) ?_ hp⟩)
    · rw [nI_pred, cs_m3]; exact vp_in_nI (by omega) (by decide)
    · rw [nI_pred, cs_m3, nI_clamp (by omega)]
  · intro n i t hi e H
    subst e
    cases hc : bt (nI i) a
    · refine br_f (cs_8 hi) (br_t ((cs_t0 (by omega)).mpr hc) (nm_r (cs_fam_a a ha i hi) (nm_r (nI_1 i) (H _ ?_))))
      show _ = (bif !bt (nI i) a then cs_fam a i ||| ((1 : Int32) <<< (nI i &&& 31)) else cs_fam a i)
      rw [hc]; rfl
    · refine br_f (cs_8 hi) (br_f (fun z => by rw [(cs_t0 (by omega)).mp z] at hc; exact absurd hc (by decide)) (nm_r (nI_1 i) (H _ ?_)))
      show _ = (bif !bt (nI i) a then cs_fam a i ||| ((1 : Int32) <<< (nI i &&& 31)) else cs_fam a i)
      rw [hc]; rfl
theorem cs_y_join {post : Int32 → SY → Prop} {h : Nat} (h2 : 2 ≤ h) (h6 : h ≤ 6) (fam : Int32) (hp : post (nI (h - 1)) (nI (h - 1), f_i, f_j, f_shared, f_log, upd a_termFirst (h - 2) fam, cs_gk a_termNext (h - 2) 3, a_first, a_next, a_failures, a_pair)) : wpY_join post (nI h, f_i, f_j, f_shared, f_log, a_termFirst, a_termNext, a_first, a_next, a_failures, a_pair) fam := by
  refine ⟨by rw [cs_s2 h2]; exact vp_in_nI (by omega) (by decide), nm_r (e' := upd a_termFirst (h - 2) fam) (by rw [cs_s2 h2, nI_clamp (by omega)]) ?_⟩
  refine cs_lp (fun n tn i => wY_join_14 post (nI h) f_i f_j f_shared f_log n i (upd a_termFirst (h - 2) fam) tn a_first a_next a_failures a_pair) (fun k tn => tn = cs_gk a_termNext (h - 2) k) 3 ?_ ?_ a_termNext rfl
  · intro n tn e
    subst e
    exact br_t (by decide) (nm_r (cs_s1 (by omega)) hp)
  · intro n k tn hk e H
    refine br_f (cs_3 hk) (nm_r (e' := nI ((h - 2) * 3 + k)) (by rw [cs_s2 h2, cs_m3]) ?_)
    have v1 : vp_in (nI ((h - 2) * 3 + k)) 18 := vp_in_nI (by omega) (by decide)
    have v2 : vp_in (nI ((h - 2) * 3 + k) + 3) 18 := by rw [cs_p3]; exact vp_in_nI (by omega) (by decide)
    exact ⟨v1, v2, v1, nm_r (e' := upd tn ((h - 2) * 3 + k) (tn ((h - 2) * 3 + k) ||| tn ((h - 2) * 3 + k + 3))) (by rw [cs_p3, nI_clamp (by omega), nI_clamp (by omega)]) (nm_r (nI_1 k) (H _ (by rw [e]; rfl)))⟩
theorem cs_y_define {post : Int32 → SY → Prop} {d k : Nat} (hd : d < 6) (hk : k < 8) (hp : post (nI d) (nI d, f_i, f_j, f_shared, 0, a_termFirst, a_termNext, a_first, cs_dk a_next a_termNext k d 3, a_failures, a_pair)) : ∃ n49 : Nat, wY_define_49 post (nI k) (nI d) f_i f_j f_shared f_log n49 0 a_termFirst a_termNext a_first a_next a_failures a_pair := by
  refine cs_lp (fun n nx i => wY_define_49 post (nI k) (nI d) f_i f_j f_shared f_log n i a_termFirst a_termNext a_first nx a_failures a_pair) (fun a nx => nx = cs_dk a_next a_termNext k d a) 3 ?_ ?_ a_next rfl
  · intro n nx e
    subst e
    exact br_t (by decide) hp
  · intro n a nx ha e H
    exact br_f (cs_3 ha) ⟨by rw [cs_m3]; exact vp_in_nI (by omega) (by decide), cs_i3 hk ha, nm_r (e' := upd nx (k * 3 + a) (a_termNext (d * 3 + a))) (by rw [cs_m3, cs_m3, nI_clamp (by omega), nI_clamp (by omega)]) (nm_r (nI_1 a) (H _ (by rw [e]; rfl)))⟩
end
end
section
/-! the owed statements: terms, definitions, system -/
theorem cs_ne {a b : Nat} (h : a ≠ b) (ha : a < 2 ^ 31) (hb : b < 2 ^ 31) : ¬ nI a = nI b := fun z => h ((nI_eq ha hb).mp z)
section
variable {h l r s lg : Nat} {e : Nat → Nat} {pd : Int32} {tr tn rf nx prf ev : Nat → Int32} {af : Nat → Int64}
theorem cs_RF_push (R : cs_RF h l r s lg e pd tr tn rf nx prf ev af) (hh : h < 6) {fam : Int32} (hf : bt fam 0 = true) {tn' : Nat → Int32} (ht : ∀ i, cs_B8 (tn' i)) : cs_RF (h + 1) l r s lg e pd (upd tr h fam) tn' rf nx prf ev af := by
  obtain ⟨r1, r2, r3, r4, r5, r6, r7, r8, r9, r10, r11, r12⟩ := R
  refine ⟨by omega, r2, r3, r4, r5, ht, r7, ?_, r9, r10, r11, r12⟩
  intro i hi
  by_cases e : i = h
  · subst e; rw [pk_us]; exact hf
  · rw [pk_un e]; exact r8 i (by omega)
theorem cs_RF_join (R : cs_RF h l r s lg e pd tr tn rf nx prf ev af) (hh : 2 ≤ h) {fam : Int32} (hf : bt fam 0 = true) : cs_RF (h - 1) l r s lg e pd (upd tr (h - 2) fam) (cs_gk tn (h - 2) 3) rf nx prf ev af := by
  obtain ⟨r1, r2, r3, r4, r5, r6, r7, r8, r9, r10, r11, r12⟩ := R
  refine ⟨by omega, r2, r3, r4, r5, cs_gk_B8 r6 _ _, r7, ?_, r9, r10, r11, r12⟩
  intro i hi
  by_cases e : i = h - 2
  · subst e; rw [pk_us]; exact hf
  · rw [pk_un e]; exact r8 i (by omega)
theorem cs_RF_define (R : cs_RF h l r s lg e pd tr tn rf nx prf ev af) (hh : 1 ≤ h) (k : Nat) : cs_RF (h - 1) l r s 0 e 0 tr tn (upd rf k (tr (h - 1))) (cs_dk nx tn k (h - 1) 3) prf ev (vp_updL af 0 (cs_P0 l r)) := by
  obtain ⟨r1, r2, r3, r4, r5, r6, r7, r8, r9, r10, r11, r12⟩ := R
  refine ⟨by omega, r2, r3, r4, by omega, r6, cs_dk_B8 r7 r6 _ _ _, fun i hi => r8 i (by omega), ?_, Or.inl rfl, fun i hi => by omega, ?_⟩
  · intro i hi
    by_cases e : i = k
    · subst e; rw [pk_us]; exact r8 _ (by omega)
    · rw [pk_un e]; exact r9 i hi
  · intro i hi
    obtain rfl : i = 0 := by omega
    exact pk_uLs
theorem cs_RF_system (R : cs_RF h l r s lg e pd tr tn rf nx prf ev af) {l' r' s' : Nat} (hl : l' < 8) (hr : r' < 8) (hs : s' < 8) : cs_RF h l' r' s' 0 e 0 tr tn rf nx prf ev (vp_updL af 0 (cs_P0 l' r')) := by
  obtain ⟨r1, r2, r3, r4, r5, r6, r7, r8, r9, r10, r11, r12⟩ := R
  refine ⟨r1, hl, hr, hs, by omega, r6, r7, r8, r9, Or.inl rfl, fun i hi => by omega, ?_⟩
  intro i hi
  obtain rfl : i = 0 := by omega
  exact pk_uLs
end
theorem i_vc0 : wpX_init (fun u => wpY_init (fun v => i_Rel 0 u v)) := by
  refine cs_lp (fun n rf i => wX_init_104 (fun u => wpY_init (fun v => i_Rel 0 u v)) 0 0 0 0 0 0 0 n i (fun _ => 0) (fun _ => 0) rf (fun _ => 0) (fun _ => 0) (fun _ => 0) (fun _ => 0) (fun _ => 0) (fun _ => 0) (fun _ => 0) (fun _ => 0) (fun _ => 0)) (fun k rf => rf = cs_r8 k) 8 ?_ ?_ (fun _ => 0) rfl
  · intro n rf e
    subst e
    refine br_t (by decide) (nm_e ?_)
    refine cs_lp (fun n rf i => wY_init_56 (fun v => i_Rel 0 (0, 0, 0, 7, 0, 0, 0, (fun _ => 0), (fun _ => 0), cs_r8 8, (fun _ => 0), (fun _ => 0), (fun _ => 0), vp_updL (fun _ => 0) 0 1, (fun _ => 0), (fun _ => 0), (fun _ => 0), (fun _ => 0), (fun _ => 0)) v) 0 0 0 0 0 n i (fun _ => 0) (fun _ => 0) rf (fun _ => 0) (fun _ => 0) (fun _ => 0)) (fun k rf => rf = cs_r8 k) 8 ?_ ?_ (fun _ => 0) rfl
    · intro n rf e
      subst e
      refine br_t (by decide) ?_
      refine ⟨0, 0, 0, 7, 0, (fun _ => 0), rfl, rfl, rfl, rfl, rfl, rfl, rfl, rfl, rfl, rfl, rfl, rfl, rfl, rfl, ?_⟩
      refine ⟨by decide, by decide, by decide, by decide, by decide, fun _ => cs_B8_0, fun _ => cs_B8_0, fun i hi => by omega, cs_r8_0, Or.inl rfl, fun i hi => by omega, ?_⟩
      intro i hi
      obtain rfl : i = 0 := by omega
      rw [pk_uLs]
      decide +kernel
    · intro n k rf hk e H
      exact br_f (cs_8 hk) ⟨vp_in_nI hk (by decide), nm_r (e' := upd rf k 255) (by rw [nI_clamp (by omega)]) (nm_r (nI_1 k) (H _ (by rw [e]; rfl)))⟩
  · intro n k rf hk e H
    exact br_f (cs_8 hk) ⟨vp_in_nI hk (by decide), nm_r (e' := upd rf k 255) (by rw [nI_clamp (by omega)]) (nm_r (nI_1 k) (H _ (by rw [e]; rfl)))⟩
theorem i_vc_stop {k : Nat} {u : SX} {v : SY} (I : i_Rel k u v) (hk : k + 4 ≤ 2048) : wpX_stop (fun r u' => wpY_stop (fun r' v' => r' = r ∧ i_Rel (k + 4) u' v') v) u := by
  refine cs_el (P := fun u v => wpX_stop (fun r u' => wpY_stop (fun r' v' => r' = r ∧ i_Rel (k + 4) u' v') v) u) ?_ I
  intro h l r s lg e f_paired f_nodes a_termRefuse a_termNext a_refuse a_next a_pairRefuse a_events a_layer a_spec a_code a_ways a_failures a_pair a_after a_pairs R
  have hh : h ≤ 6 := R.1
  by_cases h6 : h = 6
  · subst h6
    exact br_t rfl (br_t rfl ⟨rfl, cs_mk R⟩)
  · have n6 : ¬ nI h = 6 := cs_ne h6 (by omega) (by decide)
    refine br_f n6 (cs_w_push (by omega) _ (br_f n6 (cs_y_push (by omega) _ ⟨rfl, cs_mk (cs_RF_push R (by omega) (by decide) (cs_tk_B8 R.2.2.2.2.2.1 h 3))⟩)))
theorem i_vc_pre {k : Nat} {u : SX} {v : SY} (I : i_Rel k u v) (hk : k + 4 ≤ 2048) (v1 : Int32) (v2 : Int32) : wpX_pre (fun r u' => wpY_pre (fun r' v' => r' = r ∧ i_Rel (k + 4) u' v') v v1 v2) u v1 v2 := by
  refine cs_el (P := fun u v => wpX_pre (fun r u' => wpY_pre (fun r' v' => r' = r ∧ i_Rel (k + 4) u' v') v v1 v2) u v1 v2) ?_ I
  intro h l r s lg e f_paired f_nodes a_termRefuse a_termNext a_refuse a_next a_pairRefuse a_events a_layer a_spec a_code a_ways a_failures a_pair a_after a_pairs R
  have hh : h ≤ 6 := R.1
  by_cases h1 : v1 < 0
  · exact br_t h1 (br_t h1 ⟨rfl, cs_mk R⟩)
  by_cases h2 : 2 < v1
  · exact br_f h1 (br_t h2 (br_f h1 (br_t h2 ⟨rfl, cs_mk R⟩)))
  by_cases h3 : v2 < 0
  · exact br_f h1 (br_f h2 (br_t h3 (br_f h1 (br_f h2 (br_t h3 ⟨rfl, cs_mk R⟩)))))
  by_cases h4 : v2 ≤ 7
  · refine br_f h1 (br_f h2 (br_f h3 (br_t h4 ?_)))
    by_cases h6 : h = 6
    · subst h6
      exact br_t rfl (br_f h1 (br_f h2 (br_f h3 (br_t h4 (br_t rfl ⟨rfl, cs_mk R⟩)))))
    · have n6 : ¬ nI h = 6 := cs_ne h6 (by omega) (by decide)
      obtain ⟨a, ha, e1⟩ := nI_of2 (M := 2) (n := 2) (by decide) h1 (Int32.not_lt.mp h2)
      obtain ⟨q, hq, e2⟩ := nI_of2 (M := 7) (n := 7) (by decide) h3 h4
      subst e1 e2
      exact br_f n6 (cs_w_pre (by omega) (by omega) (br_f h1 (br_f h2 (br_f h3 (br_t h4 (br_f n6 (cs_y_pre (by omega) (by omega) ⟨rfl, cs_mk (cs_RF_push R (by omega) (cs_fam_0 a (by omega)) (cs_B8_upd (cs_tk_B8 R.2.2.2.2.2.1 h 3) (cs_B8_p (by omega))))⟩)))))))
  · exact br_f h1 (br_f h2 (br_f h3 (br_f h4 (br_f h1 (br_f h2 (br_f h3 (br_f h4 ⟨rfl, cs_mk R⟩)))))))
theorem i_vc_ext {k : Nat} {u : SX} {v : SY} (I : i_Rel k u v) (hk : k + 4 ≤ 2048) : wpX_ext (fun r u' => wpY_ext (fun r' v' => r' = r ∧ i_Rel (k + 4) u' v') v) u := by
  refine cs_el (P := fun u v => wpX_ext (fun r u' => wpY_ext (fun r' v' => r' = r ∧ i_Rel (k + 4) u' v') v) u) ?_ I
  intro h l r s lg e f_paired f_nodes a_termRefuse a_termNext a_refuse a_next a_pairRefuse a_events a_layer a_spec a_code a_ways a_failures a_pair a_after a_pairs R
  have hh : h ≤ 6 := R.1
  have r8 := R.2.2.2.2.2.2.2.1
  by_cases h2 : 2 ≤ h
  · have n2 : (2 : Int32) ≤ nI h := nI_le (a := 2) h2 (by omega)
    refine br_t n2 (nm_r (cs_s2 h2) ⟨vp_in_nI (by omega) (by decide), by rw [nI_1]; exact vp_in_nI (by omega) (by decide), vp_in_nI (by omega) (by decide), nm_r (e' := upd a_termRefuse (h - 2) (a_termRefuse (h - 2) &&& a_termRefuse (h - 1))) (by rw [nI_1, nI_clamp (by omega), nI_clamp (by omega), show h - 2 + 1 = h - 1 by omega]) ?_⟩)
    refine cs_w_gather (by omega) (nm_r (cs_s1 (by omega)) ?_)
    refine br_t n2 ⟨by rw [cs_s2 h2]; exact vp_in_nI (by omega) (by decide), by rw [cs_s1 (by omega)]; exact vp_in_nI (by omega) (by decide), ?_⟩
    rw [cs_s2 h2, cs_s1 (by omega), nI_clamp (by omega), nI_clamp (by omega)]
    exact cs_y_join h2 hh _ ⟨rfl, cs_mk (cs_RF_join R h2 (by rw [b_and, r8 _ (by omega), r8 _ (by omega)]; rfl))⟩
  · have n2 : ¬ (2 : Int32) ≤ nI h := nI_ge (b := 2) (by omega) (by decide)
    exact br_f n2 (br_f n2 ⟨rfl, cs_mk R⟩)
theorem i_vc_hid {k : Nat} {u : SX} {v : SY} (I : i_Rel k u v) (hk : k + 4 ≤ 2048) : wpX_hid (fun r u' => wpY_hid (fun r' v' => r' = r ∧ i_Rel (k + 4) u' v') v) u := by
  refine cs_el (P := fun u v => wpX_hid (fun r u' => wpY_hid (fun r' v' => r' = r ∧ i_Rel (k + 4) u' v') v) u) ?_ I
  intro h l r s lg e f_paired f_nodes a_termRefuse a_termNext a_refuse a_next a_pairRefuse a_events a_layer a_spec a_code a_ways a_failures a_pair a_after a_pairs R
  have hh : h ≤ 6 := R.1
  have r8 := R.2.2.2.2.2.2.2.1
  by_cases h2 : 2 ≤ h
  · have n2 : (2 : Int32) ≤ nI h := nI_le (a := 2) h2 (by omega)
    refine br_t n2 (nm_r (cs_s2 h2) ⟨vp_in_nI (by omega) (by decide), by rw [nI_1]; exact vp_in_nI (by omega) (by decide), vp_in_nI (by omega) (by decide), nm_r (e' := upd a_termRefuse (h - 2) (a_termRefuse (h - 2) ||| a_termRefuse (h - 1))) (by rw [nI_1, nI_clamp (by omega), nI_clamp (by omega), show h - 2 + 1 = h - 1 by omega]) ?_⟩)
    refine cs_w_gather (by omega) (nm_r (cs_s1 (by omega)) ?_)
    refine br_t n2 ⟨by rw [cs_s2 h2]; exact vp_in_nI (by omega) (by decide), by rw [cs_s1 (by omega)]; exact vp_in_nI (by omega) (by decide), ?_⟩
    rw [cs_s2 h2, cs_s1 (by omega), nI_clamp (by omega), nI_clamp (by omega)]
    exact cs_y_join h2 hh _ ⟨rfl, cs_mk (cs_RF_join R h2 (by rw [b_or, r8 _ (by omega), r8 _ (by omega)]; rfl))⟩
  · have n2 : ¬ (2 : Int32) ≤ nI h := nI_ge (b := 2) (by omega) (by decide)
    exact br_f n2 (br_f n2 ⟨rfl, cs_mk R⟩)
theorem i_vc_depth {k : Nat} {u : SX} {v : SY} (I : i_Rel k u v) (hk : k + 4 ≤ 2048) : wpX_depth (fun r => wpY_depth (fun r' => r' = r ∧ i_Rel (k + 4) u v) v) u := by
  refine cs_el (P := fun u v => wpX_depth (fun r => wpY_depth (fun r' => r' = r ∧ i_Rel (k + 4) u v) v) u) ?_ I
  intro h l r s lg e f_paired f_nodes a_termRefuse a_termNext a_refuse a_next a_pairRefuse a_events a_layer a_spec a_code a_ways a_failures a_pair a_after a_pairs R
  exact ⟨rfl, cs_mk R⟩
theorem i_vc_define {k : Nat} {u : SX} {v : SY} (I : i_Rel k u v) (hk : k + 4 ≤ 2048) (v1 : Int32) : wpX_define (fun r u' => wpY_define (fun r' v' => r' = r ∧ i_Rel (k + 4) u' v') v v1) u v1 := by
  refine cs_el (P := fun u v => wpX_define (fun r u' => wpY_define (fun r' v' => r' = r ∧ i_Rel (k + 4) u' v') v v1) u v1) ?_ I
  intro h l r s lg e f_paired f_nodes a_termRefuse a_termNext a_refuse a_next a_pairRefuse a_events a_layer a_spec a_code a_ways a_failures a_pair a_after a_pairs R
  have hh : h ≤ 6 := R.1
  by_cases h1 : v1 < 0
  · exact br_t h1 (br_t h1 ⟨rfl, cs_mk R⟩)
  by_cases h4 : v1 ≤ 7
  · refine br_f h1 (br_t h4 ?_)
    by_cases h0 : h = 0
    · subst h0
      exact br_t rfl (br_f h1 (br_t h4 (br_t rfl ⟨rfl, cs_mk R⟩)))
    · have n0 : ¬ nI h = 0 := cs_ne (b := 0) h0 (by omega) (by decide)
      obtain ⟨q, hq, e2⟩ := nI_of2 (M := 7) (n := 7) (by decide) h1 h4
      subst e2
      refine br_f n0 (nm_r (cs_s1 (by omega)) ⟨vp_in_nI (by omega) (by decide), vp_in_nI (by omega) (by decide), nm_r (e' := upd a_refuse q (a_termRefuse (h - 1))) (by rw [nI_clamp (by omega), nI_clamp (by omega)]) ?_⟩)
      refine cs_w_define (by omega) (by omega) ?_
      refine br_f h1 (br_t h4 (br_f n0 (nm_r (cs_s1 (by omega)) ⟨vp_in_nI (by omega) (by decide), vp_in_nI (by omega) (by decide), nm_r (e' := upd a_refuse q (a_termRefuse (h - 1))) (by rw [nI_clamp (by omega), nI_clamp (by omega)]) ?_⟩)))
      exact cs_y_define (by omega) (by omega) ⟨rfl, cs_mk (lg := 0) (e := e) (cs_RF_define R (by omega) q)⟩
  · exact br_f h1 (br_f h4 (br_f h1 (br_f h4 ⟨rfl, cs_mk R⟩)))
theorem i_vc_system {k : Nat} {u : SX} {v : SY} (I : i_Rel k u v) (hk : k + 4 ≤ 2048) (v1 : Int32) (v2 : Int32) (v3 : Int32) : wpX_system (fun r u' => wpY_system (fun r' v' => r' = r ∧ i_Rel (k + 4) u' v') v v1 v2 v3) u v1 v2 v3 := by
  refine cs_el (P := fun u v => wpX_system (fun r u' => wpY_system (fun r' v' => r' = r ∧ i_Rel (k + 4) u' v') v v1 v2 v3) u v1 v2 v3) ?_ I
  intro h l r s lg e f_paired f_nodes a_termRefuse a_termNext a_refuse a_next a_pairRefuse a_events a_layer a_spec a_code a_ways a_failures a_pair a_after a_pairs R
  by_cases h1 : v1 < 0
  · exact br_t h1 (br_t h1 ⟨rfl, cs_mk R⟩)
  by_cases h2 : 7 < v1
  · exact br_f h1 (br_t h2 (br_f h1 (br_t h2 ⟨rfl, cs_mk R⟩)))
  by_cases h3 : v2 < 0
  · exact br_f h1 (br_f h2 (br_t h3 (br_f h1 (br_f h2 (br_t h3 ⟨rfl, cs_mk R⟩)))))
  by_cases h4 : 7 < v2
  · exact br_f h1 (br_f h2 (br_f h3 (br_t h4 (br_f h1 (br_f h2 (br_f h3 (br_t h4 ⟨rfl, cs_mk R⟩)))))))
  by_cases h5 : v3 < 0
  · exact br_f h1 (br_f h2 (br_f h3 (br_f h4 (br_t h5 (br_f h1 (br_f h2 (br_f h3 (br_f h4 (br_t h5 ⟨rfl, cs_mk R⟩)))))))))
  by_cases h6 : v3 ≤ 7
  · obtain ⟨a, ha, e1⟩ := nI_of2 (M := 7) (n := 7) (by decide) h1 (Int32.not_lt.mp h2)
    obtain ⟨b, hb, e2⟩ := nI_of2 (M := 7) (n := 7) (by decide) h3 (Int32.not_lt.mp h4)
    obtain ⟨c, hc, e3⟩ := nI_of2 (M := 7) (n := 7) (by decide) h5 h6
    subst e1 e2 e3
    refine br_f h1 (br_f h2 (br_f h3 (br_f h4 (br_f h5 (br_t h6 ?_)))))
    unfold wpX_fresh
    refine nm_r (e' := vp_updL a_after 0 (cs_P0 a b)) rfl ?_
    exact br_f h1 (br_f h2 (br_f h3 (br_f h4 (br_f h5 (br_t h6 ⟨rfl, cs_mk (lg := 0) (e := e) (cs_RF_system R (by omega) (by omega) (by omega))⟩)))))
  · exact br_f h1 (br_f h2 (br_f h3 (br_f h4 (br_f h5 (br_f h6 (br_f h1 (br_f h2 (br_f h3 (br_f h4 (br_f h5 (br_f h6 ⟨rfl, cs_mk R⟩)))))))))))
end
section
/-! the owed statements: the log -/
section
variable {h l r s lg : Nat} {e : Nat → Nat} {pd : Int32} {tr tn rf nx prf ev : Nat → Int32} {af : Nat → Int64}
theorem cs_RF_feed (R : cs_RF h l r s lg e pd tr tn rf nx prf ev af) (hlg : lg < 4) {a : Nat} (ha : a < 3) : cs_RF h l r s (lg + 1) (fun i => if i = lg then a else e i) pd tr tn rf nx prf (upd ev lg (nI a)) (vp_updL af (lg + 1) (cs_Pc nx (nI s) (cs_P0 l r) (cs_qc e lg * 4 + a + 1))) ∧ cs_qc (fun i => if i = lg then a else e i) (lg + 1) = cs_qc e lg * 4 + a + 1 := by
  obtain ⟨r1, r2, r3, r4, r5, r6, r7, r8, r9, r10, r11, r12⟩ := R
  have en : ∀ i, i < lg → (if i = lg then a else e i) = e i := fun i hi => if_neg (by omega)
  have eq : ∀ i, i ≤ lg → cs_qc (fun i => if i = lg then a else e i) i = cs_qc e i := fun i hi => cs_qc_c i (fun j hj => en j (by omega))
  have el : cs_qc (fun i => if i = lg then a else e i) (lg + 1) = cs_qc e lg * 4 + a + 1 := by
    show cs_qc (fun i => if i = lg then a else e i) lg * 4 + (if lg = lg then a else e lg) + 1 = _
    rw [eq lg (Nat.le_refl _), if_pos rfl]
  refine ⟨⟨r1, r2, r3, r4, by omega, r6, r7, r8, r9, r10, ?_, ?_⟩, el⟩
  · intro i hi
    show (if i = lg then a else e i) < 3 ∧ upd ev lg (nI a) i = nI (if i = lg then a else e i)
    by_cases e1 : i = lg
    · subst e1; rw [if_pos rfl, pk_us]; exact ⟨ha, rfl⟩
    · rw [if_neg e1, pk_un e1]; exact r11 i (by omega)
  · intro i hi
    by_cases e1 : i = lg + 1
    · subst e1; rw [pk_uLs, el]
    · rw [pk_uLn e1, eq i (by omega)]; exact r12 i (by omega)
theorem cs_RF_undo (R : cs_RF h l r s lg e pd tr tn rf nx prf ev af) : cs_RF h l r s (lg - 1) e pd tr tn rf nx prf ev af := by
  obtain ⟨r1, r2, r3, r4, r5, r6, r7, r8, r9, r10, r11, r12⟩ := R
  exact ⟨r1, r2, r3, r4, by omega, r6, r7, r8, r9, r10, fun i hi => r11 i (by omega), fun i hi => r12 i (by omega)⟩
theorem cs_RF_pd (R : cs_RF h l r s lg e pd tr tn rf nx prf ev af) {pd' : Int32} {prf' : Nat → Int32} (hp : cs_Pd s rf pd' prf') : cs_RF h l r s lg e pd' tr tn rf nx prf' ev af := by
  obtain ⟨r1, r2, r3, r4, r5, r6, r7, r8, r9, r10, r11, r12⟩ := R
  exact ⟨r1, r2, r3, r4, r5, r6, r7, r8, r9, hp, r11, r12⟩
/-- the log's code -/
theorem cs_RF_log (R : cs_RF h l r s lg e pd tr tn rf nx prf ev af) : cs_isW (cs_qc e lg) = true ∧ cs_qc e lg < 256 ∧ cs_ln (cs_qc e lg) = lg ∧ (lg < 4 → cs_qc e lg < 64) ∧ (lg = 4 → 64 ≤ cs_qc e lg) ∧ af lg = cs_Pc nx (nI s) (cs_P0 l r) (cs_qc e lg) := by
  obtain ⟨r1, r2, r3, r4, r5, r6, r7, r8, r9, r10, r11, r12⟩ := R
  obtain ⟨h1, h2, h3⟩ := cs_qc_w (e := e) lg r5 (fun j hj => (r11 j hj).1)
  have h4 : 4 ^ lg ≤ 4 ^ 4 := Nat.pow_le_pow_right (by decide) r5
  refine ⟨h1, Nat.lt_of_lt_of_le h2 h4, h3, ?_, ?_, r12 lg (Nat.le_refl _)⟩
  · intro z
    have h5 : 4 ^ lg ≤ 4 ^ 3 := Nat.pow_le_pow_right (by decide) (by omega)
    exact Nat.lt_of_lt_of_le h2 h5
  · intro z
    rcases Nat.lt_or_ge (cs_qc e lg) 64 with y | y
    · exfalso
      rw [z] at h3
      rw [z] at y
      unfold cs_ln at h3
      split at h3
      · omega
      · split at h3
        · omega
        · split at h3
          · omega
          · omega
    · exact y
end
theorem i_vc_feed {k : Nat} {u : SX} {v : SY} (I : i_Rel k u v) (hk : k + 4 ≤ 2048) (v1 : Int32) : wpX_feed (fun r u' => wpY_feed (fun r' v' => r' = r ∧ i_Rel (k + 4) u' v') v v1) u v1 := by
  refine cs_el (P := fun u v => wpX_feed (fun r u' => wpY_feed (fun r' v' => r' = r ∧ i_Rel (k + 4) u' v') v v1) u v1) ?_ I
  intro h l r s lg e f_paired f_nodes a_termRefuse a_termNext a_refuse a_next a_pairRefuse a_events a_layer a_spec a_code a_ways a_failures a_pair a_after a_pairs R
  obtain ⟨g1, g2, g3, g4, g5, g6⟩ := cs_RF_log R
  have R' := R
  obtain ⟨r1, r2, r3, r4, r5, r6, r7, r8, r9, r10, r11, r12⟩ := R'
  by_cases h1 : v1 < 0
  · exact br_t h1 (br_t h1 ⟨rfl, cs_mk R⟩)
  by_cases h4 : v1 ≤ 2
  · refine br_f h1 (br_t h4 ?_)
    by_cases h0 : lg = 4
    · subst h0
      exact br_t rfl (br_f h1 (br_t h4 (br_f (nI_nlt (b := 64) (g5 rfl) (by omega)) ⟨rfl, cs_mk R⟩)))
    · have n0 : ¬ nI lg = 4 := cs_ne (b := 4) h0 (by omega) (by decide)
      have h64 := g4 (by omega)
      obtain ⟨a, ha, e1⟩ := nI_of2 (M := 2) (n := 2) (by decide) h1 h4
      subst e1
      have hw := cs_T1 _ h64 g1 a (by omega)
      have ec : cs_step a_next (nI s) (a_after lg) a = cs_Pc a_next (nI s) (cs_P0 l r) (cs_qc e lg * 4 + a + 1) := by rw [g6, cs_Pc_s _ _ _ _ h64 g1 a (by omega)]
      refine br_f n0 ⟨vp_in_nI (by omega) (by decide), ?_⟩
      rw [nI_clamp (show lg < 2 ^ 31 by omega)]
      refine cs_w_step _ (by omega) ?_
      rw [ec]
      by_cases hz : cs_Pc a_next (nI s) (cs_P0 l r) (cs_qc e lg * 4 + a + 1) = 0
      · refine br_t hz (br_f h1 (br_t h4 (br_t (nI_lt (b := 64) h64 (by decide)) (cs_y_list r2 r3 r7 ?_))))
        intro fl pr hfl hpr
        refine ⟨by rw [cs_m41]; exact vp_in_nI (by omega) (by decide), br_t ?_ ⟨rfl, cs_mk R⟩⟩
        rw [cs_m41, nI_clamp (by omega), hpr _ (by omega), cs_Pt_w hw.1, cs_Rf_0 r4 r9]
        exact hz
      · obtain ⟨f1, f2⟩ := cs_RF_feed R (by omega) (a := a) (by omega)
        refine br_f hz ⟨vp_in_nI (by omega) (by decide), nm_e (nm_r (nI_1 lg) ⟨vp_in_nI (by omega) (by decide), nm_r (e' := vp_updL a_after (lg + 1) (cs_Pc a_next (nI s) (cs_P0 l r) (cs_qc e lg * 4 + a + 1))) (by rw [nI_clamp (by omega)]) ?_⟩)⟩
        refine br_f h1 (br_t h4 (br_t (nI_lt (b := 64) h64 (by decide)) (cs_y_list r2 r3 r7 ?_)))
        intro fl pr hfl hpr
        refine ⟨by rw [cs_m41]; exact vp_in_nI (by omega) (by decide), br_f ?_ (nm_r (cs_m41 _ _) ?_)⟩
        · rw [cs_m41, nI_clamp (by omega), hpr _ (by omega), cs_Pt_w hw.1, cs_Rf_0 r4 r9]
          exact hz
        · refine cs_y_len (by omega) ⟨by rw [hw.2.2, g3], ?_⟩
          have K := cs_mk (k := k + 4) (f_nodes := f_nodes) (a_layer := a_layer) (a_spec := a_spec) (a_code := a_code) (a_ways := a_ways) (a_failures := fl) (a_pair := pr) (a_pairs := a_pairs) f1
          rw [f2] at K
          exact K
  · exact br_f h1 (br_f h4 (br_f h1 (br_f h4 ⟨rfl, cs_mk R⟩)))
theorem i_vc_undo {k : Nat} {u : SX} {v : SY} (I : i_Rel k u v) (hk : k + 4 ≤ 2048) : wpX_undo (fun r u' => wpY_undo (fun r' v' => r' = r ∧ i_Rel (k + 4) u' v') v) u := by
  refine cs_el (P := fun u v => wpX_undo (fun r u' => wpY_undo (fun r' v' => r' = r ∧ i_Rel (k + 4) u' v') v) u) ?_ I
  intro h l r s lg e f_paired f_nodes a_termRefuse a_termNext a_refuse a_next a_pairRefuse a_events a_layer a_spec a_code a_ways a_failures a_pair a_after a_pairs R
  obtain ⟨g1, g2, g3, g4, g5, g6⟩ := cs_RF_log R
  have R' := R
  obtain ⟨r1, r2, r3, r4, r5, r6, r7, r8, r9, r10, r11, r12⟩ := R'
  by_cases h0 : lg = 0
  · subst h0
    exact br_t rfl (br_t rfl ⟨rfl, cs_mk R⟩)
  · obtain ⟨i, rfl⟩ : ∃ i, lg = i + 1 := ⟨lg - 1, by omega⟩
    have hq : cs_qc e (i + 1) = cs_qc e i * 4 + e i + 1 := rfl
    obtain ⟨q1, q2⟩ := r11 i (by omega)
    have R2 : cs_RF h l r s i e f_paired a_termRefuse a_termNext a_refuse a_next a_pairRefuse a_events a_after := cs_RF_undo R
    have n1 : ¬ nI (i + 1) = 0 := cs_ne (b := 0) (by omega) (by omega) (by decide)
    have n2 : ¬ nI (cs_qc e (i + 1)) = 0 := cs_ne (b := 0) (by omega) (by omega) (by decide)
    have ea : nI (cs_qc e (i + 1)) &&& 3 = nI (e i + 1) := by
      rw [pk_andN (by omega) 2 (by decide), show cs_qc e (i + 1) % 2 ^ 2 = e i + 1 by omega]
    have es : nI (cs_qc e (i + 1)) >>> ((2 : Int32) &&& 31) = nI (cs_qc e i) := by
      rw [pk_shrN (by omega) _ 2 (by decide), show cs_qc e (i + 1) / 2 ^ 2 = cs_qc e i by omega]
    refine br_f n1 (nm_r (nI_pred i) ⟨vp_in_nI (by omega) (by decide), ?_⟩)
    rw [nI_clamp (show i < 2 ^ 31 by omega), q2]
    exact br_f n2 (nm_r (e' := nI (e i)) (by rw [ea, nI_pred]) (nm_r es ⟨rfl, cs_mk R2⟩))
theorem i_vc_log {k : Nat} {u : SX} {v : SY} (I : i_Rel k u v) (hk : k + 4 ≤ 2048) : wpX_log (fun r => wpY_log (fun r' => r' = r ∧ i_Rel (k + 4) u v) v) u := by
  refine cs_el (P := fun u v => wpX_log (fun r => wpY_log (fun r' => r' = r ∧ i_Rel (k + 4) u v) v) u) ?_ I
  intro h l r s lg e f_paired f_nodes a_termRefuse a_termNext a_refuse a_next a_pairRefuse a_events a_layer a_spec a_code a_ways a_failures a_pair a_after a_pairs R
  have R' := R
  obtain ⟨r1, r2, r3, r4, r5, r6, r7, r8, r9, r10, r11, r12⟩ := R'
  refine cs_lp (fun n t i => wX_log_4 (fun z => wpY_log (fun r' => r' = z ∧ i_Rel (k + 4) (nI h, nI l, nI r, nI s, f_paired, nI lg, f_nodes, a_termRefuse, a_termNext, a_refuse, a_next, a_pairRefuse, a_events, a_after, a_layer, a_pairs, a_spec, a_code, a_ways) (nI h, nI l, nI r, nI s, nI (cs_qc e lg), a_termRefuse, a_termNext, a_refuse, a_next, a_failures, a_pair)) (nI h, nI l, nI r, nI s, nI (cs_qc e lg), a_termRefuse, a_termNext, a_refuse, a_next, a_failures, a_pair)) (nI h) (nI l) (nI r) (nI s) f_paired (nI lg) f_nodes a_termRefuse a_termNext a_refuse a_next a_pairRefuse a_events a_after a_layer a_pairs a_spec a_code a_ways n t i) (fun i t => t = nI (cs_qc e i)) lg ?_ ?_ 0 rfl
  · intro n t et
    subst et
    exact br_t (nI_le (Nat.le_refl _) (by omega)) ⟨rfl, cs_mk R⟩
  · intro n i t hi et H
    obtain ⟨q1, q2⟩ := r11 i hi
    refine br_f (nI_ge hi (by omega)) ⟨vp_in_nI (by omega) (by decide), nm_r (e' := nI (cs_qc e (i + 1))) ?_ (nm_r (nI_1 i) (H _ rfl))⟩
    rw [et, nI_clamp (by omega), q2, cs_m41]
    rfl
theorem cs_offa (c : Nat → Bool) : ∀ a, a < 3 → cs_os c (fun a => (1 : Int32) <<< (nI a &&& 31)) 0 a + ((1 : Int32) <<< (nI a &&& 31)) = cs_os c (fun a => (1 : Int32) <<< (nI a &&& 31)) 0 a ||| ((1 : Int32) <<< (nI a &&& 31)) := by
  intro a ha
  have h3 : a = 0 ∨ a = 1 ∨ a = 2 := by omega
  rcases h3 with e | e | e
  · subst e
    show (0 : Int32) + _ = 0 ||| _
    decide +kernel
  · subst e
    show (bif c 0 then (0 : Int32) ||| _ else 0) + _ = (bif c 0 then (0 : Int32) ||| _ else 0) ||| _
    cases c 0 <;> decide +kernel
  · subst e
    show (bif c 1 then (bif c 0 then (0 : Int32) ||| _ else 0) ||| _ else (bif c 0 then (0 : Int32) ||| _ else 0)) + _ = (bif c 1 then (bif c 0 then (0 : Int32) ||| _ else 0) ||| _ else (bif c 0 then (0 : Int32) ||| _ else 0)) ||| _
    cases c 0 <;> cases c 1 <;> decide +kernel
theorem i_vc_offers {k : Nat} {u : SX} {v : SY} (I : i_Rel k u v) (hk : k + 4 ≤ 2048) : wpX_offers (fun r => wpY_offers (fun r' v' => r' = r ∧ i_Rel (k + 4) u v') v) u := by
  refine cs_el (P := fun u v => wpX_offers (fun r => wpY_offers (fun r' v' => r' = r ∧ i_Rel (k + 4) u v') v) u) ?_ I
  intro h l r s lg e f_paired f_nodes a_termRefuse a_termNext a_refuse a_next a_pairRefuse a_events a_layer a_spec a_code a_ways a_failures a_pair a_after a_pairs R
  obtain ⟨g1, g2, g3, g4, g5, g6⟩ := cs_RF_log R
  have R' := R
  obtain ⟨r1, r2, r3, r4, r5, r6, r7, r8, r9, r10, r11, r12⟩ := R'
  by_cases h0 : lg = 4
  · subst h0
    exact br_t rfl (br_f (nI_nlt (b := 64) (g5 rfl) (by omega)) ⟨rfl, cs_mk R⟩)
  · have n0 : ¬ nI lg = 4 := cs_ne (b := 4) h0 (by omega) (by decide)
    have h64 := g4 (by omega)
    refine br_f n0 ?_
    refine cs_lo (fun n t i => wX_offers_14 (fun z => wpY_offers (fun r' v' => r' = z ∧ i_Rel (k + 4) (nI h, nI l, nI r, nI s, f_paired, nI lg, f_nodes, a_termRefuse, a_termNext, a_refuse, a_next, a_pairRefuse, a_events, a_after, a_layer, a_pairs, a_spec, a_code, a_ways) v') (nI h, nI l, nI r, nI s, nI (cs_qc e lg), a_termRefuse, a_termNext, a_refuse, a_next, a_failures, a_pair)) (nI h) (nI l) (nI r) (nI s) f_paired (nI lg) f_nodes a_termRefuse a_termNext a_refuse a_next a_pairRefuse a_events a_after a_layer a_pairs a_spec a_code a_ways n t i) (fun t => t = cs_os (fun a => !decide (cs_step a_next (nI s) (a_after lg) a = 0)) (fun a => (1 : Int32) <<< (nI a &&& 31)) 0 3) (fun a => !decide (cs_step a_next (nI s) (a_after lg) a = 0)) (fun a => (1 : Int32) <<< (nI a &&& 31)) 3 ?_ ?_ ?_ 0 rfl
    · intro n t et
      refine br_t (by decide) (br_t (nI_lt (b := 64) h64 (by decide)) (cs_y_list r2 r3 r7 ?_))
      intro fl pr hfl hpr
      refine cs_lp (fun n t' i => wY_offers_19 (fun r' v' => r' = t ∧ i_Rel (k + 4) (nI h, nI l, nI r, nI s, f_paired, nI lg, f_nodes, a_termRefuse, a_termNext, a_refuse, a_next, a_pairRefuse, a_events, a_after, a_layer, a_pairs, a_spec, a_code, a_ways) v') (nI h) (nI l) (nI r) (nI s) (nI (cs_qc e lg)) a_termRefuse a_termNext a_refuse a_next fl pr n t' i) (fun a t' => t' = cs_os (fun a => !decide (cs_step a_next (nI s) (a_after lg) a = 0)) (fun a => (1 : Int32) <<< (nI a &&& 31)) 0 a) 3 ?_ ?_ 0 rfl
      · intro n t' et'
        exact br_t (by decide) ⟨by rw [et, et'], cs_mk R⟩
      · intro n a t' ha et' H
        have hw := cs_T1 _ h64 g1 a (by omega)
        have ec : cs_step a_next (nI s) (a_after lg) a = cs_Pc a_next (nI s) (cs_P0 l r) (cs_qc e lg * 4 + a + 1) := by rw [g6, cs_Pc_s _ _ _ _ h64 g1 a (by omega)]
        have ep : pr ((nI (cs_qc e lg) * 4 + nI a) + 1).toNatClampNeg = 0 ↔ cs_step a_next (nI s) (a_after lg) a = 0 := by
          rw [cs_m41, nI_clamp (by omega), hpr _ (by omega), cs_Pt_w hw.1, cs_Rf_0 r4 r9, ec]
        refine br_f (cs_3 ha) ⟨by rw [cs_m41]; exact vp_in_nI (by omega) (by decide), ?_⟩
        by_cases hz : cs_step a_next (nI s) (a_after lg) a = 0
        · refine br_t (ep.mpr hz) (nm_r (nI_1 a) (H _ ?_))
          rw [et']
          show _ = (bif !decide (cs_step a_next (nI s) (a_after lg) a = 0) then _ else _)
          rw [decide_eq_true hz]; rfl
        · refine br_f (fun z => hz (ep.mp z)) (nm_r (by rw [et', cs_offa _ a ha]) (nm_r (nI_1 a) (H _ ?_)))
          show _ = (bif !decide (cs_step a_next (nI s) (a_after lg) a = 0) then _ else _)
          rw [decide_eq_false hz]; rfl
    · intro n a t ha hc hw
      have hc' : (!decide (cs_step a_next (nI s) (a_after lg) a = 0)) = true := hc
      refine br_f (cs_3 ha) ⟨vp_in_nI (by omega) (by decide), ?_⟩
      rw [nI_clamp (show lg < 2 ^ 31 by omega)]
      exact cs_w_step _ ha (br_f (by simpa using hc') (nm_e (nm_r (nI_1 a) hw)))
    · intro n a t ha hc hw
      have hc' : (!decide (cs_step a_next (nI s) (a_after lg) a = 0)) = false := hc
      refine br_f (cs_3 ha) ⟨vp_in_nI (by omega) (by decide), ?_⟩
      rw [nI_clamp (show lg < 2 ^ 31 by omega)]
      exact cs_w_step _ ha (br_t (by simpa using hc') (nm_r (nI_1 a) hw))
theorem i_vc_refuses {k : Nat} {u : SX} {v : SY} (I : i_Rel k u v) (hk : k + 4 ≤ 2048) (v1 : Int32) : wpX_refuses (fun r u' => wpY_refuses (fun r' v' => r' = r ∧ i_Rel (k + 4) u' v') v v1) u v1 := by
  refine cs_el (P := fun u v => wpX_refuses (fun r u' => wpY_refuses (fun r' v' => r' = r ∧ i_Rel (k + 4) u' v') v v1) u v1) ?_ I
  intro h l r s lg e f_paired f_nodes a_termRefuse a_termNext a_refuse a_next a_pairRefuse a_events a_layer a_spec a_code a_ways a_failures a_pair a_after a_pairs R
  obtain ⟨g1, g2, g3, g4, g5, g6⟩ := cs_RF_log R
  have R' := R
  obtain ⟨r1, r2, r3, r4, r5, r6, r7, r8, r9, r10, r11, r12⟩ := R'
  by_cases h1 : v1 < 0
  · exact br_t h1 (br_t h1 ⟨rfl, cs_mk R⟩)
  by_cases h4 : v1 ≤ 7
  · obtain ⟨q, hq, e1⟩ := nI_of2 (M := 7) (n := 7) (by decide) h1 h4
    subst e1
    refine br_f h1 (br_t h4 ⟨vp_in_nI (by omega) (by decide), ?_⟩)
    rw [nI_clamp (show lg < 2 ^ 31 by omega)]
    refine cs_w_refusals r4 r10 _ ?_
    intro prf hp
    rw [g6]
    have R2 := cs_RF_pd R (pd' := 1) (prf' := prf) (Or.inr ⟨rfl, hp⟩)
    cases hb : bt (cs_Rf s a_refuse (cs_Pc a_next (nI s) (cs_P0 l r) (cs_qc e lg))) q
    · refine br_f (cs_t1n (by omega) hb) (br_f h1 (br_t h4 (cs_y_list r2 r3 r7 ?_)))
      intro fl pr hfl hpr
      refine ⟨vp_in_nI g2 (by decide), ?_⟩
      rw [nI_clamp (by omega), hpr _ g2, cs_Pt_w g1]
      exact br_f (cs_t1n (by omega) hb) ⟨rfl, cs_mk R2⟩
    · refine br_t ((cs_t1 (by omega)).mpr hb) (br_f h1 (br_t h4 (cs_y_list r2 r3 r7 ?_)))
      intro fl pr hfl hpr
      refine ⟨vp_in_nI g2 (by decide), ?_⟩
      rw [nI_clamp (by omega), hpr _ g2, cs_Pt_w g1]
      exact br_t ((cs_t1 (by omega)).mpr hb) ⟨rfl, cs_mk R2⟩
  · exact br_f h1 (br_f h4 (br_f h1 (br_f h4 ⟨rfl, cs_mk R⟩)))
end
section
/-! the owed statements: traces, gaps, deadlock, unsure -/
theorem cs_leastbit {x : Int32} (h8 : cs_B8 x) (hz : ¬ x = 0) : ∃ i, i < 8 ∧ bt x i = true ∧ ∀ j, j < i → bt x j = false := by
  obtain ⟨i, hi, hb⟩ := cs_nz32 hz
  obtain ⟨m, hm, hl⟩ := pk_least (fun i => bt x i = true) ⟨i, hb⟩
  refine ⟨m, ?_, hm, fun j hj => cs_nt (hl j hj)⟩
  rcases Nat.lt_or_ge m 8 with z | z
  · exact z
  · have hm' : bt x m = true := hm
    rw [h8 m z] at hm'
    exact absurd hm' (by decide)
theorem cs_nm4 {c : Nat} (hc : c < 256) : ¬ nI c = -4 := fun z => by
  have h : (0 : Int32) ≤ nI c := nI_pos' (by omega)
  rw [z] at h
  exact absurd h (by decide)
section
variable {f_height f_left f_right f_shared f_paired f_logged f_nodes : Int32} {a_termRefuse a_termNext a_refuse a_next a_pairRefuse a_events a_layer a_spec a_code a_ways : Nat → Int32} {a_after a_pairs : Nat → Int64}
theorem cs_w_gr {post : Int32 → SX → Prop} {x : Int32} {m : Nat} (h0 : m < 8) (hb : bt x m = true) (hn : ∀ i, i < m → bt x i = false) (hp : post (nI m) (f_height, f_left, f_right, f_shared, f_paired, f_logged, f_nodes, a_termRefuse, a_termNext, a_refuse, a_next, a_pairRefuse, a_events, a_after, a_layer, a_pairs, a_spec, a_code, a_ways)) : ∃ n35 : Nat, wX_gapRefusal_35 post x f_height f_left f_right f_shared f_paired f_logged f_nodes a_termRefuse a_termNext a_refuse a_next a_pairRefuse a_events a_after a_layer a_pairs a_spec a_code a_ways n35 0 := by
  have H : ∀ d i, i + d = m → wX_gapRefusal_35 post x f_height f_left f_right f_shared f_paired f_logged f_nodes a_termRefuse a_termNext a_refuse a_next a_pairRefuse a_events a_after a_layer a_pairs a_spec a_code a_ways (d + 1) (nI i) := by
    intro d
    induction d with
    | zero =>
      intro i hi
      obtain rfl : i = m := by omega
      exact br_f (cs_8 h0) (br_t ((cs_t1 (by omega)).mpr hb) hp)
    | succ d ih =>
      intro i hi
      exact br_f (cs_8 (by omega)) (br_f (cs_t1n (by omega) (hn i (by omega))) (nm_r (nI_1 i) (ih (i + 1) (by omega))))
  exact ⟨m + 1, H m 0 (by omega)⟩
theorem cs_w_refined {post : Int32 → SX → Prop} {kind s l r : Nat} (hkd : kind < 2) (hs : s < 8) (hl : l < 8) (hr : r < 8) (hnx : ∀ i, cs_B8 (a_next i)) (hpd : cs_Pd s a_refuse f_paired a_pairRefuse)
    (h : ∀ nd la pa sp co wy pd prf, cs_Pd s a_refuse pd prf → post (cs_ct (fun k => cs_bo (∀ c, c < 256 → ¬ cs_Qg a_next a_refuse s l r kind k c)) 8) (f_height, nI l, nI r, nI s, pd, f_logged, nd, a_termRefuse, a_termNext, a_refuse, a_next, prf, a_events, a_after, la, pa, sp, co, wy)) :
    ∃ n15 : Nat, wX_refined_15 post (nI kind) n15 0 0 f_height (nI l) (nI r) (nI s) f_paired f_logged f_nodes a_termRefuse a_termNext a_refuse a_next a_pairRefuse a_events a_after a_layer a_pairs a_spec a_code a_ways := by
  have H : ∀ d k nd la pa sp co wy pd prf, k + d = 8 → cs_Pd s a_refuse pd prf → wX_refined_15 post (nI kind) (d + 1) (cs_ct (fun k => cs_bo (∀ c, c < 256 → ¬ cs_Qg a_next a_refuse s l r kind k c)) k) (nI k) f_height (nI l) (nI r) (nI s) pd f_logged nd a_termRefuse a_termNext a_refuse a_next prf a_events a_after la pa sp co wy := by
    intro d
    induction d with
    | zero =>
      intro k nd la pa sp co wy pd prf hd hp
      obtain rfl : k = 8 := by omega
      exact br_t (by decide) (h nd la pa sp co wy pd prf hp)
    | succ d ih =>
      intro k nd la pa sp co wy pd prf hd hp
      refine br_f (cs_8 (by omega)) (cs_w_gapNode (by omega) hkd hs hl hr hnx hp ?_ ?_)
      · intro n c nd' la' pa' sp' co' wy' pd' prf' hn hp' _ _ _ hL
        have K := ih (k + 1) nd' la' pa' sp' co' wy' pd' prf' (by omega) hp'
        rw [cs_ct_f (cs_bo_f fun z => z c hL.1 hL.2.1)] at K
        exact br_t (nI_pos' (by omega)) (nm_r (nI_1 k) K)
      · intro nd' la' pa' sp' co' wy' pd' prf' hp' hno
        have K := ih (k + 1) nd' la' pa' sp' co' wy' pd' prf' (by omega) hp'
        rw [cs_ct_t (cs_bo_t hno)] at K
        exact br_f (by decide) (nm_e (nm_r (nI_1 k) K))
  exact ⟨9, H 8 0 f_nodes a_layer a_pairs a_spec a_code a_ways f_paired a_pairRefuse (by omega) hpd⟩
end
section
variable {f_depth f_i f_j f_shared f_log : Int32} {a_termFirst a_termNext a_first a_next a_failures a_pair : Nat → Int32}
theorem cs_y_gr {post : Int32 → SY → Prop} {k c m : Nat} (hk : k < 8) (hc : c < 256) {x : Int32} (hx : (a_pair c &&& (a_failures (k * 256 + c) ^^^ (-1))) = x) (h0 : m < 8) (hb : bt x m = true) (hn : ∀ i, i < m → bt x i = false) (hp : post (nI m) (f_depth, f_i, f_j, f_shared, f_log, a_termFirst, a_termNext, a_first, a_next, a_failures, a_pair)) : ∃ n32 : Nat, wY_gapRefusal_32 post (nI k) (nI c) f_depth f_i f_j f_shared f_log a_termFirst a_termNext a_first a_next a_failures a_pair n32 0 := by
  have v1 : vp_in (nI c) 256 := vp_in_nI hc (by decide)
  have v2 : vp_in (nI k * 256 + nI c) 2048 := by rw [cs_m256]; exact vp_in_nI (by omega) (by decide)
  have ex : (a_pair (nI c).toNatClampNeg &&& (a_failures (nI k * 256 + nI c).toNatClampNeg ^^^ (-1))) = x := by rw [cs_m256, nI_clamp (by omega), nI_clamp (by omega)]; exact hx
  have H : ∀ d i, i + d = m → wY_gapRefusal_32 post (nI k) (nI c) f_depth f_i f_j f_shared f_log a_termFirst a_termNext a_first a_next a_failures a_pair (d + 1) (nI i) := by
    intro d
    induction d with
    | zero =>
      intro i hi
      obtain rfl : i = m := by omega
      by_cases e : i = 7
      · subst e
        exact br_t (by decide) hp
      · refine br_f (nI_ge (b := 7) (by omega) (by decide)) ⟨v1, v2, br_f ?_ hp⟩
        rw [ex, cs_t0 (by omega), hb]
        decide
    | succ d ih =>
      intro i hi
      refine br_f (nI_ge (b := 7) (by omega) (by decide)) ⟨v1, v2, br_t ?_ (nm_r (nI_1 i) (ih (i + 1) (by omega)))⟩
      rw [ex, cs_t0 (by omega)]
      exact hn i (by omega)
  exact ⟨m + 1, H m 0 (by omega)⟩
theorem cs_y_refined {post : Int32 → SY → Prop} {kind s l r : Nat} (hkd : kind < 2) (hs : s < 8) (hnx : ∀ i, cs_B8 (a_next i)) (hrf : ∀ k, k < 8 → bt (a_first k) 0 = true) (hfl : ∀ k c, k < 8 → c < 256 → a_failures (k * 256 + c) = cs_Ft a_next a_first k c) (hpr : ∀ c, c < 256 → a_pair c = cs_Pt a_next a_first s l r c) (hp : post (cs_ct (fun k => cs_bo (∀ c, c < 256 → ¬ cs_Qg a_next a_first s l r kind k c)) 8) (f_depth, f_i, f_j, f_shared, f_log, a_termFirst, a_termNext, a_first, a_next, a_failures, a_pair)) : ∃ n19 : Nat, wY_refined_19 post (nI kind) f_depth f_i f_j f_shared f_log a_termFirst a_termNext a_first a_next a_failures a_pair n19 0 0 := by
  refine cs_lp (fun n t i => wY_refined_19 post (nI kind) f_depth f_i f_j f_shared f_log a_termFirst a_termNext a_first a_next a_failures a_pair n t i) (fun k t => t = cs_ct (fun k => cs_bo (∀ c, c < 256 → ¬ cs_Qg a_next a_first s l r kind k c)) k) 8 ?_ ?_ 0 rfl
  · intro n t e
    subst e
    exact br_t (by decide) hp
  · intro n k t hk e H
    subst e
    refine br_f (cs_8 hk) (cs_y_firstGap hk hkd hs hnx hrf hfl hpr ?_ ?_)
    · intro c hL
      exact br_f (cs_nm4 hL.1) (nm_r (nI_1 k) (H _ (cs_ct_f (cs_bo_f fun z => z c hL.1 hL.2.1)).symm))
    · intro hno
      exact br_t rfl (nm_e (nm_r (nI_1 k) (H _ (cs_ct_t (cs_bo_t hno)).symm)))
end
theorem i_vc_traces {k : Nat} {u : SX} {v : SY} (I : i_Rel k u v) (hk : k + 4 ≤ 2048) (v1 : Int32) : wpX_traces (fun r u' => wpY_traces (fun r' v' => r' = r ∧ i_Rel (k + 4) u' v') v v1) u v1 := by
  refine cs_el (P := fun u v => wpX_traces (fun r u' => wpY_traces (fun r' v' => r' = r ∧ i_Rel (k + 4) u' v') v v1) u v1) ?_ I
  intro h l r s lg e f_paired f_nodes a_termRefuse a_termNext a_refuse a_next a_pairRefuse a_events a_layer a_spec a_code a_ways a_failures a_pair a_after a_pairs R
  have R' := R
  obtain ⟨r1, r2, r3, r4, r5, r6, r7, r8, r9, r10, r11, r12⟩ := R'
  by_cases h1 : v1 < 0
  · exact br_t h1 (br_t h1 ⟨rfl, cs_mk R⟩)
  by_cases h4 : v1 ≤ 4
  · obtain ⟨q, hq, e1⟩ := nI_of2 (M := 4) (n := 4) (by decide) h1 h4
    subst e1
    refine br_f h1 (br_t h4 (cs_w_traces (by omega) r2 r3 r7 ?_))
    intro nd la pa sp co wy
    refine br_f h1 (br_t h4 (cs_y_list r2 r3 r7 ?_))
    intro fl pr hfl hpr
    exact cs_y_traces (by omega) r4 r9 hpr ⟨rfl, cs_mk R⟩
  · exact br_f h1 (br_f h4 (br_f h1 (br_f h4 ⟨rfl, cs_mk R⟩)))
theorem i_vc_gap {k : Nat} {u : SX} {v : SY} (I : i_Rel k u v) (hk : k + 4 ≤ 2048) (v1 : Int32) (v2 : Int32) : wpX_gap (fun r u' => wpY_gap (fun r' v' => r' = r ∧ i_Rel (k + 4) u' v') v v1 v2) u v1 v2 := by
  refine cs_el (P := fun u v => wpX_gap (fun r u' => wpY_gap (fun r' v' => r' = r ∧ i_Rel (k + 4) u' v') v v1 v2) u v1 v2) ?_ I
  intro h l r s lg e f_paired f_nodes a_termRefuse a_termNext a_refuse a_next a_pairRefuse a_events a_layer a_spec a_code a_ways a_failures a_pair a_after a_pairs R
  have R' := R
  obtain ⟨r1, r2, r3, r4, r5, r6, r7, r8, r9, r10, r11, r12⟩ := R'
  by_cases h1 : v1 < 0
  · exact br_t h1 (br_t h1 ⟨rfl, cs_mk R⟩)
  by_cases h2 : 7 < v1
  · exact br_f h1 (br_t h2 (br_f h1 (br_t h2 ⟨rfl, cs_mk R⟩)))
  by_cases h3 : v2 < 0
  · exact br_f h1 (br_f h2 (br_t h3 (br_f h1 (br_f h2 (br_t h3 ⟨rfl, cs_mk R⟩)))))
  by_cases h4 : v2 ≤ 1
  · obtain ⟨q, hq, e1⟩ := nI_of2 (M := 7) (n := 7) (by decide) h1 (Int32.not_lt.mp h2)
    obtain ⟨kd, hkd, e2⟩ := nI_of2 (M := 1) (n := 1) (by decide) h3 h4
    subst e1 e2
    refine br_f h1 (br_f h2 (br_f h3 (br_t h4 (cs_w_gapNode (by omega) (by omega) r4 r2 r3 r7 r10 ?_ ?_))))
    · intro n c nd la pa sp co wy pd prf hn hp c1 c2 c3 hL
      refine br_t (nI_pos' (by omega)) ⟨vp_in_nI hn (by decide), ?_⟩
      rw [nI_clamp (show n < 2 ^ 31 by omega), c1]
      refine br_f h1 (br_f h2 (br_f h3 (br_t h4 (cs_y_list r2 r3 r7 ?_))))
      intro fl pr hfl hpr
      refine cs_y_firstGap (by omega) (by omega) r4 r7 r9 hfl hpr ?_ ?_
      · intro c' hL'
        exact ⟨by rw [cs_Ls_u hL' hL], cs_mk (cs_RF_pd R hp)⟩
      · intro hno
        exact absurd hL.2.1 (hno c hL.1)
    · intro nd la pa sp co wy pd prf hp hno
      refine br_f (by decide) (br_f h1 (br_f h2 (br_f h3 (br_t h4 (cs_y_list r2 r3 r7 ?_)))))
      intro fl pr hfl hpr
      refine cs_y_firstGap (by omega) (by omega) r4 r7 r9 hfl hpr ?_ ?_
      · intro c hL
        exact absurd hL.2.1 (hno c hL.1)
      · intro _
        exact ⟨rfl, cs_mk (cs_RF_pd R hp)⟩
  · exact br_f h1 (br_f h2 (br_f h3 (br_f h4 (br_f h1 (br_f h2 (br_f h3 (br_f h4 ⟨rfl, cs_mk R⟩)))))))
theorem i_vc_gapRefusal {k : Nat} {u : SX} {v : SY} (I : i_Rel k u v) (hk : k + 4 ≤ 2048) (v1 : Int32) : wpX_gapRefusal (fun r u' => wpY_gapRefusal (fun r' v' => r' = r ∧ i_Rel (k + 4) u' v') v v1) u v1 := by
  refine cs_el (P := fun u v => wpX_gapRefusal (fun r u' => wpY_gapRefusal (fun r' v' => r' = r ∧ i_Rel (k + 4) u' v') v v1) u v1) ?_ I
  intro h l r s lg e f_paired f_nodes a_termRefuse a_termNext a_refuse a_next a_pairRefuse a_events a_layer a_spec a_code a_ways a_failures a_pair a_after a_pairs R
  have R' := R
  obtain ⟨r1, r2, r3, r4, r5, r6, r7, r8, r9, r10, r11, r12⟩ := R'
  by_cases h1 : v1 < 0
  · exact br_t h1 (br_t h1 ⟨rfl, cs_mk R⟩)
  by_cases h4 : v1 ≤ 7
  · obtain ⟨q, hq, e1⟩ := nI_of2 (M := 7) (n := 7) (by decide) h1 h4
    subst e1
    have hq8 : q < 8 := by omega
    refine br_f h1 (br_t h4 (cs_w_gapNode (kind := 1) hq8 (by decide) r4 r2 r3 r7 r10 ?_ ?_))
    · intro n c nd la pa sp co wy pd prf hn hp c1 c2 c3 hL
      refine br_t (nI_pos' (by omega)) (cs_w_excess r4 hp hn ?_)
      intro prf' hp'
      have hx := (cs_gap1 r4 hq8 r9).mp hL.2.1
      rw [cs_Pt_w hL.2.1.1, cs_Ft_w hq8 hL.2.1.1] at hx
      have R2 := cs_RF_pd R (pd' := 1) (prf' := prf') (Or.inr ⟨rfl, hp'⟩)
      rw [c2, c3]
      obtain ⟨m, m1, m2, m3⟩ := cs_leastbit (cs_B8_and (cs_Rf_B8 _ _ _)) hx
      refine cs_w_gr m1 m2 m3 ?_
      refine br_f h1 (br_t h4 (cs_y_list r2 r3 r7 ?_))
      intro fl pr hfl hpr
      refine cs_y_firstGap (kind := 1) hq8 (by decide) r4 r7 r9 hfl hpr ?_ ?_
      · intro c' hL'
        obtain rfl : c' = c := cs_Ls_u hL' hL
        refine br_t (nI_pos' (by have := hL.1; omega)) (cs_y_gr hq8 hL.1 (by rw [hpr _ hL.1, hfl q _ hq8 hL.1, cs_Pt_w hL.2.1.1, cs_Ft_w hq8 hL.2.1.1]) m1 m2 m3 ⟨rfl, cs_mk R2⟩)
      · intro hno
        exact absurd hL.2.1 (hno c hL.1)
    · intro nd la pa sp co wy pd prf hp hno
      refine br_f (by decide) (br_f h1 (br_t h4 (cs_y_list r2 r3 r7 ?_)))
      intro fl pr hfl hpr
      refine cs_y_firstGap (kind := 1) hq8 (by decide) r4 r7 r9 hfl hpr ?_ ?_
      · intro c hL
        exact absurd hL.2.1 (hno c hL.1)
      · intro _
        exact br_f (by decide) ⟨rfl, cs_mk (cs_RF_pd R hp)⟩
  · exact br_f h1 (br_f h4 (br_f h1 (br_f h4 ⟨rfl, cs_mk R⟩)))
theorem i_vc_refined {k : Nat} {u : SX} {v : SY} (I : i_Rel k u v) (hk : k + 4 ≤ 2048) (v1 : Int32) : wpX_refined (fun r u' => wpY_refined (fun r' v' => r' = r ∧ i_Rel (k + 4) u' v') v v1) u v1 := by
  refine cs_el (P := fun u v => wpX_refined (fun r u' => wpY_refined (fun r' v' => r' = r ∧ i_Rel (k + 4) u' v') v v1) u v1) ?_ I
  intro h l r s lg e f_paired f_nodes a_termRefuse a_termNext a_refuse a_next a_pairRefuse a_events a_layer a_spec a_code a_ways a_failures a_pair a_after a_pairs R
  have R' := R
  obtain ⟨r1, r2, r3, r4, r5, r6, r7, r8, r9, r10, r11, r12⟩ := R'
  by_cases h1 : v1 < 0
  · exact br_t h1 (br_t h1 ⟨rfl, cs_mk R⟩)
  by_cases h4 : v1 ≤ 1
  · obtain ⟨kd, hkd, e1⟩ := nI_of2 (M := 1) (n := 1) (by decide) h1 h4
    subst e1
    refine br_f h1 (br_t h4 (cs_w_refined (by omega) r4 r2 r3 r7 r10 ?_))
    intro nd la pa sp co wy pd prf hp
    refine br_f h1 (br_t h4 (cs_y_list r2 r3 r7 ?_))
    intro fl pr hfl hpr
    exact cs_y_refined (by omega) r4 r7 r9 hfl hpr ⟨rfl, cs_mk (cs_RF_pd R hp)⟩
  · exact br_f h1 (br_f h4 (br_f h1 (br_f h4 ⟨rfl, cs_mk R⟩)))
theorem i_vc_deadlock {k : Nat} {u : SX} {v : SY} (I : i_Rel k u v) (hk : k + 4 ≤ 2048) : wpX_deadlock (fun r u' => wpY_deadlock (fun r' v' => r' = r ∧ i_Rel (k + 4) u' v') v) u := by
  refine cs_el (P := fun u v => wpX_deadlock (fun r u' => wpY_deadlock (fun r' v' => r' = r ∧ i_Rel (k + 4) u' v') v) u) ?_ I
  intro h l r s lg e f_paired f_nodes a_termRefuse a_termNext a_refuse a_next a_pairRefuse a_events a_layer a_spec a_code a_ways a_failures a_pair a_after a_pairs R
  have R' := R
  obtain ⟨r1, r2, r3, r4, r5, r6, r7, r8, r9, r10, r11, r12⟩ := R'
  refine cs_w_deadlock r4 r2 r3 r7 r10 ?_ ?_
  · intro c nd la pa sp co wy pd prf hp hL
    unfold wpY_deadlock
    refine cs_y_list r2 r3 r7 ?_
    intro fl pr hfl hpr
    refine cs_y_deadlock r4 r9 hpr ?_ ?_
    · intro c' hL'
      exact ⟨by rw [cs_Ls_u hL' hL], cs_mk (cs_RF_pd R hp)⟩
    · intro hno
      exact absurd hL.2.1 (hno c hL.1)
  · intro nd la pa sp co wy pd prf hp hno
    unfold wpY_deadlock
    refine cs_y_list r2 r3 r7 ?_
    intro fl pr hfl hpr
    refine cs_y_deadlock r4 r9 hpr ?_ ?_
    · intro c hL
      exact absurd hL.2.1 (hno c hL.1)
    · intro _
      exact ⟨rfl, cs_mk (cs_RF_pd R hp)⟩
theorem i_vc_unsure {k : Nat} {u : SX} {v : SY} (I : i_Rel k u v) (hk : k + 4 ≤ 2048) : wpX_unsure (fun r u' => wpY_unsure (fun r' v' => r' = r ∧ i_Rel (k + 4) u' v') v) u := by
  refine cs_el (P := fun u v => wpX_unsure (fun r u' => wpY_unsure (fun r' v' => r' = r ∧ i_Rel (k + 4) u' v') v) u) ?_ I
  intro h l r s lg e f_paired f_nodes a_termRefuse a_termNext a_refuse a_next a_pairRefuse a_events a_layer a_spec a_code a_ways a_failures a_pair a_after a_pairs R
  have R' := R
  obtain ⟨r1, r2, r3, r4, r5, r6, r7, r8, r9, r10, r11, r12⟩ := R'
  refine cs_w_unsure r4 r2 r3 r7 r10 ?_ ?_
  · intro c nd la pa sp co wy pd prf hp hL
    unfold wpY_unsure
    refine cs_y_list r2 r3 r7 ?_
    intro fl pr hfl hpr
    refine cs_y_unsure r4 r9 hpr ?_ ?_
    · intro c' hL'
      exact ⟨by rw [cs_Ls_u hL' hL], cs_mk (cs_RF_pd R hp)⟩
    · intro hno
      exact absurd hL.2.1 (hno c hL.1)
  · intro nd la pa sp co wy pd prf hp hno
    unfold wpY_unsure
    refine cs_y_list r2 r3 r7 ?_
    intro fl pr hfl hpr
    refine cs_y_unsure r4 r9 hpr ?_ ?_
    · intro c hL
      exact absurd hL.2.1 (hno c hL.1)
    · intro _
      exact ⟨rfl, cs_mk (cs_RF_pd R hp)⟩
end
