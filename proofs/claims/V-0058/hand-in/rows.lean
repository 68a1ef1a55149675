section
/-! rows of the kit's rows to paste (PURE-ROWS, BITS) -/
theorem pk_us {f : Nat → Int32} {k : Nat} {x : Int32} : upd f k x k = x := if_pos rfl
theorem pk_un {f : Nat → Int32} {k j : Nat} {x : Int32} (h : j ≠ k) : upd f k x j = f j := if_neg h
theorem pk_sub {a b : Nat} (h : b ≤ a) : nI a - nI b = nI (a - b) := by
  obtain ⟨c, rfl⟩ : ∃ c, a = c + b := ⟨a - b, by omega⟩
  rw [← nI_add, Int32.add_sub_cancel, Nat.add_sub_cancel]
theorem pk_m1 (n : Nat) : nI (n + 1) + (-1) = nI n := by
  rw [← nI_1, Int32.add_assoc, show (1 : Int32) + (-1) = 0 from rfl, Int32.add_zero]
theorem pk_mul (a b : Nat) : nI a * nI b = nI (a * b) := (Int32.ofNat_mul a b).symm
theorem pk_div {a d : Nat} (ha : a < 2 ^ 31) (h0 : 0 < d) (hd : d < 2 ^ 31) : nI a / nI d = nI (a / d) := by
  apply Int32.toInt_inj.mp
  rw [lg_idiv_nonneg (by rw [nI_toInt ha]; omega) (by rw [nI_toInt hd]; omega), nI_toInt ha, nI_toInt hd, nI_toInt (Nat.lt_of_le_of_lt (Nat.div_le_self a d) ha)]
  first | rfl | exact (Int.natCast_ediv _ _).symm
theorem pk_rem {a d : Nat} (ha : a < 2 ^ 31) (h0 : 0 < d) (hd : d < 2 ^ 31) : nI a - nI a / nI d * nI d = nI (a % d) := by
  rw [pk_div ha h0 hd, pk_mul, pk_sub (Nat.div_mul_le_self a d)]
  exact congrArg nI (by have := Nat.div_add_mod' a d; omega)
theorem pk_sub_toInt {a b : Nat} (ha : a < 2 ^ 30) (hb : b < 2 ^ 30) : (nI a - nI b).toInt = (a : Int) - b := by
  rw [Int32.toInt_sub, nI_toInt (by omega), nI_toInt (by omega)]
  exact Int.bmod_eq_of_le (by omega) (by omega)
theorem pk_sneg {a b : Nat} (hb : b < 2 ^ 30) (h : a < b) : nI a - nI b < 0 := by
  rw [Int32.lt_iff_toInt_lt, pk_sub_toInt (by omega) hb, show (0 : Int32).toInt = 0 from by decide]
  omega
theorem pk_ix (x : Int32) {n : Nat} (hn : n < 2 ^ 31) : x < 0 ∨ nI n ≤ x ∨ ∃ j : Nat, j < n ∧ x = nI j := by
  by_cases h : x < 0
  · exact Or.inl h
  · obtain ⟨j, hj, rfl⟩ := nI_of h
    by_cases h2 : j < n
    · exact Or.inr (Or.inr ⟨j, h2, rfl⟩)
    · exact Or.inr (Or.inl (nI_le (by omega) hj))
theorem pk_le {x y : Int32} {A B : Prop} (a b : Nat) (f : a ≤ b → A) (g : b < a → B) (hx : x = nI a := by rfl) (hy : y = nI b := by rfl) (ha : a < 2 ^ 31 := by omega) (hb : b < 2 ^ 31 := by omega) : (x ≤ y → A) ∧ (¬ x ≤ y → B) := by
  subst hx hy
  rw [nI_leI ha hb]
  exact ⟨f, fun z => g (by omega)⟩
theorem pk_lt {x y : Int32} {A B : Prop} (a b : Nat) (f : a < b → A) (g : b ≤ a → B) (hx : x = nI a := by rfl) (hy : y = nI b := by rfl) (ha : a < 2 ^ 31 := by omega) (hb : b < 2 ^ 31 := by omega) : (x < y → A) ∧ (¬ x < y → B) := by
  subst hx hy
  rw [nI_ltI ha hb]
  exact ⟨f, fun z => g (by omega)⟩
theorem pk_eq {x y : Int32} {A B : Prop} (a b : Nat) (f : a = b → A) (g : a ≠ b → B) (hx : x = nI a := by rfl) (hy : y = nI b := by rfl) (ha : a < 2 ^ 31 := by omega) (hb : b < 2 ^ 31 := by omega) : (x = y → A) ∧ (¬ x = y → B) := by
  subst hx hy
  rw [nI_eq ha hb]
  exact ⟨f, g⟩
theorem pk_in {x : Int32} (n N : Nat) (h : n < N) (hx : x = nI n := by rfl) (hN : N < 2 ^ 31 := by omega) : vp_in x N := by
  subst hx
  exact vp_in_nI h hN
theorem pk_cl {x : Int32} (n : Nat) (hx : x = nI n := by rfl) (h : n < 2 ^ 31 := by omega) : x.toNatClampNeg = n := by
  subst hx
  exact nI_clamp h
theorem pk_tn {n : Nat} (h : n < 2 ^ 32) : (nI n).toBitVec.toNat = n := Nat.mod_eq_of_lt h
theorem pk_and (x : Int32) {m : Int32} (k : Nat) (hm : m.toBitVec.toNat = 2 ^ k - 1) : x &&& m = nI (x.toBitVec.toNat % 2 ^ k) := by
  apply Int32.toBitVec_inj.mp
  apply BitVec.eq_of_toNat_eq
  rw [Int32.toBitVec_and, BitVec.toNat_and, hm, Nat.and_two_pow_sub_one_eq_mod]
  show _ = (BitVec.ofNat 32 _).toNat
  rw [BitVec.toNat_ofNat]
  exact (Nat.mod_eq_of_lt (Nat.lt_of_le_of_lt (Nat.mod_le _ _) x.toBitVec.isLt)).symm
theorem pk_andN {n : Nat} (h : n < 2 ^ 32) {m : Int32} (k : Nat) (hm : m.toBitVec.toNat = 2 ^ k - 1) : nI n &&& m = nI (n % 2 ^ k) := by
  rw [pk_and _ k hm, pk_tn h]
theorem pk_shl (a s : Int32) (k : Nat) (hs : (s.toBitVec.smod 32).toNat = k) : (a <<< s).toBitVec.toNat = a.toBitVec.toNat * 2 ^ k % 2 ^ 32 := by
  show (a.toBitVec <<< (s.toBitVec.smod 32).toNat).toNat = _
  rw [hs, BitVec.toNat_shiftLeft, Nat.shiftLeft_eq]
theorem pk_shlN {n : Nat} (s : Int32) (k : Nat) (hs : (s.toBitVec.smod 32).toNat = k) (h : n * 2 ^ k < 2 ^ 32) : nI n <<< s = nI (n * 2 ^ k) := by
  apply Int32.toBitVec_inj.mp
  apply BitVec.eq_of_toNat_eq
  have hn : n < 2 ^ 32 := Nat.lt_of_le_of_lt (Nat.le_mul_of_pos_right n (Nat.two_pow_pos k)) h
  rw [pk_shl _ _ k hs, pk_tn hn, pk_tn h, Nat.mod_eq_of_lt h]
theorem pk_shr (a s : Int32) (k : Nat) (hs : (s.toBitVec.smod 32).toNat = k) : (a >>> s).toInt = a.toInt >>> k := by
  show (a.toBitVec.sshiftRight (s.toBitVec.smod 32).toNat).toInt = _
  rw [hs, BitVec.toInt_sshiftRight]
  rfl
theorem pk_shrN {n : Nat} (h : n < 2 ^ 31) (s : Int32) (k : Nat) (hs : (s.toBitVec.smod 32).toNat = k) : nI n >>> s = nI (n / 2 ^ k) := by
  apply Int32.toInt_inj.mp
  have h2 : n / 2 ^ k ≤ n := Nat.div_le_self _ _
  rw [pk_shr _ _ k hs, nI_toInt h, nI_toInt (by omega), Int.shiftRight_eq_div_pow]
  rfl
theorem pk_least (P : Nat → Prop) (h : ∃ k, P k) : ∃ k, P k ∧ ∀ j, j < k → ¬ P j := by
  obtain ⟨k, hk⟩ := h
  induction k using Nat.strongRecOn with
  | ind k ih =>
    by_cases e : ∃ j, j < k ∧ P j
    · obtain ⟨j, hj, pj⟩ := e
      exact ih j hj pj
    · exact ⟨k, hk, fun j hj pj => e ⟨j, hj, pj⟩⟩
/-! ===== Int32 by its bits: bt x i ===== -/
def bt (x : Int32) (i : Nat) : Bool := x.toBitVec.getLsbD i
theorem b_ext {x y : Int32} (h : ∀ i, i < 32 → bt x i = bt y i) : x = y := Int32.toBitVec_inj.mp (BitVec.eq_of_getLsbD_eq (fun i hi => h i hi))
theorem b_or (x y : Int32) (i : Nat) : bt (x ||| y) i = (bt x i || bt y i) := by unfold bt; rw [Int32.toBitVec_or, BitVec.getLsbD_or]
theorem b_and (x y : Int32) (i : Nat) : bt (x &&& y) i = (bt x i && bt y i) := by unfold bt; rw [Int32.toBitVec_and, BitVec.getLsbD_and]
theorem b_xor (x y : Int32) (i : Nat) : bt (x ^^^ y) i = (bt x i ^^ bt y i) := by unfold bt; rw [Int32.toBitVec_xor, BitVec.getLsbD_xor]
theorem b_big {x : Int32} {i : Nat} (h : 32 ≤ i) : bt x i = false := BitVec.getLsbD_of_ge _ _ h
theorem b_255 (i : Nat) : bt 255 i = decide (i < 8) := by
  rcases Nat.lt_or_ge i 32 with h | h
  · exact (by decide +kernel : ∀ i, i < 32 → bt 255 i = decide (i < 8)) i h
  · rw [b_big h, decide_eq_false (by omega)]
theorem b_65535 (i : Nat) : bt 65535 i = decide (i < 16) := by
  rcases Nat.lt_or_ge i 32 with h | h
  · exact (by decide +kernel : ∀ i, i < 32 → bt 65535 i = decide (i < 16)) i h
  · rw [b_big h, decide_eq_false (by omega)]
theorem b_m1 : ∀ i, i < 32 → bt (-1) i = true := by decide +kernel
theorem b_0 (i : Nat) : bt 0 i = false := BitVec.getLsbD_zero
theorem s_l : ∀ n, n < 32 → ((nI n &&& 31).toBitVec.smod 32).toNat = n := by decide +kernel
theorem s_u : ∀ n, n < 32 → (((nI n).toUInt32 &&& Int32.toUInt32 31).toBitVec % 32).toNat = n := by decide +kernel
theorem b_shl (n : Nat) (hn : n < 32) (x : Int32) {i : Nat} (hi : i < 32) : bt (x <<< (nI n &&& 31)) i = (decide (n ≤ i) && bt x (i - n)) := by
  unfold bt
  rw [Int32.toBitVec_shiftLeft]
  show (x.toBitVec <<< ((nI n &&& 31).toBitVec.smod 32).toNat).getLsbD i = _
  rw [s_l n hn, BitVec.getLsbD_shiftLeft]
  rcases Nat.lt_or_ge i n with h | h
  · simp [h, Nat.not_le.mpr h]
  · simp [hi, h, Nat.not_lt.mpr h]
theorem b_ushr (n : Nat) (hn : n < 32) (x : Int32) (i : Nat) : bt ((x.toUInt32 >>> ((nI n).toUInt32 &&& Int32.toUInt32 31)).toInt32) i = bt x (n + i) := by
  show (x.toUInt32 >>> ((nI n).toUInt32 &&& Int32.toUInt32 31)).toBitVec.getLsbD i = x.toUInt32.toBitVec.getLsbD (n + i)
  rw [UInt32.toBitVec_shiftRight]
  show (x.toUInt32.toBitVec >>> (((nI n).toUInt32 &&& Int32.toUInt32 31).toBitVec % 32).toNat).getLsbD i = _
  rw [s_u n hn, BitVec.getLsbD_ushiftRight]
theorem b_sshr (n : Nat) (hn : n < 32) (x : Int32) {i : Nat} (hi : i < 32) : bt (x >>> (nI n &&& 31)) i = if n + i < 32 then bt x (n + i) else bt x 31 := by
  unfold bt
  rw [Int32.toBitVec_shiftRight]
  show (x.toBitVec.sshiftRight ((nI n &&& 31).toBitVec.smod 32).toNat).getLsbD i = _
  rw [s_l n hn, BitVec.getLsbD_sshiftRight, BitVec.msb_eq_getLsbD_last]
  simp [hi]
theorem b_shl8 (x : Int32) {i : Nat} (hi : i < 32) : bt (x <<< ((8 : Int32) &&& 31)) i = (decide (8 ≤ i) && bt x (i - 8)) := b_shl 8 (by omega) x hi
theorem b_shl16 (x : Int32) {i : Nat} (hi : i < 32) : bt (x <<< ((16 : Int32) &&& 31)) i = (decide (16 ≤ i) && bt x (i - 16)) := b_shl 16 (by omega) x hi
theorem b_shl24 (x : Int32) {i : Nat} (hi : i < 32) : bt (x <<< ((24 : Int32) &&& 31)) i = (decide (24 ≤ i) && bt x (i - 24)) := b_shl 24 (by omega) x hi
theorem b_sshr8 (x : Int32) {i : Nat} (hi : i < 32) : bt (x >>> ((8 : Int32) &&& 31)) i = if 8 + i < 32 then bt x (8 + i) else bt x 31 := b_sshr 8 (by omega) x hi
/-! ===== nI under and, xor, >>>, one bit, 65535 ===== -/
theorem nx_and (a b : Nat) : nI a &&& nI b = nI (a &&& b) := by
  apply Int32.toBitVec_inj.1
  show BitVec.ofNat 32 a &&& BitVec.ofNat 32 b = BitVec.ofNat 32 (a &&& b)
  apply BitVec.eq_of_getLsbD_eq
  intro i hi
  simp [hi]
theorem nx_xor (a b : Nat) : nI a ^^^ nI b = nI (a ^^^ b) := by
  apply Int32.toBitVec_inj.1
  show BitVec.ofNat 32 a ^^^ BitVec.ofNat 32 b = BitVec.ofNat 32 (a ^^^ b)
  apply BitVec.eq_of_getLsbD_eq
  intro i hi
  simp [hi]
theorem nx_cnt : ∀ j : Fin 32, (UInt32.ofNat j.val &&& Int32.toUInt32 31).toNat % 32 = j.val := by decide +kernel
theorem nx_ush {k j : Nat} (hk : k < 65536) (hj : j < 32) : ((nI k).toUInt32 >>> ((nI j).toUInt32 &&& Int32.toUInt32 31)).toInt32 = nI (k >>> j) := by
  have hs : k >>> j ≤ k := by
    rw [Nat.shiftRight_eq_div_pow]
    exact Nat.div_le_self _ _
  have e2 : UInt32.ofNat k >>> (UInt32.ofNat j &&& Int32.toUInt32 31) = UInt32.ofNat (k >>> j) := by
    apply UInt32.toNat_inj.1
    have h1 : (UInt32.ofNat k).toNat = k := Nat.mod_eq_of_lt (by omega)
    have h2 : (UInt32.ofNat (k >>> j)).toNat = k >>> j := Nat.mod_eq_of_lt (by omega)
    rw [UInt32.toNat_shiftRight, nx_cnt ⟨j, hj⟩, h1, h2]
  show (UInt32.ofNat k >>> (UInt32.ofNat j &&& Int32.toUInt32 31)).toInt32 = _
  rw [e2]
  rfl
theorem nx_bit {k j : Nat} (hk : k < 65536) (hj : j < 16) : (((nI k).toUInt32 >>> ((nI j).toUInt32 &&& Int32.toUInt32 31)).toInt32 &&& 1) = 0 ↔ k.testBit j = false := by
  rw [nx_ush hk (by omega)]
  show nI (k >>> j) &&& nI 1 = 0 ↔ _
  rw [nx_and, Nat.and_one_is_mod, ← nI_0, nI_eq (by omega) (by omega), Nat.testBit_eq_decide_div_mod_eq, Nat.shiftRight_eq_div_pow, decide_eq_false_iff_not]
  generalize k / 2 ^ j = z
  omega
theorem nx_mod (k : Nat) : nI k &&& 65535 = nI (k % 65536) := by
  show nI k &&& nI 65535 = _
  rw [nx_and, show (65535 : Nat) = 2 ^ 16 - 1 from rfl, Nat.and_two_pow_sub_one_eq_mod]
theorem nx_m16 {k : Nat} (h : k < 65536) : nI k &&& 65535 = nI k := by rw [nx_mod, Nat.mod_eq_of_lt h]
theorem nx_mask (x : Int32) : ∃ k, k < 65536 ∧ x &&& 65535 = nI k := by
  have e : x = nI x.toBitVec.toNat := by
    apply Int32.toBitVec_inj.1
    show x.toBitVec = BitVec.ofNat 32 x.toBitVec.toNat
    simp
  refine ⟨x.toBitVec.toNat % 65536, Nat.mod_lt _ (by omega), ?_⟩
  rw [← nx_mod, ← e]
end
section
/-! utilities: numbers with -1 for none, bits, sums -/
def gu_e (a : Nat) : Int32 := nI a - 1
theorem gu_e0 : gu_e 0 = -1 := by decide +kernel
theorem gu_es (a : Nat) : gu_e (a + 1) = nI a := nI_pred a
theorem gu_elt {a : Nat} (h : a < 2 ^ 31) : gu_e a < 0 ↔ a = 0 := by
  cases a with
  | zero => rw [gu_e0]; exact ⟨fun _ => rfl, fun _ => by decide⟩
  | succ a => rw [gu_es]; exact ⟨fun z => absurd z (nI_pos (by omega)), fun z => by omega⟩
theorem gu_ele {a : Nat} (h : a < 2 ^ 31) : 0 ≤ gu_e a ↔ a ≠ 0 := by
  rw [← Int32.not_lt, gu_elt h]
theorem gu_em (a : Nat) : nI a + (-1) = gu_e a := by unfold gu_e; rw [Int32.sub_eq_add_neg]
theorem gu_em' (a : Nat) : gu_e (a + 1) + (-1) = gu_e a := by rw [gu_es, gu_em]
theorem gu_eT {a : Nat} (h : a < 2 ^ 31) : (gu_e a).toInt = (a : Int) - 1 := by
  cases a with
  | zero => rw [gu_e0]; decide
  | succ a => rw [gu_es, nI_toInt (by omega)]; omega
theorem gu_einj {a b : Nat} (ha : a < 2 ^ 31) (hb : b < 2 ^ 31) : gu_e a = gu_e b ↔ a = b := by
  rw [← Int32.toInt_inj, gu_eT ha, gu_eT hb]; omega
theorem gu_e1 (a : Nat) : gu_e a + 1 = nI a := by
  cases a with
  | zero => rw [gu_e0]; decide
  | succ a => rw [gu_es, nI_1]
theorem gu_one : ∀ k, k < 32 → bt 1 k = decide (k = 0) := by decide +kernel
theorem gu_b1 {i j : Nat} (hi : i < 32) (hj : j < 32) : bt ((1 : Int32) <<< (nI i &&& 31)) j = decide (j = i) := by
  rw [b_shl i hi 1 hj, gu_one (j - i) (by omega)]
  by_cases h : j = i
  · subst h
    rw [decide_eq_true (Nat.le_refl j), decide_eq_true (Nat.sub_self j), decide_eq_true rfl]; rfl
  · by_cases h2 : i ≤ j
    · rw [decide_eq_false (show ¬ j - i = 0 by omega), decide_eq_false h, Bool.and_false]
    · rw [decide_eq_false h2, decide_eq_false h, Bool.false_and]
theorem gu_z (x : Int32) : x = 0 ↔ ∀ i, i < 32 → bt x i = false := ⟨fun h i _ => by rw [h, b_0], fun h => b_ext fun i hi => by rw [h i hi, b_0]⟩
theorem gu_t {x : Int32} {i : Nat} (hi : i < 32) : (x &&& ((1 : Int32) <<< (nI i &&& 31))) = 0 ↔ bt x i = false := by
  rw [gu_z]
  constructor
  · intro h
    have := h i hi
    rw [b_and, gu_b1 hi hi, decide_eq_true rfl, Bool.and_true] at this
    exact this
  · intro h j hj
    rw [b_and, gu_b1 hi hj]
    by_cases e : j = i
    · subst e; rw [h, Bool.false_and]
    · rw [decide_eq_false e, Bool.and_false]
theorem gu_or {x : Int32} {i j : Nat} (hi : i < 32) (hj : j < 32) : bt (x ||| ((1 : Int32) <<< (nI i &&& 31))) j = (bt x j || decide (j = i)) := by
  rw [b_or, gu_b1 hi hj]
theorem gu_cl {x : Int32} {i j : Nat} (hi : i < 32) (hj : j < 32) : bt (x &&& (((1 : Int32) <<< (nI i &&& 31)) ^^^ (-1))) j = (bt x j && !decide (j = i)) := by
  rw [b_and, b_xor, gu_b1 hi hj, b_m1 j hj]
  cases bt x j <;> cases decide (j = i) <;> rfl
theorem gu_all : ∀ C, C < 16 → ∀ i, i < 32 → bt (((1 : Int32) <<< (nI C &&& 31)) - 1) i = decide (i < C) := by decide +kernel
theorem gu_and0 (x y : Int32) : (x &&& y) = 0 ↔ ∀ i, i < 32 → bt x i = true → bt y i = false := by
  rw [gu_z]
  constructor
  · intro h i hi hx
    have := h i hi
    rw [b_and, hx, Bool.true_and] at this
    exact this
  · intro h i hi
    rw [b_and]
    cases hx : bt x i
    · rfl
    · rw [h i hi hx]; rfl
theorem gu_nf {x : Bool} (h : ¬ x = false) : x = true := by cases x <;> simp_all
theorem gu_nt {x : Bool} (h : ¬ x = true) : x = false := by cases x <;> simp_all
def gu_i (b : Bool) : Int32 := if b then 1 else 0
theorem gu_i0 (b : Bool) : gu_i b = 0 ↔ b = false := by cases b <;> decide
theorem gu_it : gu_i true = 1 := rfl
theorem gu_if : gu_i false = 0 := rfl
theorem gu_nb1 : vp_nar .boolean 1 = 1 := rfl
theorem gu_nb0 : vp_nar .boolean 0 = 0 := rfl
/-! indices -/
theorem gu_m (k a b : Nat) : nI k * nI a + nI b = nI (k * a + b) := by rw [pk_mul, nI_add]
theorem gu_8 (a b : Nat) : (8 * nI a) + nI b = nI (8 * a + b) := gu_m 8 a b
theorem gu_4 (a b : Nat) : (4 * nI a) + nI b = nI (4 * a + b) := gu_m 4 a b
theorem gu_4' (a b : Nat) : (nI a * 4) + nI b = nI (4 * a + b) := by rw [Int32.mul_comm]; exact gu_m 4 a b
theorem gu_5 (a b : Nat) : (5 * nI a) + nI b = nI (5 * a + b) := gu_m 5 a b
theorem gu_in8 {a b N : Nat} (h : 8 * a + b < N) (hN : N < 2 ^ 31) : vp_in ((8 * nI a) + nI b) N := by rw [gu_8]; exact vp_in_nI h hN
theorem gu_in4 {a b N : Nat} (h : 4 * a + b < N) (hN : N < 2 ^ 31) : vp_in ((4 * nI a) + nI b) N := by rw [gu_4]; exact vp_in_nI h hN
theorem gu_in4' {a b N : Nat} (h : 4 * a + b < N) (hN : N < 2 ^ 31) : vp_in ((nI a * 4) + nI b) N := by rw [gu_4']; exact vp_in_nI h hN
theorem gu_c8 {a b : Nat} (h : 8 * a + b < 2 ^ 31) : ((8 * nI a) + nI b).toNatClampNeg = 8 * a + b := by rw [gu_8, nI_clamp h]
theorem gu_c4 {a b : Nat} (h : 4 * a + b < 2 ^ 31) : ((4 * nI a) + nI b).toNatClampNeg = 4 * a + b := by rw [gu_4, nI_clamp h]
theorem gu_c4' {a b : Nat} (h : 4 * a + b < 2 ^ 31) : ((nI a * 4) + nI b).toNatClampNeg = 4 * a + b := by rw [gu_4', nI_clamp h]
theorem gu_shr {a k : Nat} (ha : a < 2 ^ 31) (hk : k < 32) : nI a >>> (nI k &&& 31) = nI (a / 2 ^ k) := pk_shrN ha _ k (s_l k hk)
theorem gu_a1 {a : Nat} (ha : a < 2 ^ 31) : nI a &&& 1 = nI (a % 2) := pk_andN (by omega) 1 (by decide)
theorem gu_a3 {a : Nat} (ha : a < 2 ^ 31) : nI a &&& 3 = nI (a % 4) := pk_andN (by omega) 2 (by decide)
theorem gu_mD {db D : Nat} (hD : (db = 1 ∧ D = 2) ∨ (db = 2 ∧ D = 4)) {a : Nat} (ha : a < 2 ^ 31) : nI a &&& (nI D - 1) = nI (a % D) := by
  rcases hD with ⟨rfl, rfl⟩ | ⟨rfl, rfl⟩
  · exact pk_andN (by omega) 1 (by decide +kernel)
  · exact pk_andN (by omega) 2 (by decide +kernel)
theorem gu_dD {db D : Nat} (hD : (db = 1 ∧ D = 2) ∨ (db = 2 ∧ D = 4)) {a : Nat} (ha : a < 2 ^ 31) : nI a >>> (nI db &&& 31) = nI (a / D) := by
  rcases hD with ⟨rfl, rfl⟩ | ⟨rfl, rfl⟩
  · exact gu_shr ha (by omega)
  · exact gu_shr ha (by omega)
/-! sums -/
def gu_s (f : Nat → Nat) : Nat → Nat
  | 0 => 0
  | k + 1 => gu_s f k + f k
theorem gu_s1 (f : Nat → Nat) (k : Nat) : gu_s f (k + 1) = gu_s f k + f k := rfl
theorem gu_sm {f g : Nat → Nat} : ∀ {k : Nat}, (∀ i, i < k → f i ≤ g i) → gu_s f k ≤ gu_s g k
  | 0, _ => Nat.le_refl _
  | k + 1, h => by
    have a := gu_sm (f := f) (g := g) (k := k) (fun i hi => h i (by omega))
    have b := h k (by omega)
    rw [gu_s1, gu_s1]; omega
theorem gu_sc {f g : Nat → Nat} {k : Nat} (h : ∀ i, i < k → f i = g i) : gu_s f k = gu_s g k :=
  Nat.le_antisymm (gu_sm fun i hi => Nat.le_of_eq (h i hi)) (gu_sm fun i hi => Nat.le_of_eq (h i hi).symm)
theorem gu_sa (f g : Nat → Nat) : ∀ k : Nat, gu_s (fun i => f i + g i) k = gu_s f k + gu_s g k
  | 0 => rfl
  | k + 1 => by rw [gu_s1, gu_s1, gu_s1, gu_sa f g k]; omega
theorem gu_sk (c : Nat) (f : Nat → Nat) : ∀ k : Nat, gu_s (fun i => c * f i) k = c * gu_s f k
  | 0 => rfl
  | k + 1 => by rw [gu_s1, gu_s1, gu_sk c f k, Nat.mul_add]
theorem gu_sn (b : Nat) : ∀ k : Nat, gu_s (fun _ => b) k = k * b
  | 0 => by rw [Nat.zero_mul]; rfl
  | k + 1 => by rw [gu_s1, gu_sn b k, Nat.succ_mul]
theorem gu_sb {f : Nat → Nat} {b k : Nat} (h : ∀ i, i < k → f i ≤ b) : gu_s f k ≤ k * b := by
  rw [← gu_sn b k]; exact gu_sm h
theorem gu_sl {f : Nat → Nat} {b k : Nat} (h : ∀ i, i < k → b ≤ f i) : k * b ≤ gu_s f k := by
  rw [← gu_sn b k]; exact gu_sm h
theorem gu_slt {f g : Nat → Nat} {j : Nat} (hj : f j < g j) : ∀ {k : Nat}, (∀ i, i < k → f i ≤ g i) → j < k → gu_s f k < gu_s g k
  | 0, _, h => by omega
  | k + 1, h, hk => by
    rw [gu_s1, gu_s1]
    rcases Nat.lt_or_ge j k with z | z
    · have a := gu_slt hj (k := k) (fun i hi => h i (by omega)) z
      have b := h k (by omega)
      omega
    · have e : j = k := by omega
      subst e
      have a := gu_sm (f := f) (g := g) (k := j) (fun i hi => h i (by omega))
      omega
theorem gu_sge {f : Nat → Nat} {j : Nat} : ∀ {k : Nat}, j < k → f j ≤ gu_s f k
  | 0, h => by omega
  | k + 1, h => by
    rw [gu_s1]
    rcases Nat.lt_or_ge j k with z | z
    · have := gu_sge (f := f) z
      omega
    · have e : j = k := by omega
      subst e; omega
theorem gu_sw (f : Nat → Nat → Nat) (b : Nat) : ∀ a : Nat, gu_s (fun i => gu_s (fun j => f i j) b) a = gu_s (fun j => gu_s (fun i => f i j) a) b
  | 0 => by
    have e : gu_s (fun j => gu_s (fun i => f i j) 0) b = gu_s (fun _ => 0) b := gu_sc fun i _ => rfl
    rw [e, gu_sn, Nat.mul_zero]; rfl
  | a + 1 => by
    rw [gu_s1, gu_sw f b a, ← gu_sa]
    exact gu_sc fun j _ => rfl
theorem gu_sp (f : Nat → Nat) (a : Nat) : ∀ b : Nat, gu_s f (a + b) = gu_s f a + gu_s (fun i => f (a + i)) b
  | 0 => rfl
  | b + 1 => by rw [← Nat.add_assoc, gu_s1, gu_s1, gu_sp f a b]; omega
theorem gu_s15 (f : Nat → Nat) : ∀ k : Nat, gu_s f (15 * k) = gu_s (fun w => gu_s (fun t => f (15 * w + t)) 15) k
  | 0 => rfl
  | k + 1 => by rw [Nat.mul_succ, gu_sp, gu_s15 f k]; rfl
/-- a change at one place -/
theorem gu_s1c {f g : Nat → Nat} {a : Nat} : ∀ {k : Nat}, (∀ i, i < k → i ≠ a → f i = g i) → a < k → gu_s f k + g a = gu_s g k + f a
  | 0, _, h => by omega
  | k + 1, h, hk => by
    rw [gu_s1, gu_s1]
    rcases Nat.lt_or_ge a k with z | z
    · have x := gu_s1c (k := k) (fun i hi => h i (by omega)) z
      have y := h k (by omega) (by omega)
      omega
    · have e : a = k := by omega
      subst e
      have x := gu_sc (f := f) (g := g) (k := a) (fun i hi => h i (by omega) (by omega))
      omega
/-- a change at two places that keeps their sum -/
theorem gu_s2c {f g : Nat → Nat} {a b k : Nat} (hab : a ≠ b) (ha : a < k) (hb : b < k) (h : ∀ i, i < k → i ≠ a → i ≠ b → f i = g i) (e : f a + f b = g a + g b) : gu_s f k = gu_s g k := by
  have x := gu_s1c (f := f) (g := fun i => if i = a then g i else f i) (a := a) (k := k) (fun i _ hi => (if_neg hi).symm) ha
  have y := gu_s1c (f := fun i => if i = a then g i else f i) (g := g) (a := b) (k := k) (fun i hi hb => by
    by_cases z : i = a
    · exact if_pos z
    · rw [if_neg z]; exact h i hi z hb) hb
  rw [if_pos rfl] at x
  rw [if_neg (fun z => hab z.symm)] at y
  omega
theorem gu_s0 {f : Nat → Nat} {k : Nat} (h : gu_s f k = 0) {i : Nat} (hi : i < k) : f i = 0 := by
  have := gu_sge (f := f) hi
  omega
theorem gu_ex {f : Nat → Nat} : ∀ {k : Nat}, 0 < gu_s f k → ∃ i, i < k ∧ 0 < f i
  | 0, h => absurd h (Nat.lt_irrefl 0)
  | k + 1, h => by
    rw [gu_s1] at h
    rcases Nat.eq_zero_or_pos (f k) with z | z
    · obtain ⟨i, hi, p⟩ := gu_ex (f := f) (k := k) (by omega)
      exact ⟨i, by omega, p⟩
    · exact ⟨k, by omega, z⟩
end
section
/-! the constraint graph: jumps -/
def ga_j (E : Nat → Nat) (w : Nat) : Nat → Nat → Nat
  | 0, a => a
  | k + 1, a => ga_j E w k (if a = 0 then 0 else E (2 * (a - 1) + w / 2 ^ k % 2))
theorem ga_js {E : Nat → Nat} {w k a : Nat} : ga_j E w (k + 1) (a + 1) = ga_j E w k (E (2 * a + w / 2 ^ k % 2)) := by
  show ga_j E w k (if a + 1 = 0 then 0 else E (2 * (a + 1 - 1) + w / 2 ^ k % 2)) = _
  rw [if_neg (by omega), Nat.add_sub_cancel]
theorem ga_j0 (E : Nat → Nat) (w : Nat) : ∀ k, ga_j E w k 0 = 0 := by
  intro k
  induction k with
  | zero => rfl
  | succ k ih =>
    show ga_j E w k (if 0 = 0 then 0 else _) = 0
    rw [if_pos rfl]; exact ih
theorem ga_jle {E : Nat → Nat} {w S : Nat} (hE : ∀ i, E i ≤ S) : ∀ k a, a ≤ S → ga_j E w k a ≤ S := by
  intro k
  induction k with
  | zero => intro a h; exact h
  | succ k ih =>
    intro a h
    cases a with
    | zero => rw [ga_j0]; omega
    | succ a => rw [ga_js]; exact ih _ (hE _)
theorem ga_ix {a w k : Nat} (ha : a < 5) (hw : w < 8) (hk : k < 3) : (2 * nI a) + ((nI w >>> (nI k &&& 31)) &&& 1) = nI (2 * a + w / 2 ^ k % 2) := by
  rw [gu_shr (by omega) (by omega), gu_a1 (Nat.lt_of_le_of_lt (Nat.div_le_self _ _) (by omega))]
  exact gu_m 2 a _
theorem ga_ix' {a w k : Nat} (ha : a < 5) (hw : w < 8) (hk : k < 3) : (nI a * 2) + ((nI w >>> (nI k &&& 31)) &&& 1) = nI (2 * a + w / 2 ^ k % 2) := by
  rw [Int32.mul_comm]; exact ga_ix ha hw hk
section GAX
variable {S db wb D V cp : Nat} {E : Nat → Nat} {f_nodeCount f_listSize f_built f_codeCount f_splitCount f_encoder f_messageLength : Int32} {a_edgeTarget a_jumpTarget a_good a_nodeBase a_nodeWeight a_arrows a_renumber a_listWord a_listTarget a_seenAt a_seenSum a_alive a_codeBase a_stepWord a_stepTarget a_pairNow a_pairNext a_sentData a_sentWord a_channelWord : Nat → Int32}
theorem ga_xf {post : Int32 → Prop} {w : Nat} (hT : ∀ i, i < 10 → a_edgeTarget i = gu_e (E i)) (hE : ∀ i, E i ≤ S) (hS : S ≤ 5) (hw : w < 8) :
    ∀ k n a, k < n → k ≤ 3 → a ≤ S → post (gu_e (ga_j E w k a)) → wX_follow_10 post (nI w) (nI S) (nI db) (nI wb) (nI D) (nI V) (nI cp) f_nodeCount f_listSize f_built f_codeCount f_splitCount f_encoder f_messageLength a_edgeTarget a_jumpTarget a_good a_nodeBase a_nodeWeight a_arrows a_renumber a_listWord a_listTarget a_seenAt a_seenSum a_alive a_codeBase a_stepWord a_stepTarget a_pairNow a_pairNext a_sentData a_sentWord a_channelWord n (gu_e a) (gu_e k) := by
  intro k
  induction k with
  | zero =>
    intro n a hn _ _ hp
    obtain ⟨n, rfl⟩ : ∃ m, n = m + 1 := ⟨n - 1, by omega⟩
    exact br_t ((gu_elt (by omega)).mpr rfl) hp
  | succ k ih =>
    intro n a hn hk ha hp
    obtain ⟨n, rfl⟩ : ∃ m, n = m + 1 := ⟨n - 1, by omega⟩
    refine br_f (by rw [gu_elt (by omega)]; omega) ?_
    cases a with
    | zero =>
      have hp' : post (gu_e (ga_j E w k 0)) := by rw [ga_j0] at hp ⊢; exact hp
      exact br_t ((gu_elt (by omega)).mpr rfl) (nm_r (gu_em' k) (ih n 0 (by omega) (by omega) (by omega) hp'))
    | succ a =>
      rw [ga_js] at hp
      have hi : 2 * a + w / 2 ^ k % 2 < 10 := by
        have := Nat.mod_lt (w / 2 ^ k) (show 0 < 2 by decide)
        omega
      refine br_f (by rw [gu_es]; exact nI_pos (by omega)) ⟨?_, nm_r (e' := gu_e (E (2 * a + w / 2 ^ k % 2))) ?_ (nm_r (gu_em' k) (ih n _ (by omega) (by omega) (hE _) hp))⟩
      · rw [gu_es, gu_es, ga_ix (by omega) hw (by omega)]; exact vp_in_nI hi (by omega)
      · rw [gu_es, gu_es, ga_ix (by omega) hw (by omega), nI_clamp (by omega), hT _ hi]
theorem ga_wxf {post : Int32 → Prop} {w u : Nat} (hT : ∀ i, i < 10 → a_edgeTarget i = gu_e (E i)) (hE : ∀ i, E i ≤ S) (hS : S ≤ 5) (hw : w < 8) (hwb : wb ≤ 3) (hu : u < S)
    (hp : post (gu_e (ga_j E w wb (u + 1)))) : wpX_follow post ((nI S), (nI db), (nI wb), (nI D), (nI V), (nI cp), f_nodeCount, f_listSize, f_built, f_codeCount, f_splitCount, f_encoder, f_messageLength, a_edgeTarget, a_jumpTarget, a_good, a_nodeBase, a_nodeWeight, a_arrows, a_renumber, a_listWord, a_listTarget, a_seenAt, a_seenSum, a_alive, a_codeBase, a_stepWord, a_stepTarget, a_pairNow, a_pairNext, a_sentData, a_sentWord, a_channelWord) (nI u) (nI w) := by
  refine nm_e ⟨wb + 1, ?_⟩
  rw [← gu_es u]
  exact ga_xf hT hE hS hw wb (wb + 1) (u + 1) (by omega) hwb (by omega) hp
def ga_I (E : Nat → Nat) (wb V u w : Nat) (jt : Nat → Int32) : Prop := ∀ u' w', w' < V → (u' < u ∨ (u' = u ∧ w' < w)) → jt (8 * u' + w') = gu_e (ga_j E w' wb (u' + 1))
theorem ga_g37 {post : SX → Prop} (J27 : Int32 → (Nat → Int32) → (Nat → Int32) → (Nat → Int32) → (Nat → Int32) → (Nat → Int32) → (Nat → Int32) → (Nat → Int32) → (Nat → Int32) → (Nat → Int32) → (Nat → Int32) → (Nat → Int32) → (Nat → Int32) → (Nat → Int32) → (Nat → Int32) → (Nat → Int32) → (Nat → Int32) → (Nat → Int32) → (Nat → Int32) → (Nat → Int32) → (Nat → Int32) → Prop) {u : Nat} (hT : ∀ i, i < 10 → a_edgeTarget i = gu_e (E i)) (hE : ∀ i, E i ≤ S) (hS : S ≤ 5) (hV : V ≤ 8) (hwb : wb ≤ 3) (hu : u < S)
    (hJ : ∀ jt, ga_I E wb V (u + 1) 0 jt → J27 (nI (u + 1)) a_edgeTarget jt a_good a_nodeBase a_nodeWeight a_arrows a_renumber a_listWord a_listTarget a_seenAt a_seenSum a_alive a_codeBase a_stepWord a_stepTarget a_pairNow a_pairNext a_sentData a_sentWord a_channelWord) :
    ∀ n w jt, V < n + w → w ≤ V → ga_I E wb V u w jt → wX_graphChanged_37 post J27 (nI u) (nI S) (nI db) (nI wb) (nI D) (nI V) (nI cp) f_nodeCount f_listSize f_built f_codeCount f_splitCount f_encoder f_messageLength n (nI w) a_edgeTarget jt a_good a_nodeBase a_nodeWeight a_arrows a_renumber a_listWord a_listTarget a_seenAt a_seenSum a_alive a_codeBase a_stepWord a_stepTarget a_pairNow a_pairNext a_sentData a_sentWord a_channelWord := by
  intro n
  induction n with
  | zero => intro w jt h1 h2; omega
  | succ n ih =>
    intro w jt h1 h2 hI
    refine pk_le V w (fun h => nm_r (nI_1 u) (hJ jt ?_)) (fun h => ?_)
    · intro u' w' hw' hc
      exact hI u' w' hw' (by omega)
    · refine ga_wxf hT hE hS (by omega) hwb hu ⟨gu_in8 (by omega) (by omega), nm_r (e' := upd jt (8 * u + w) (gu_e (ga_j E w wb (u + 1)))) (by rw [gu_c8 (by omega)]) (nm_r (nI_1 w) (ih (w + 1) _ (by omega) (by omega) ?_))⟩
      intro u' w' hw' hc
      by_cases e : 8 * u' + w' = 8 * u + w
      · have e1 : u' = u := by omega
        have e2 : w' = w := by omega
        subst e1 e2
        exact pk_us
      · rw [pk_un e]
        exact hI u' w' hw' (by omega)
theorem ga_g27 {post : SX → Prop} (hT : ∀ i, i < 10 → a_edgeTarget i = gu_e (E i)) (hE : ∀ i, E i ≤ S) (hS : S ≤ 5) (hV : V ≤ 8) (hwb : wb ≤ 3)
    (hp : ∀ jt, ga_I E wb V S 0 jt → post ((nI S), (nI db), (nI wb), (nI D), (nI V), (nI cp), f_nodeCount, f_listSize, f_built, f_codeCount, f_splitCount, f_encoder, f_messageLength, a_edgeTarget, jt, a_good, a_nodeBase, a_nodeWeight, a_arrows, a_renumber, a_listWord, a_listTarget, a_seenAt, a_seenSum, a_alive, a_codeBase, a_stepWord, a_stepTarget, a_pairNow, a_pairNext, a_sentData, a_sentWord, a_channelWord)) :
    ∀ n u jt, S < n + u → u ≤ S → ga_I E wb V u 0 jt → wX_graphChanged_27 post (nI S) (nI db) (nI wb) (nI D) (nI V) (nI cp) f_nodeCount f_listSize f_built f_codeCount f_splitCount f_encoder f_messageLength n (nI u) a_edgeTarget jt a_good a_nodeBase a_nodeWeight a_arrows a_renumber a_listWord a_listTarget a_seenAt a_seenSum a_alive a_codeBase a_stepWord a_stepTarget a_pairNow a_pairNext a_sentData a_sentWord a_channelWord := by
  intro n
  induction n with
  | zero => intro w jt h1 h2; omega
  | succ n ih =>
    intro u jt h1 h2 hI
    refine pk_le S u (fun h => hp jt ?_) (fun h => ⟨V + 1, ?_⟩)
    · have e : u = S := by omega
      subst e; exact hI
    · exact ga_g37 (wX_graphChanged_27 post (nI S) (nI db) (nI wb) (nI D) (nI V) (nI cp) f_nodeCount f_listSize f_built f_codeCount f_splitCount f_encoder f_messageLength n) hT hE hS hV hwb (by omega) (fun jt' h' => ih (u + 1) jt' (by omega) (by omega) h') (V + 1) 0 jt (by omega) (by omega) hI
theorem ga_gc {post : SX → Prop} (hT : ∀ i, i < 10 → a_edgeTarget i = gu_e (E i)) (hE : ∀ i, E i ≤ S) (hS : S ≤ 5) (hV : V ≤ 8) (hwb : wb ≤ 3)
    (hp : ∀ jt, (∀ u w, u < S → w < V → jt (8 * u + w) = gu_e (ga_j E w wb (u + 1))) → post ((nI S), (nI db), (nI wb), (nI D), (nI V), (nI cp), f_nodeCount, f_listSize, 0, 0, 0, 0, 0, a_edgeTarget, jt, a_good, a_nodeBase, a_nodeWeight, a_arrows, a_renumber, a_listWord, a_listTarget, a_seenAt, a_seenSum, a_alive, a_codeBase, a_stepWord, a_stepTarget, a_pairNow, a_pairNext, a_sentData, a_sentWord, a_channelWord)) :
    wpX_graphChanged post ((nI S), (nI db), (nI wb), (nI D), (nI V), (nI cp), f_nodeCount, f_listSize, f_built, f_codeCount, f_splitCount, f_encoder, f_messageLength, a_edgeTarget, a_jumpTarget, a_good, a_nodeBase, a_nodeWeight, a_arrows, a_renumber, a_listWord, a_listTarget, a_seenAt, a_seenSum, a_alive, a_codeBase, a_stepWord, a_stepTarget, a_pairNow, a_pairNext, a_sentData, a_sentWord, a_channelWord) :=
  ⟨S + 1, ga_g27 hT hE hS hV hwb (fun jt h => hp jt fun u w hu hw => h u w hw (Or.inl hu)) (S + 1) 0 a_jumpTarget (by omega) (by omega) (fun u' w' _ hc => by omega)⟩
end GAX
section GAY
variable {S db wb D V cp : Nat} {E : Nat → Nat} {f_built f_codes f_made f_encoder f_places f_nodes : Int32} {a_edges a_x a_base a_weight a_number a_arrow a_mark a_list a_sum a_outW a_outS a_sent a_own a_chan a_at a_pick : Nat → Int32}
theorem ga_yj {post : Int32 → Prop} {w : Nat} (hT : ∀ i, i < 10 → a_edges i = nI (E i)) (hE : ∀ i, E i ≤ S) (hS : S ≤ 5) (hw : w < 8) :
    ∀ k n a, k < n → k ≤ 3 → a ≤ S → post (gu_e (ga_j E w k a)) → wY_jump_10 post (nI w) (nI S) (nI D) (nI wb) (nI V) (nI cp) f_built f_codes f_made f_encoder f_places f_nodes a_edges a_x a_base a_weight a_number a_arrow a_mark a_list a_sum a_outW a_outS a_sent a_own a_chan a_at a_pick n (gu_e a) (gu_e k) := by
  intro k
  induction k with
  | zero =>
    intro n a hn _ _ hp
    obtain ⟨n, rfl⟩ : ∃ m, n = m + 1 := ⟨n - 1, by omega⟩
    exact br_t ((gu_elt (by omega)).mpr rfl) hp
  | succ k ih =>
    intro n a hn hk ha hp
    obtain ⟨n, rfl⟩ : ∃ m, n = m + 1 := ⟨n - 1, by omega⟩
    refine br_f (by rw [gu_elt (by omega)]; omega) ?_
    cases a with
    | zero =>
      rw [ga_j0] at hp
      exact br_t ((gu_elt (by omega)).mpr rfl) hp
    | succ a =>
      rw [ga_js] at hp
      have hi : 2 * a + w / 2 ^ k % 2 < 10 := by
        have := Nat.mod_lt (w / 2 ^ k) (show 0 < 2 by decide)
        omega
      refine br_f (by rw [gu_es]; exact nI_pos (by omega)) ⟨?_, nm_r (e' := gu_e (E (2 * a + w / 2 ^ k % 2))) ?_ (nm_r (gu_em' k) (ih n _ (by omega) (by omega) (hE _) hp))⟩
      · rw [gu_es, gu_es, ga_ix' (by omega) hw (by omega)]; exact vp_in_nI hi (by omega)
      · rw [gu_es, gu_es, ga_ix' (by omega) hw (by omega), nI_clamp (by omega), hT _ hi]; rfl
theorem ga_wyj {post : Int32 → Prop} {w u : Nat} (hT : ∀ i, i < 10 → a_edges i = nI (E i)) (hE : ∀ i, E i ≤ S) (hS : S ≤ 5) (hw : w < 8) (hwb : wb ≤ 3) (hu : u < S)
    (hp : post (gu_e (ga_j E w wb (u + 1)))) : wpY_jump post ((nI S), (nI D), (nI wb), (nI V), (nI cp), f_built, f_codes, f_made, f_encoder, f_places, f_nodes, a_edges, a_x, a_base, a_weight, a_number, a_arrow, a_mark, a_list, a_sum, a_outW, a_outS, a_sent, a_own, a_chan, a_at, a_pick) (nI u) (nI w) := by
  refine nm_e ⟨wb + 1, ?_⟩
  rw [← gu_es u]
  exact ga_yj hT hE hS hw wb (wb + 1) (u + 1) (by omega) hwb (by omega) hp
end GAY
end
section
/-! good vectors -/
def gb_t (J : Nat → Nat → Nat) (g : Nat → Nat) (u w : Nat) : Nat := if J u w = 0 then 0 else g (J u w - 1)
def gb_G (S D V : Nat) (J : Nat → Nat → Nat) (lv : Nat) (g : Nat → Nat) : Prop := ∀ u, u < S → g u ≤ lv ∧ D * g u ≤ gu_s (gb_t J g u) V
def gb_Gr (S D V : Nat) (J : Nat → Nat → Nat) (lv : Nat) (g : Nat → Nat) : Prop := gb_G S D V J lv g ∧ (∀ h, gb_G S D V J lv h → ∀ u, u < S → h u ≤ g u) ∧ ∀ u, S ≤ u → g u = 0
theorem gb_tm {S u w : Nat} {J : Nat → Nat → Nat} {g h : Nat → Nat} (hJ : ∀ u w, u < S → J u w ≤ S) (hu : u < S) (hg : ∀ v, v < S → h v ≤ g v) : gb_t J h u w ≤ gb_t J g u w := by
  unfold gb_t
  by_cases z : J u w = 0
  · rw [if_pos z, if_pos z]; omega
  · rw [if_neg z, if_neg z]
    exact hg _ (by have := hJ u w hu; omega)
theorem gb_sm {S u V : Nat} {J : Nat → Nat → Nat} {g h : Nat → Nat} (hJ : ∀ u w, u < S → J u w ≤ S) (hu : u < S) (hg : ∀ v, v < S → h v ≤ g v) : gu_s (gb_t J h u) V ≤ gu_s (gb_t J g u) V :=
  gu_sm fun _ _ => gb_tm hJ hu hg
theorem gb_max (P : Nat → Prop) (h0 : P 0) : ∀ b, (∀ k, P k → k ≤ b) → ∃ m, P m ∧ ∀ k, P k → k ≤ m := by
  intro b
  induction b with
  | zero => intro h; exact ⟨0, h0, h⟩
  | succ b ih =>
    intro h
    by_cases z : P (b + 1)
    · exact ⟨b + 1, z, h⟩
    · exact ih fun k hk => by
        have := h k hk
        rcases Nat.lt_or_ge k (b + 1) with y | y
        · omega
        · have e : k = b + 1 := by omega
          subst e; exact absurd hk z
theorem gb_ex {S D V lv : Nat} {J : Nat → Nat → Nat} (hJ : ∀ u w, u < S → J u w ≤ S) : ∃ g, gb_Gr S D V J lv g := by
  have h0 : gb_G S D V J lv (fun _ => 0) := fun u _ => ⟨Nat.zero_le _, by rw [Nat.mul_zero]; omega⟩
  have H : ∀ u : Nat, ∃ m, u < S → (∃ h, gb_G S D V J lv h ∧ h u = m) ∧ ∀ h, gb_G S D V J lv h → h u ≤ m := by
    intro u
    by_cases hu : u < S
    · obtain ⟨m, hm, hx⟩ := gb_max (fun k => ∃ h, gb_G S D V J lv h ∧ h u = k) ⟨_, h0, rfl⟩ lv (fun k ⟨h, hh, e⟩ => by have := (hh u hu).1; omega)
      exact ⟨m, fun _ => ⟨hm, fun h hh => hx _ ⟨h, hh, rfl⟩⟩⟩
    · exact ⟨0, fun z => absurd z hu⟩
  have ⟨f, hf⟩ := Classical.axiomOfChoice H
  have hle : ∀ h, gb_G S D V J lv h → ∀ u, u < S → h u ≤ (if u < S then f u else 0) := fun h hh u hu => by
    rw [if_pos hu]; exact (hf u hu).2 h hh
  refine ⟨fun u => if u < S then f u else 0, fun u hu => ?_, hle, fun u hu => if_neg (by omega)⟩
  obtain ⟨h, hh, e⟩ := (hf u hu).1
  have e2 : (fun u => if u < S then f u else 0) u = h u := by
    show (if u < S then f u else 0) = h u
    rw [if_pos hu, e]
  rw [e2]
  exact ⟨(hh u hu).1, Nat.le_trans (hh u hu).2 (gb_sm hJ hu (hle h hh))⟩
theorem gb_un {S D V lv : Nat} {J : Nat → Nat → Nat} {g h : Nat → Nat} (hg : gb_Gr S D V J lv g) (hh : gb_G S D V J lv h) (hx : ∀ k, gb_G S D V J lv k → ∀ u, u < S → k u ≤ h u) : ∀ u, u < S → h u = g u :=
  fun u hu => Nat.le_antisymm (hg.2.1 h hh u hu) (hx g hg.1 u hu)
section GBX
variable {S db wb D V cp lv : Nat} {J : Nat → Nat → Nat} {f_nodeCount f_listSize f_built f_codeCount f_splitCount f_encoder f_messageLength : Int32} {a_edgeTarget a_jumpTarget a_good a_nodeBase a_nodeWeight a_arrows a_renumber a_listWord a_listTarget a_seenAt a_seenSum a_alive a_codeBase a_stepWord a_stepTarget a_pairNow a_pairNext a_sentData a_sentWord a_channelWord : Nat → Int32}
/-- what holds of the vector while it is lowered -/
def gb_I (S D V : Nat) (J : Nat → Nat → Nat) (lv : Nat) (g : Nat → Nat) (gd : Nat → Int32) : Prop :=
  (∀ u, u < 5 → gd u = nI (g u)) ∧ (∀ u, g u ≤ lv) ∧ (∀ u, S ≤ u → g u = 0) ∧ ∀ h, gb_G S D V J lv h → ∀ u, u < S → h u ≤ g u
theorem gb_l17 {post : Int32 → SX → Prop} (J4 : Int32 → Int32 → (Nat → Int32) → (Nat → Int32) → (Nat → Int32) → (Nat → Int32) → (Nat → Int32) → (Nat → Int32) → (Nat → Int32) → (Nat → Int32) → (Nat → Int32) → (Nat → Int32) → (Nat → Int32) → (Nat → Int32) → (Nat → Int32) → (Nat → Int32) → (Nat → Int32) → (Nat → Int32) → (Nat → Int32) → (Nat → Int32) → (Nat → Int32) → (Nat → Int32) → Prop) {x1 : Int32} {u : Nat} {g : Nat → Nat} (hD : (db = 1 ∧ D = 2) ∨ (db = 2 ∧ D = 4)) (hS : S ≤ 5) (hV : V ≤ 8) (hl : lv ≤ 3) (hJ : ∀ u w, u < S → J u w ≤ S) (hu : u < S)
    (hT : ∀ u w, u < S → w < V → a_jumpTarget (8 * u + w) = gu_e (J u w)) (hI : gb_I S D V J lv g a_good)
    (h1 : g u ≤ gu_s (gb_t J g u) V / D → J4 x1 (nI (u + 1)) a_edgeTarget a_jumpTarget a_good a_nodeBase a_nodeWeight a_arrows a_renumber a_listWord a_listTarget a_seenAt a_seenSum a_alive a_codeBase a_stepWord a_stepTarget a_pairNow a_pairNext a_sentData a_sentWord a_channelWord)
    (h2 : ¬ g u ≤ gu_s (gb_t J g u) V / D → J4 1 (nI (u + 1)) a_edgeTarget a_jumpTarget (upd a_good u (nI (gu_s (gb_t J g u) V / D))) a_nodeBase a_nodeWeight a_arrows a_renumber a_listWord a_listTarget a_seenAt a_seenSum a_alive a_codeBase a_stepWord a_stepTarget a_pairNow a_pairNext a_sentData a_sentWord a_channelWord) :
    ∀ n w, V < n + w → w ≤ V → wX_lowerGood_17 post J4 x1 (nI u) (nI S) (nI db) (nI wb) (nI D) (nI V) (nI cp) f_nodeCount f_listSize f_built f_codeCount f_splitCount f_encoder f_messageLength a_edgeTarget a_jumpTarget a_good a_nodeBase a_nodeWeight a_arrows a_renumber a_listWord a_listTarget a_seenAt a_seenSum a_alive a_codeBase a_stepWord a_stepTarget a_pairNow a_pairNext a_sentData a_sentWord a_channelWord n (nI (gu_s (gb_t J g u) w)) (nI w) := by
  have hb : ∀ w, gu_s (gb_t J g u) w ≤ w * 3 := fun w => gu_sb fun i _ => by
    unfold gb_t
    split
    · omega
    · have := hI.2.1 (J u i - 1); omega
  intro n
  induction n with
  | zero => intro w h1 h2; omega
  | succ n ih =>
    intro w z1 z2
    refine pk_le V w (fun h => ?_) (fun h => ?_)
    · have e : w = V := by omega
      subst e
      have b := hb w
      have hq : gu_s (gb_t J g u) w / D ≤ gu_s (gb_t J g u) w := Nat.div_le_self _ _
      have hg := hI.2.1 u
      refine nm_r (gu_dD hD (by omega)) ⟨vp_in_nI (by omega) (by omega), ?_⟩
      have e1 : a_good (nI u).toNatClampNeg = nI (g u) := by rw [nI_clamp (by omega)]; exact hI.1 u (by omega)
      refine pk_le (g u) (gu_s (gb_t J g u) w / D) (fun h => nm_r (nI_1 u) (h1 h)) (fun h => ⟨vp_in_nI (by omega) (by omega), nm_r (by rw [nI_clamp (by omega)]) (nm_r (nI_1 u) (h2 (by omega)))⟩) e1
    · have hj := hJ u w hu
      refine ⟨gu_in8 (by omega) (by omega), nm_r (e' := gu_e (J u w)) (by rw [gu_c8 (by omega)]; exact hT u w hu (by omega)) ?_⟩
      have e : gu_s (gb_t J g u) (w + 1) = gu_s (gb_t J g u) w + gb_t J g u w := rfl
      by_cases z : J u w = 0
      · have e2 : gu_s (gb_t J g u) (w + 1) = gu_s (gb_t J g u) w := by rw [e]; unfold gb_t; rw [if_pos z]; rfl
        refine br_t ((gu_elt (by omega)).mpr z) (nm_r (nI_1 w) ?_)
        rw [← e2]
        exact ih (w + 1) (by omega) (by omega)
      · obtain ⟨v, hv⟩ : ∃ v, J u w = v + 1 := ⟨J u w - 1, by omega⟩
        have e2 : gu_s (gb_t J g u) (w + 1) = gu_s (gb_t J g u) w + g v := by rw [e]; congr 1; unfold gb_t; rw [if_neg z, hv]; rfl
        rw [hv, gu_es]
        refine br_f (nI_pos (by omega)) ⟨vp_in_nI (by omega) (by omega), nm_r (e' := nI (gu_s (gb_t J g u) (w + 1))) (by rw [nI_clamp (by omega), hI.1 v (by omega), nI_add, e2]) (nm_r (nI_1 w) (ih (w + 1) (by omega) (by omega)))⟩
/-- one pass: from g0 -/
theorem gb_l4 {post : Int32 → SX → Prop} {g0 : Nat → Nat} (hD : (db = 1 ∧ D = 2) ∨ (db = 2 ∧ D = 4)) (hS : S ≤ 5) (hV : V ≤ 8) (hl : lv ≤ 3) (hJ : ∀ u w, u < S → J u w ≤ S)
    (hT : ∀ u w, u < S → w < V → a_jumpTarget (8 * u + w) = gu_e (J u w))
    (hp0 : ∀ g gd, gb_I S D V J lv g gd → gb_G S D V J lv g → post 0 ((nI S), (nI db), (nI wb), (nI D), (nI V), (nI cp), f_nodeCount, f_listSize, f_built, f_codeCount, f_splitCount, f_encoder, f_messageLength, a_edgeTarget, a_jumpTarget, gd, a_nodeBase, a_nodeWeight, a_arrows, a_renumber, a_listWord, a_listTarget, a_seenAt, a_seenSum, a_alive, a_codeBase, a_stepWord, a_stepTarget, a_pairNow, a_pairNext, a_sentData, a_sentWord, a_channelWord))
    (hp1 : ∀ g gd, gb_I S D V J lv g gd → gu_s g 5 < gu_s g0 5 → post 1 ((nI S), (nI db), (nI wb), (nI D), (nI V), (nI cp), f_nodeCount, f_listSize, f_built, f_codeCount, f_splitCount, f_encoder, f_messageLength, a_edgeTarget, a_jumpTarget, gd, a_nodeBase, a_nodeWeight, a_arrows, a_renumber, a_listWord, a_listTarget, a_seenAt, a_seenSum, a_alive, a_codeBase, a_stepWord, a_stepTarget, a_pairNow, a_pairNext, a_sentData, a_sentWord, a_channelWord)) :
    ∀ n u ch g gd, S < n + u → u ≤ S → gb_I S D V J lv g gd →
      (ch = 0 ∧ gu_s g 5 = gu_s g0 5 ∧ (∀ u', u' < u → D * g u' ≤ gu_s (gb_t J g u') V) ∨ ch = 1 ∧ gu_s g 5 < gu_s g0 5) → wX_lowerGood_4 post (nI S) (nI db) (nI wb) (nI D) (nI V) (nI cp) f_nodeCount f_listSize f_built f_codeCount f_splitCount f_encoder f_messageLength n ch (nI u) a_edgeTarget a_jumpTarget gd a_nodeBase a_nodeWeight a_arrows a_renumber a_listWord a_listTarget a_seenAt a_seenSum a_alive a_codeBase a_stepWord a_stepTarget a_pairNow a_pairNext a_sentData a_sentWord a_channelWord := by
  intro n
  induction n with
  | zero => intro u ch g gd z1 z2; omega
  | succ n ih =>
    intro u ch g gd z1 z2 hI hc
    refine pk_le S u (fun h => ?_) (fun h => ⟨V + 1, ?_⟩)
    · have e : u = S := by omega
      subst e
      rcases hc with ⟨rfl, _, c⟩ | ⟨rfl, c⟩
      · exact ⟨rfl, hp0 g gd hI fun u hu => ⟨hI.2.1 u, c u hu⟩⟩
      · exact ⟨rfl, hp1 g gd hI c⟩
    · have hDp : 0 < D := by omega
      refine gb_l17 (wX_lowerGood_4 post (nI S) (nI db) (nI wb) (nI D) (nI V) (nI cp) f_nodeCount f_listSize f_built f_codeCount f_splitCount f_encoder f_messageLength n) hD hS hV hl hJ (by omega) hT hI (fun hq => ?_) (fun hq => ?_) (V + 1) 0 (by omega) (by omega)
      · refine ih (u + 1) ch g gd (by omega) (by omega) hI ?_
        rcases hc with ⟨c1, c2, c3⟩ | c
        · refine Or.inl ⟨c1, c2, fun u' hu' => ?_⟩
          by_cases e : u' = u
          · subst e
            rw [Nat.le_div_iff_mul_le hDp] at hq
            rw [Nat.mul_comm]; exact hq
          · exact c3 u' (by omega)
        · exact Or.inr c
      · have hlt : gu_s (gb_t J g u) V / D < g u := by omega
        have hw : ∀ v, (fun v => if v = u then gu_s (gb_t J g u) V / D else g v) v ≤ g v := by
          intro v
          show (if v = u then gu_s (gb_t J g u) V / D else g v) ≤ g v
          split
          · rename_i e; subst e; omega
          · exact Nat.le_refl _
        refine ih (u + 1) 1 (fun v => if v = u then gu_s (gb_t J g u) V / D else g v) _ (by omega) (by omega) ⟨?_, ?_, ?_, ?_⟩ (Or.inr ⟨rfl, ?_⟩)
        · intro v hv
          show upd gd u _ v = nI (if v = u then gu_s (gb_t J g u) V / D else g v)
          by_cases e : v = u
          · subst e; rw [pk_us, if_pos rfl]
          · rw [pk_un e, if_neg e]; exact hI.1 v hv
        · intro v; exact Nat.le_trans (hw v) (hI.2.1 v)
        · intro v hv
          show (if v = u then gu_s (gb_t J g u) V / D else g v) = 0
          rw [if_neg (by omega)]; exact hI.2.2.1 v hv
        · intro k hk v hv
          show k v ≤ (if v = u then gu_s (gb_t J g u) V / D else g v)
          by_cases e : v = u
          · subst e
            rw [if_pos rfl, Nat.le_div_iff_mul_le hDp, Nat.mul_comm]
            exact Nat.le_trans (hk v hv).2 (gb_sm hJ hv (hI.2.2.2 k hk))
          · rw [if_neg e]; exact hI.2.2.2 k hk v hv
        · have a : gu_s (fun v => if v = u then gu_s (gb_t J g u) V / D else g v) 5 < gu_s g 5 :=
            gu_slt (j := u) (by show (if u = u then _ else _) < _; rw [if_pos rfl]; exact hlt) (fun i _ => hw i) (by omega)
          rcases hc with ⟨_, c2, _⟩ | ⟨_, c⟩ <;> omega
theorem gb_l {post : Int32 → SX → Prop} {g : Nat → Nat} (hD : (db = 1 ∧ D = 2) ∨ (db = 2 ∧ D = 4)) (hS : S ≤ 5) (hV : V ≤ 8) (hl : lv ≤ 3) (hJ : ∀ u w, u < S → J u w ≤ S)
    (hT : ∀ u w, u < S → w < V → a_jumpTarget (8 * u + w) = gu_e (J u w)) (hI : gb_I S D V J lv g a_good)
    (hp0 : ∀ g gd, gb_I S D V J lv g gd → gb_G S D V J lv g → post 0 ((nI S), (nI db), (nI wb), (nI D), (nI V), (nI cp), f_nodeCount, f_listSize, f_built, f_codeCount, f_splitCount, f_encoder, f_messageLength, a_edgeTarget, a_jumpTarget, gd, a_nodeBase, a_nodeWeight, a_arrows, a_renumber, a_listWord, a_listTarget, a_seenAt, a_seenSum, a_alive, a_codeBase, a_stepWord, a_stepTarget, a_pairNow, a_pairNext, a_sentData, a_sentWord, a_channelWord))
    (hp1 : ∀ g' gd, gb_I S D V J lv g' gd → gu_s g' 5 < gu_s g 5 → post 1 ((nI S), (nI db), (nI wb), (nI D), (nI V), (nI cp), f_nodeCount, f_listSize, f_built, f_codeCount, f_splitCount, f_encoder, f_messageLength, a_edgeTarget, a_jumpTarget, gd, a_nodeBase, a_nodeWeight, a_arrows, a_renumber, a_listWord, a_listTarget, a_seenAt, a_seenSum, a_alive, a_codeBase, a_stepWord, a_stepTarget, a_pairNow, a_pairNext, a_sentData, a_sentWord, a_channelWord)) : wpX_lowerGood post ((nI S), (nI db), (nI wb), (nI D), (nI V), (nI cp), f_nodeCount, f_listSize, f_built, f_codeCount, f_splitCount, f_encoder, f_messageLength, a_edgeTarget, a_jumpTarget, a_good, a_nodeBase, a_nodeWeight, a_arrows, a_renumber, a_listWord, a_listTarget, a_seenAt, a_seenSum, a_alive, a_codeBase, a_stepWord, a_stepTarget, a_pairNow, a_pairNext, a_sentData, a_sentWord, a_channelWord) :=
  ⟨S + 1, gb_l4 hD hS hV hl hJ hT hp0 hp1 (S + 1) 0 0 g a_good (by omega) (by omega) hI (Or.inl ⟨rfl, rfl, fun u' h => by omega⟩)⟩
theorem gb_f59 {post : Int32 → SX → Prop} {g : Nat → Nat} (hS : S ≤ 5) (hl : lv ≤ 3) (hg : ∀ u, u < 5 → a_good u = nI (g u)) (hle : ∀ u, g u ≤ lv)
    (hp0 : (∀ u, u < S → g u = 0) → post 0 ((nI S), (nI db), (nI wb), (nI D), (nI V), (nI cp), f_nodeCount, f_listSize, f_built, f_codeCount, f_splitCount, f_encoder, f_messageLength, a_edgeTarget, a_jumpTarget, a_good, a_nodeBase, a_nodeWeight, a_arrows, a_renumber, a_listWord, a_listTarget, a_seenAt, a_seenSum, a_alive, a_codeBase, a_stepWord, a_stepTarget, a_pairNow, a_pairNext, a_sentData, a_sentWord, a_channelWord)) (hp1 : (∃ u, u < S ∧ 0 < g u) → post 1 ((nI S), (nI db), (nI wb), (nI D), (nI V), (nI cp), f_nodeCount, f_listSize, f_built, f_codeCount, f_splitCount, f_encoder, f_messageLength, a_edgeTarget, a_jumpTarget, a_good, a_nodeBase, a_nodeWeight, a_arrows, a_renumber, a_listWord, a_listTarget, a_seenAt, a_seenSum, a_alive, a_codeBase, a_stepWord, a_stepTarget, a_pairNow, a_pairNext, a_sentData, a_sentWord, a_channelWord)) :
    ∀ n u, S < n + u → u ≤ S → (∀ v, v < u → g v = 0) → wX_findGood_59 post (nI S) (nI db) (nI wb) (nI D) (nI V) (nI cp) f_nodeCount f_listSize f_built f_codeCount f_splitCount f_encoder f_messageLength a_edgeTarget a_jumpTarget a_good a_nodeBase a_nodeWeight a_arrows a_renumber a_listWord a_listTarget a_seenAt a_seenSum a_alive a_codeBase a_stepWord a_stepTarget a_pairNow a_pairNext a_sentData a_sentWord a_channelWord n (nI u) := by
  intro n
  induction n with
  | zero => intro u z1 z2; omega
  | succ n ih =>
    intro u z1 z2 h0
    refine pk_le S u (fun h => hp0 fun v hv => h0 v (by omega)) (fun h => ⟨vp_in_nI (by omega) (by omega), ?_⟩)
    have e1 : a_good (nI u).toNatClampNeg = nI (g u) := by rw [nI_clamp (by omega)]; exact hg u (by omega)
    have := hle u
    refine pk_le (g u) 0 (fun z => nm_r (nI_1 u) (ih (u + 1) (by omega) (by omega) fun v hv => ?_)) (fun z => hp1 ⟨u, h, z⟩) e1
    by_cases e : v = u
    · subst e; omega
    · exact h0 v (by omega)
theorem gb_f36 {post : Int32 → SX → Prop} {G : Nat → Nat} (hD : (db = 1 ∧ D = 2) ∨ (db = 2 ∧ D = 4)) (hS : S ≤ 5) (hV : V ≤ 8) (hl : lv ≤ 3) (hJ : ∀ u w, u < S → J u w ≤ S)
    (hT : ∀ u w, u < S → w < V → a_jumpTarget (8 * u + w) = gu_e (J u w)) (hG : gb_Gr S D V J lv G)
    (hp0 : ∀ gd, (∀ u, u < 5 → gd u = nI (G u)) → (∀ u, u < S → G u = 0) → post 0 ((nI S), (nI db), (nI wb), (nI D), (nI V), (nI cp), f_nodeCount, f_listSize, f_built, f_codeCount, f_splitCount, f_encoder, f_messageLength, a_edgeTarget, a_jumpTarget, gd, a_nodeBase, a_nodeWeight, a_arrows, a_renumber, a_listWord, a_listTarget, a_seenAt, a_seenSum, a_alive, a_codeBase, a_stepWord, a_stepTarget, a_pairNow, a_pairNext, a_sentData, a_sentWord, a_channelWord))
    (hp1 : ∀ gd, (∀ u, u < 5 → gd u = nI (G u)) → (∃ u, u < S ∧ 0 < G u) → post 1 ((nI S), (nI db), (nI wb), (nI D), (nI V), (nI cp), f_nodeCount, f_listSize, f_built, f_codeCount, f_splitCount, f_encoder, f_messageLength, a_edgeTarget, a_jumpTarget, gd, a_nodeBase, a_nodeWeight, a_arrows, a_renumber, a_listWord, a_listTarget, a_seenAt, a_seenSum, a_alive, a_codeBase, a_stepWord, a_stepTarget, a_pairNow, a_pairNext, a_sentData, a_sentWord, a_channelWord)) :
    ∀ n p ch g gd, 17 < n + p → gb_I S D V J lv g gd → (ch = 0 ∧ gb_G S D V J lv g ∧ p ≤ 16 ∨ ch = 1 ∧ gu_s g 5 + p ≤ 15) → wX_findGood_36 post n ch (nI p) (nI S) (nI db) (nI wb) (nI D) (nI V) (nI cp) f_nodeCount f_listSize f_built f_codeCount f_splitCount f_encoder f_messageLength a_edgeTarget a_jumpTarget gd a_nodeBase a_nodeWeight a_arrows a_renumber a_listWord a_listTarget a_seenAt a_seenSum a_alive a_codeBase a_stepWord a_stepTarget a_pairNow a_pairNext a_sentData a_sentWord a_channelWord := by
  have key : ∀ g gd, gb_I S D V J lv g gd → gb_G S D V J lv g → ∃ n59, wX_findGood_59 post (nI S) (nI db) (nI wb) (nI D) (nI V) (nI cp) f_nodeCount f_listSize f_built f_codeCount f_splitCount f_encoder f_messageLength a_edgeTarget a_jumpTarget gd a_nodeBase a_nodeWeight a_arrows a_renumber a_listWord a_listTarget a_seenAt a_seenSum a_alive a_codeBase a_stepWord a_stepTarget a_pairNow a_pairNext a_sentData a_sentWord a_channelWord n59 0 := by
    intro g gd hI hg
    have e := gb_un hG hg hI.2.2.2
    have e2 : ∀ u, g u = G u := fun u => by
      rcases Nat.lt_or_ge u S with z | z
      · exact e u z
      · rw [hI.2.2.1 u z, hG.2.2 u z]
    have e3 : ∀ u, u < 5 → gd u = nI (G u) := fun u hu => by rw [hI.1 u hu, e2]
    exact ⟨S + 1, gb_f59 hS hl e3 (fun u => by rw [← e2]; exact hI.2.1 u) (hp0 gd e3) (hp1 gd e3) (S + 1) 0 (by omega) (by omega) (fun v h => by omega)⟩
  intro n
  induction n with
  | zero => intro p ch g gd z hI hc; omega
  | succ n ih =>
    intro p ch g gd z hI hc
    rcases hc with ⟨rfl, hg, hp⟩ | ⟨rfl, hs⟩
    · exact pk_le 17 p (fun _ => key g gd hI hg) (fun _ => br_t rfl (key g gd hI hg))
    · refine pk_le 17 p (fun h => by omega) (fun h => br_f (by decide) ?_)
      refine gb_l hD hS hV hl hJ hT hI (fun g' gd' hI' hg' => nm_r (nI_1 p) (ih (p + 1) 0 g' gd' (by omega) hI' (Or.inl ⟨rfl, hg', by omega⟩))) (fun g' gd' hI' hs' => nm_r (nI_1 p) (ih (p + 1) 1 g' gd' (by omega) hI' (Or.inr ⟨rfl, by omega⟩)))
theorem gb_f2 {post : Int32 → SX → Prop} (hS : S ≤ 5) (hl : lv ≤ 3)
    (hk : ∀ gd, (∀ u, u < 5 → gd u = nI (if u < S then lv else 0)) → ∃ n36, wX_findGood_36 post n36 1 0 (nI S) (nI db) (nI wb) (nI D) (nI V) (nI cp) f_nodeCount f_listSize f_built f_codeCount f_splitCount f_encoder f_messageLength a_edgeTarget a_jumpTarget gd a_nodeBase a_nodeWeight a_arrows a_renumber a_listWord a_listTarget a_seenAt a_seenSum a_alive a_codeBase a_stepWord a_stepTarget a_pairNow a_pairNext a_sentData a_sentWord a_channelWord) :
    ∀ n u gd, 5 < n + u → u ≤ 5 → (∀ v, v < u → gd v = nI (if v < S then lv else 0)) → wX_findGood_2 post (nI lv) (nI S) (nI db) (nI wb) (nI D) (nI V) (nI cp) f_nodeCount f_listSize f_built f_codeCount f_splitCount f_encoder f_messageLength n (nI u) a_edgeTarget a_jumpTarget gd a_nodeBase a_nodeWeight a_arrows a_renumber a_listWord a_listTarget a_seenAt a_seenSum a_alive a_codeBase a_stepWord a_stepTarget a_pairNow a_pairNext a_sentData a_sentWord a_channelWord := by
  intro n
  induction n with
  | zero => intro u gd z1 z2; omega
  | succ n ih =>
    intro u gd z1 z2 hg
    have hs : ∀ x, x = (if u < S then lv else 0) → ∀ v, v < u + 1 → upd gd u (nI x) v = nI (if v < S then lv else 0) := by
      intro x hx v hv
      by_cases e : v = u
      · subst e; rw [pk_us, hx]
      · rw [pk_un e]; exact hg v (by omega)
    refine pk_le 5 u (fun h => hk gd fun v hv => hg v (by omega)) (fun h => ?_)
    refine pk_le S u (fun h2 => ⟨vp_in_nI (by omega) (by omega), nm_r (e' := upd gd u (nI 0)) (by rw [nI_clamp (by omega)]; rfl) (nm_r (nI_1 u) (ih (u + 1) _ (by omega) (by omega) (hs 0 (by rw [if_neg (by omega)]))))⟩) (fun h2 => ⟨vp_in_nI (by omega) (by omega), nm_r (e' := upd gd u (nI lv)) (by rw [nI_clamp (by omega)]) (nm_r (nI_1 u) (ih (u + 1) _ (by omega) (by omega) (hs lv (by rw [if_pos h2]))))⟩)
/-- findGood: the greatest good vector -/
theorem gb_f {post : Int32 → SX → Prop} {G : Nat → Nat} (hD : (db = 1 ∧ D = 2) ∨ (db = 2 ∧ D = 4)) (hS : S ≤ 5) (hV : V ≤ 8) (hl : lv ≤ 3) (hJ : ∀ u w, u < S → J u w ≤ S)
    (hT : ∀ u w, u < S → w < V → a_jumpTarget (8 * u + w) = gu_e (J u w)) (hG : gb_Gr S D V J lv G)
    (hp0 : ∀ gd, (∀ u, u < 5 → gd u = nI (G u)) → (∀ u, u < S → G u = 0) → post 0 ((nI S), (nI db), (nI wb), (nI D), (nI V), (nI cp), f_nodeCount, f_listSize, f_built, f_codeCount, f_splitCount, f_encoder, f_messageLength, a_edgeTarget, a_jumpTarget, gd, a_nodeBase, a_nodeWeight, a_arrows, a_renumber, a_listWord, a_listTarget, a_seenAt, a_seenSum, a_alive, a_codeBase, a_stepWord, a_stepTarget, a_pairNow, a_pairNext, a_sentData, a_sentWord, a_channelWord))
    (hp1 : ∀ gd, (∀ u, u < 5 → gd u = nI (G u)) → (∃ u, u < S ∧ 0 < G u) → post 1 ((nI S), (nI db), (nI wb), (nI D), (nI V), (nI cp), f_nodeCount, f_listSize, f_built, f_codeCount, f_splitCount, f_encoder, f_messageLength, a_edgeTarget, a_jumpTarget, gd, a_nodeBase, a_nodeWeight, a_arrows, a_renumber, a_listWord, a_listTarget, a_seenAt, a_seenSum, a_alive, a_codeBase, a_stepWord, a_stepTarget, a_pairNow, a_pairNext, a_sentData, a_sentWord, a_channelWord)) : wpX_findGood post ((nI S), (nI db), (nI wb), (nI D), (nI V), (nI cp), f_nodeCount, f_listSize, f_built, f_codeCount, f_splitCount, f_encoder, f_messageLength, a_edgeTarget, a_jumpTarget, a_good, a_nodeBase, a_nodeWeight, a_arrows, a_renumber, a_listWord, a_listTarget, a_seenAt, a_seenSum, a_alive, a_codeBase, a_stepWord, a_stepTarget, a_pairNow, a_pairNext, a_sentData, a_sentWord, a_channelWord) (nI lv) := by
  refine ⟨6, gb_f2 hS hl (fun gd hgd => ⟨18, ?_⟩) 6 0 a_good (by omega) (by omega) (fun v h => by omega)⟩
  refine gb_f36 hD hS hV hl hJ hT hG hp0 hp1 18 0 1 (fun u => if u < S then lv else 0) gd (by omega) ⟨hgd, ?_, ?_, ?_⟩ (Or.inr ⟨rfl, ?_⟩)
  · intro u
    show (if u < S then lv else 0) ≤ lv
    split <;> omega
  · intro u hu; exact if_neg (by omega)
  · intro h hh u hu
    show h u ≤ (if u < S then lv else 0)
    rw [if_pos hu]; exact (hh u hu).1
  · have := gu_sb (f := fun u => if u < S then lv else 0) (b := 3) (k := 5) (fun i _ => by
      show (if i < S then lv else 0) ≤ 3
      split <;> omega)
    omega
end GBX
end
section
/-! good vectors, the reference's side -/
def gb_d (c u : Nat) : Nat := c / 2 ^ (2 * u) % 4
theorem gb_yd {c u : Nat} (hc : c < 2 ^ 31) (hu : u < 5) : (nI c >>> ((2 * nI u) &&& 31)) &&& 3 = nI (gb_d c u) := by
  have e : (2 : Int32) * nI u = nI (2 * u) := pk_mul 2 u
  rw [e, gu_shr hc (by omega), gu_a3 (Nat.lt_of_le_of_lt (Nat.div_le_self _ _) hc)]; rfl
theorem gb_d3 (c u : Nat) : gb_d c u ≤ 3 := by
  have := Nat.mod_lt (c / 2 ^ (2 * u)) (show 0 < 4 by decide)
  unfold gb_d; omega
def gb_en (g : Nat → Nat) : Nat → Nat
  | 0 => 0
  | k + 1 => gb_en g k + g k * 2 ^ (2 * k)
theorem gb_enP {g : Nat → Nat} (hg : ∀ u, g u ≤ 3) : ∀ k, gb_en g k < 2 ^ (2 * k) ∧ ∀ u, u < k → gb_d (gb_en g k) u = g u := by
  intro k
  induction k with
  | zero => exact ⟨by show 0 < 2 ^ 0; decide, fun u h => by omega⟩
  | succ k ih =>
    obtain ⟨h1, h2⟩ := ih
    have e : gb_en g (k + 1) = gb_en g k + g k * 2 ^ (2 * k) := rfl
    have hP : 0 < 2 ^ (2 * k) := Nat.two_pow_pos _
    have hk := hg k
    constructor
    · have : 2 ^ (2 * (k + 1)) = 2 ^ (2 * k) * 4 := by rw [show 2 * (k + 1) = 2 * k + 2 from rfl, Nat.pow_add]
      rw [this, e]
      have := Nat.mul_le_mul_right (2 ^ (2 * k)) hk
      omega
    · intro u hu
      unfold gb_d
      rw [e]
      by_cases z : u = k
      · subst z
        rw [Nat.add_mul_div_right _ _ hP, Nat.div_eq_of_lt h1]
        omega
      · have hQ : 0 < 2 ^ (2 * u) := Nat.two_pow_pos _
        have e1 : 2 ^ (2 * k) = 2 ^ (2 * u) * (4 * 2 ^ (2 * (k - u - 1))) := by
          rw [show (4 : Nat) = 2 ^ 2 from rfl, ← Nat.pow_add, ← Nat.pow_add]
          congr 1; omega
        have e2 : g k * 2 ^ (2 * k) = 2 ^ (2 * u) * (4 * (g k * 2 ^ (2 * (k - u - 1)))) := by
          rw [e1]; ac_rfl
        rw [e2, Nat.add_mul_div_left _ _ hQ, Nat.add_mul_mod_self_left]
        exact h2 u (by omega)
theorem gb_Gc {S D V lv : Nat} {J : Nat → Nat → Nat} {g h : Nat → Nat} (hJ : ∀ u w, u < S → J u w ≤ S) (e : ∀ u, u < S → g u = h u) (hg : gb_G S D V J lv g) : gb_G S D V J lv h := by
  intro u hu
  rw [← e u hu]
  exact ⟨(hg u hu).1, Nat.le_trans (hg u hu).2 (gb_sm hJ hu fun v hv => Nat.le_of_eq (e v hv))⟩
theorem gb_K : ∀ S, S < 6 → (1 : Int32) <<< ((2 * nI S) &&& 31) = nI (2 ^ (2 * S)) := by decide +kernel
theorem gb_K2 : ∀ S, S < 6 → 2 ^ (2 * S) ≤ 1024 := by decide +kernel
section GBY
variable {S wb D V cp lv : Nat} {E : Nat → Nat} {f_built f_codes f_made f_encoder f_places f_nodes : Int32} {a_edges a_x a_base a_weight a_number a_arrow a_mark a_list a_sum a_outW a_outS a_sent a_own a_chan a_at a_pick : Nat → Int32}
theorem gb_g16 {post : Int32 → Prop} (J2 : Int32 → Prop) {c u : Nat} (hT : ∀ i, i < 10 → a_edges i = nI (E i)) (hE : ∀ i, E i ≤ S) (hS : S ≤ 5) (hV : V ≤ 8) (hwb : wb ≤ 3) (hD : D ≤ 4) (hu : u < S) (hc : c < 2 ^ 31) (hl : lv ≤ 3)
    (hp0 : ¬ (gb_d c u ≤ lv ∧ D * gb_d c u ≤ gu_s (gb_t (fun u w => ga_j E w wb (u + 1)) (gb_d c) u) V) → post 0)
    (hp1 : gb_d c u ≤ lv ∧ D * gb_d c u ≤ gu_s (gb_t (fun u w => ga_j E w wb (u + 1)) (gb_d c) u) V → J2 (nI (u + 1))) :
    ∀ n w, V < n + w → w ≤ V → wY_good_16 post J2 (nI c) (nI lv) (nI u) (nI S) (nI D) (nI wb) (nI V) (nI cp) f_built f_codes f_made f_encoder f_places f_nodes a_edges a_x a_base a_weight a_number a_arrow a_mark a_list a_sum a_outW a_outS a_sent a_own a_chan a_at a_pick n (nI (gu_s (gb_t (fun u w => ga_j E w wb (u + 1)) (gb_d c) u) w)) (nI w) := by
  have hb : ∀ w, gu_s (gb_t (fun u w => ga_j E w wb (u + 1)) (gb_d c) u) w ≤ w * 3 := fun w => gu_sb fun i _ => by
    unfold gb_t
    split
    · omega
    · exact gb_d3 _ _
  intro n
  induction n with
  | zero => intro w h1 h2; omega
  | succ n ih =>
    intro w z1 z2
    have d3 := gb_d3 c u
    refine pk_le V w (fun h => ?_) (fun h => ?_)
    · have e : w = V := by omega
      subst e
      have b := hb w
      have m3 : D * gb_d c u ≤ 4 * 3 := Nat.mul_le_mul hD d3
      refine pk_lt lv (gb_d c u) (fun h => hp0 (fun z => by omega)) (fun h => ?_) rfl (gb_yd hc (by omega))
      exact pk_le (D * gb_d c u) (gu_s (gb_t (fun u w => ga_j E w wb (u + 1)) (gb_d c) u) w) (fun h2 => nm_r (nI_1 u) (hp1 ⟨h, h2⟩)) (fun h2 => hp0 (fun z => by omega)) (by rw [gb_yd hc (by omega), pk_mul])
    · refine ga_wyj hT hE hS (by omega) hwb hu ?_
      have e : gu_s (gb_t (fun u w => ga_j E w wb (u + 1)) (gb_d c) u) (w + 1) = gu_s (gb_t (fun u w => ga_j E w wb (u + 1)) (gb_d c) u) w + gb_t (fun u w => ga_j E w wb (u + 1)) (gb_d c) u w := rfl
      have hj : ga_j E w wb (u + 1) ≤ S := ga_jle hE _ _ (by omega)
      by_cases z : ga_j E w wb (u + 1) = 0
      · have e2 : gu_s (gb_t (fun u w => ga_j E w wb (u + 1)) (gb_d c) u) (w + 1) = gu_s (gb_t (fun u w => ga_j E w wb (u + 1)) (gb_d c) u) w := by rw [e]; unfold gb_t; rw [if_pos z]; rfl
        refine br_t ((gu_elt (by omega)).mpr z) (nm_r (nI_1 w) ?_)
        rw [← e2]
        exact ih (w + 1) (by omega) (by omega)
      · obtain ⟨v, hv⟩ : ∃ v, ga_j E w wb (u + 1) = v + 1 := ⟨ga_j E w wb (u + 1) - 1, by omega⟩
        have e2 : gu_s (gb_t (fun u w => ga_j E w wb (u + 1)) (gb_d c) u) (w + 1) = gu_s (gb_t (fun u w => ga_j E w wb (u + 1)) (gb_d c) u) w + gb_d c v := by rw [e]; congr 1; unfold gb_t; rw [if_neg z]; dsimp only; rw [hv]; rfl
        rw [hv, gu_es]
        refine br_f (nI_pos (by omega)) (nm_r (e' := nI (gu_s (gb_t (fun u w => ga_j E w wb (u + 1)) (gb_d c) u) (w + 1))) (by rw [gb_yd hc (by omega), nI_add, e2]) (nm_r (nI_1 w) (ih (w + 1) (by omega) (by omega))))
theorem gb_g2 {post : Int32 → Prop} {c : Nat} (hT : ∀ i, i < 10 → a_edges i = nI (E i)) (hE : ∀ i, E i ≤ S) (hS : S ≤ 5) (hV : V ≤ 8) (hwb : wb ≤ 3) (hD : D ≤ 4) (hc : c < 2 ^ 31) (hl : lv ≤ 3)
    (hp0 : ¬ gb_G S D V (fun u w => ga_j E w wb (u + 1)) lv (gb_d c) → post 0) (hp1 : gb_G S D V (fun u w => ga_j E w wb (u + 1)) lv (gb_d c) → post 1) :
    ∀ n u, S < n + u → u ≤ S → (∀ v, v < u → gb_d c v ≤ lv ∧ D * gb_d c v ≤ gu_s (gb_t (fun u w => ga_j E w wb (u + 1)) (gb_d c) v) V) → wY_good_2 post (nI c) (nI lv) (nI S) (nI D) (nI wb) (nI V) (nI cp) f_built f_codes f_made f_encoder f_places f_nodes a_edges a_x a_base a_weight a_number a_arrow a_mark a_list a_sum a_outW a_outS a_sent a_own a_chan a_at a_pick n (nI u) := by
  intro n
  induction n with
  | zero => intro u h1 h2; omega
  | succ n ih =>
    intro u z1 z2 hI
    refine pk_le S u (fun h => hp1 fun v hv => hI v (by omega)) (fun h => ⟨V + 1, ?_⟩)
    exact gb_g16 (wY_good_2 post (nI c) (nI lv) (nI S) (nI D) (nI wb) (nI V) (nI cp) f_built f_codes f_made f_encoder f_places f_nodes a_edges a_x a_base a_weight a_number a_arrow a_mark a_list a_sum a_outW a_outS a_sent a_own a_chan a_at a_pick n) hT hE hS hV hwb hD h hc hl (fun z => hp0 fun q => z (q u h)) (fun q => ih (u + 1) (by omega) (by omega) fun v hv => by
      by_cases e : v = u
      · subst e; exact q
      · exact hI v (by omega)) (V + 1) 0 (by omega) (by omega)
theorem gb_yg {post : Int32 → Prop} {c : Nat} (hT : ∀ i, i < 10 → a_edges i = nI (E i)) (hE : ∀ i, E i ≤ S) (hS : S ≤ 5) (hV : V ≤ 8) (hwb : wb ≤ 3) (hD : D ≤ 4) (hc : c < 2 ^ 31) (hl : lv ≤ 3)
    (hp0 : ¬ gb_G S D V (fun u w => ga_j E w wb (u + 1)) lv (gb_d c) → post 0) (hp1 : gb_G S D V (fun u w => ga_j E w wb (u + 1)) lv (gb_d c) → post 1) :
    wpY_good post ((nI S), (nI D), (nI wb), (nI V), (nI cp), f_built, f_codes, f_made, f_encoder, f_places, f_nodes, a_edges, a_x, a_base, a_weight, a_number, a_arrow, a_mark, a_list, a_sum, a_outW, a_outS, a_sent, a_own, a_chan, a_at, a_pick) (nI c) (nI lv) :=
  ⟨S + 1, gb_g2 hT hE hS hV hwb hD hc hl hp0 hp1 (S + 1) 0 (by omega) (by omega) (fun v h => by omega)⟩
theorem gb_v29 {post : Int32 → Prop} {G : Nat → Nat} {st : Nat} (hT : ∀ i, i < 10 → a_edges i = nI (E i)) (hE : ∀ i, E i ≤ S) (hS : S ≤ 5) (hV : V ≤ 8) (hwb : wb ≤ 3) (hD : D ≤ 4) (hl : lv ≤ 3) (hst : st < S)
    (hG : gb_Gr S D V (fun u w => ga_j E w wb (u + 1)) lv G) (hp : post (nI (G st))) :
    ∀ n c b, 2 ^ (2 * S) < n + c → c ≤ 2 ^ (2 * S) → b ≤ 3 → (∀ c', c' < c → gb_G S D V (fun u w => ga_j E w wb (u + 1)) lv (gb_d c') → gb_d c' st ≤ b) →
      (b = 0 ∨ ∃ c', gb_G S D V (fun u w => ga_j E w wb (u + 1)) lv (gb_d c') ∧ gb_d c' st = b) → wY_vector_29 post (nI lv) (nI st) (nI S) (nI D) (nI wb) (nI V) (nI cp) f_built f_codes f_made f_encoder f_places f_nodes a_edges a_x a_base a_weight a_number a_arrow a_mark a_list a_sum a_outW a_outS a_sent a_own a_chan a_at a_pick n (nI b) (nI c) := by
  have hK := gb_K2 S (by omega)
  have hJ : ∀ u w, u < S → (fun u w => ga_j E w wb (u + 1)) u w ≤ S := fun u w hu => ga_jle hE _ _ (by omega)
  intro n
  induction n with
  | zero => intro c b z1 z2; omega
  | succ n ih =>
    intro c b z1 z2 hb h1 h2
    have hd := gb_d3 c st
    have ec : (nI c >>> ((2 * nI st) &&& 31)) &&& 3 = nI (gb_d c st) := gb_yd (by omega) (by omega)
    refine pk_le (2 ^ (2 * S)) c (fun h => ?_) (fun h => ?_) (gb_K S (by omega))
    · have e : b = G st := by
        apply Nat.le_antisymm
        · rcases h2 with z | ⟨c', hc', e⟩
          · omega
          · rw [← e]; exact hG.2.1 _ hc' st hst
        · have hg3 : ∀ u, G u ≤ 3 := fun u => by
            rcases Nat.lt_or_ge u S with z | z
            · have := (hG.1 u z).1; omega
            · rw [hG.2.2 u z]; omega
          obtain ⟨p1, p2⟩ := gb_enP hg3 S
          have := h1 (gb_en G S) (by omega) (gb_Gc hJ (fun u hu => (p2 u hu).symm) hG.1)
          rw [p2 st hst] at this
          exact this
      rw [e]; exact hp
    · refine pk_le (gb_d c st) b (fun h3 => nm_r (nI_1 c) (ih (c + 1) b (by omega) (by omega) hb (fun c' hc' hg => ?_) h2)) (fun h3 => ?_) ec
      · by_cases e : c' = c
        · subst e; exact h3
        · exact h1 c' (by omega) hg
      · refine gb_yg hT hE hS hV hwb hD (by omega) hl (fun hn => br_t rfl (nm_r (nI_1 c) (ih (c + 1) b (by omega) (by omega) hb (fun c' hc' hg => ?_) h2))) (fun hy => br_f (by decide) (nm_r ec (nm_r (nI_1 c) (ih (c + 1) (gb_d c st) (by omega) (by omega) hd (fun c' hc' hg => ?_) (Or.inr ⟨c, hy, rfl⟩)))))
        · by_cases e : c' = c
          · subst e; exact absurd hg hn
          · exact h1 c' (by omega) hg
        · by_cases e : c' = c
          · subst e; exact Nat.le_refl _
          · have := h1 c' (by omega) hg; omega
/-- vector: the greatest good vector's value -/
theorem gb_v {post : Int32 → Prop} {G : Nat → Nat} {st : Nat} (hT : ∀ i, i < 10 → a_edges i = nI (E i)) (hE : ∀ i, E i ≤ S) (hS : S ≤ 5) (hV : V ≤ 8) (hwb : wb ≤ 3) (hD : D ≤ 4) (h1 : 1 ≤ lv) (hl : lv ≤ 3) (hst : st < S)
    (hG : gb_Gr S D V (fun u w => ga_j E w wb (u + 1)) lv G) (hp : post (nI (G st))) : wpY_vector post ((nI S), (nI D), (nI wb), (nI V), (nI cp), f_built, f_codes, f_made, f_encoder, f_places, f_nodes, a_edges, a_x, a_base, a_weight, a_number, a_arrow, a_mark, a_list, a_sum, a_outW, a_outS, a_sent, a_own, a_chan, a_at, a_pick) (nI lv) (nI st) :=
  pk_lt lv 1 (fun h => by omega) (fun _ => pk_lt 3 lv (fun h => by omega) (fun _ => br_f (nI_pos (by omega)) (pk_lt st S (fun _ => ⟨2 ^ (2 * S) + 1, gb_v29 hT hE hS hV hwb hD hl hst hG hp _ 0 0 (Nat.lt_succ_self _) (Nat.zero_le _) (by omega) (fun c' h => by omega) (Or.inl rfl)⟩) (fun h => by omega))))
end GBY
end
section
/-! splitting, pure: the list of a node's arrows, f first -/
def gs_c (B : Nat → Bool) (f : Nat) : Nat → Nat
  | 0 => 1
  | p + 1 => gs_c B f p + (if B p = true ∧ p ≠ f then 1 else 0)
def gs_h (B : Nat → Bool) (f : Nat) : Nat → Nat → Nat
  | 0, _ => f
  | p + 1, e => if (B p = true ∧ p ≠ f) ∧ e = gs_c B f p then p else gs_h B f p e
def gs_i (B : Nat → Bool) (f q : Nat) : Nat := if q = f then 0 else gs_c B f q
section GSL
variable {B : Nat → Bool} {f : Nat}
theorem gs_cT {p : Nat} (h : B p = true) (hn : p ≠ f) : gs_c B f (p + 1) = gs_c B f p + 1 := by
  show gs_c B f p + (if B p = true ∧ p ≠ f then 1 else 0) = _
  rw [if_pos ⟨h, hn⟩]
theorem gs_cF {p : Nat} (h : ¬ (B p = true ∧ p ≠ f)) : gs_c B f (p + 1) = gs_c B f p := by
  show gs_c B f p + (if B p = true ∧ p ≠ f then 1 else 0) = _
  rw [if_neg h]; rfl
theorem gs_c1 : ∀ p, 1 ≤ gs_c B f p := by
  intro p
  induction p with
  | zero => exact Nat.le_refl 1
  | succ p ih => show 1 ≤ gs_c B f p + _; omega
theorem gs_cs (p : Nat) : gs_c B f p ≤ gs_c B f (p + 1) := Nat.le_add_right _ _
theorem gs_cm {p q : Nat} (h : p ≤ q) : gs_c B f p ≤ gs_c B f q := by
  induction q with
  | zero => have e : p = 0 := by omega
            subst e; exact Nat.le_refl _
  | succ q ih =>
    rcases Nat.lt_or_ge q p with z | z
    · have e : p = q + 1 := by omega
      subst e; exact Nat.le_refl _
    · exact Nat.le_trans (ih z) (gs_cs q)
theorem gs_cle : ∀ p, gs_c B f p + (if f < p then 1 else 0) ≤ p + 1 := by
  intro p
  induction p with
  | zero => rw [if_neg (by omega)]; exact Nat.le_refl _
  | succ p ih =>
    by_cases h : B p = true ∧ p ≠ f
    · rw [gs_cT h.1 h.2]
      have h2 := h.2
      by_cases z : f < p
      · rw [if_pos z] at ih; rw [if_pos (by omega)]; omega
      · rw [if_neg z] at ih; rw [if_neg (by omega)]; omega
    · rw [gs_cF h]
      by_cases z : f < p
      · rw [if_pos z] at ih; rw [if_pos (by omega)]; omega
      · rw [if_neg z] at ih; split <;> omega
theorem gs_hT {p : Nat} (h : B p = true) (hn : p ≠ f) : gs_h B f (p + 1) (gs_c B f p) = p := if_pos ⟨⟨h, hn⟩, rfl⟩
theorem gs_hF {p e : Nat} (h : e ≠ gs_c B f p) : gs_h B f (p + 1) e = gs_h B f p e := if_neg fun z => h z.2
theorem gs_hF' {p e : Nat} (h : ¬ (B p = true ∧ p ≠ f)) : gs_h B f (p + 1) e = gs_h B f p e := if_neg fun z => h z.1
theorem gs_hk {p e : Nat} (he : e < gs_c B f p) : ∀ q, p ≤ q → gs_h B f q e = gs_h B f p e := by
  intro q
  induction q with
  | zero => intro h; have e : p = 0 := by omega
            subst e; rfl
  | succ q ih =>
    intro h
    rcases Nat.lt_or_ge q p with z | z
    · have e : p = q + 1 := by omega
      subst e; rfl
    · rw [gs_hF (by have := gs_cm (B := B) (f := f) z; omega)]
      exact ih z
theorem gs_hi {q p : Nat} (h : B q = true) (hn : q ≠ f) (hp : q < p) : gs_h B f p (gs_c B f q) = q := by
  rw [gs_hk (p := q + 1) (by rw [gs_cT h hn]; omega) p hp]
  exact gs_hT h hn
theorem gs_h0 (p : Nat) : gs_h B f p 0 = f := gs_hk (p := 0) (show 0 < 1 by decide) p (Nat.zero_le _)
theorem gs_hb : ∀ p e, e < gs_c B f p → (e = 0 ∧ gs_h B f p e = f) ∨ (1 ≤ e ∧ gs_h B f p e < p ∧ B (gs_h B f p e) = true ∧ gs_h B f p e ≠ f ∧ gs_c B f (gs_h B f p e) = e) := by
  intro p
  induction p with
  | zero => intro e he; exact Or.inl ⟨by have : e < 1 := he; omega, rfl⟩
  | succ p ih =>
    intro e he
    by_cases h : B p = true ∧ p ≠ f
    · rw [gs_cT h.1 h.2] at he
      by_cases z : e = gs_c B f p
      · subst z
        rw [gs_hT h.1 h.2]
        exact Or.inr ⟨gs_c1 p, by omega, h.1, h.2, rfl⟩
      · rw [gs_hF z]
        rcases ih e (by omega) with r | ⟨r1, r2, r3⟩
        · exact Or.inl r
        · exact Or.inr ⟨r1, by omega, r3⟩
    · rw [gs_cF h] at he
      rw [gs_hF' h]
      rcases ih e he with r | ⟨r1, r2, r3⟩
      · exact Or.inl r
      · exact Or.inr ⟨r1, by omega, r3⟩
theorem gs_ih {p e : Nat} (he : e < gs_c B f p) : gs_i B f (gs_h B f p e) = e := by
  unfold gs_i
  rcases gs_hb p e he with ⟨r1, r2⟩ | ⟨_, _, _, r4, r5⟩
  · rw [if_pos r2]; exact r1.symm
  · rw [if_neg r4]; exact r5
theorem gs_hi' {p q : Nat} (h : B q = true) (hp : q < p) : gs_h B f p (gs_i B f q) = q := by
  unfold gs_i
  by_cases z : q = f
  · rw [if_pos z, gs_h0]; exact z.symm
  · rw [if_neg z]; exact gs_hi h z hp
theorem gs_il {p q : Nat} (h : B q = true) (hp : q < p) : gs_i B f q < gs_c B f p := by
  unfold gs_i
  by_cases z : q = f
  · rw [if_pos z]; exact gs_c1 p
  · rw [if_neg z]
    have := gs_cm (B := B) (f := f) (show q + 1 ≤ p from hp)
    rw [gs_cT h z] at this
    omega
theorem gs_hB {p e : Nat} (hf : B f = true) (hp : f < p) (he : e < gs_c B f p) : B (gs_h B f p e) = true ∧ gs_h B f p e < p := by
  rcases gs_hb p e he with ⟨_, r2⟩ | ⟨_, r2, r3, _⟩
  · rw [r2]; exact ⟨hf, hp⟩
  · exact ⟨r3, r2⟩
theorem gs_iinj {q q' p : Nat} (h : B q = true) (h' : B q' = true) (hp : q < p) (hp' : q' < p) (e : gs_i B f q = gs_i B f q') : q = q' := by
  rw [← gs_hi' (f := f) h hp, ← gs_hi' (f := f) h' hp', e]
theorem gs_sum {P : Nat} (F : Nat → Nat) (hf : B f = true) : ∀ p, p ≤ P → gu_s (fun e => F (gs_h B f P e)) (gs_c B f p) + (if f < p then F f else 0) = F f + gu_s (fun q => if B q = true then F q else 0) p := by
  intro p
  induction p with
  | zero =>
    intro _
    rw [if_neg (by omega)]
    show gu_s (fun e => F (gs_h B f P e)) 1 + 0 = F f + 0
    rw [gu_s1]
    show 0 + F (gs_h B f P 0) + 0 = _
    rw [gs_h0]; omega
  | succ p ih =>
    intro hp
    have := ih (by omega)
    rw [gu_s1]
    by_cases h : B p = true ∧ p ≠ f
    · have e : F (gs_h B f P (gs_c B f p)) = F p := congrArg F (gs_hi h.1 h.2 (by omega))
      have h2 := h.2
      rw [gs_cT h.1 h.2, gu_s1, e, if_pos h.1]
      by_cases z : f < p
      · rw [if_pos z] at this; rw [if_pos (by omega)]; omega
      · rw [if_neg z] at this; rw [if_neg (by omega)]; omega
    · rw [gs_cF h]
      by_cases z : p = f
      · subst z
        rw [if_neg (by omega)] at this
        rw [if_pos (by omega), if_pos hf]
        omega
      · rw [if_neg (fun q => h ⟨q, z⟩)]
        by_cases y : f < p
        · rw [if_pos y] at this; rw [if_pos (by omega)]; omega
        · rw [if_neg y] at this; rw [if_neg (by omega)]; omega
theorem gs_sumP {P : Nat} (F : Nat → Nat) (hf : B f = true) (hP : f < P) : gu_s (fun e => F (gs_h B f P e)) (gs_c B f P) = gu_s (fun q => if B q = true then F q else 0) P := by
  have := gs_sum (P := P) F hf P (Nat.le_refl _)
  rw [if_pos hP] at this
  omega
end GSL
theorem gu_sij {x : Nat → Nat} {i j : Nat} (hij : i ≤ j) : ∀ k, gu_s (fun e => if i ≤ e ∧ e < j then x e else 0) k + gu_s x (min i k) = gu_s x (min j k) := by
  intro k
  induction k with
  | zero => rw [Nat.min_zero, Nat.min_zero]; rfl
  | succ k ih =>
    rw [gu_s1]
    by_cases h1 : k < i
    · rw [if_neg (by omega), Nat.min_eq_right (by omega), Nat.min_eq_right (by omega), gu_s1]
      rw [Nat.min_eq_right (by omega), Nat.min_eq_right (by omega)] at ih
      omega
    · by_cases h2 : k < j
      · rw [if_pos (by omega), Nat.min_eq_left (by omega), Nat.min_eq_right (by omega), gu_s1]
        rw [Nat.min_eq_left (by omega), Nat.min_eq_right (by omega)] at ih
        omega
      · rw [if_neg (by omega), Nat.min_eq_left (by omega), Nat.min_eq_left (by omega)]
        rw [Nat.min_eq_left (by omega), Nat.min_eq_left (by omega)] at ih
        omega
theorem gs_pg : ∀ (n : Nat) (f : Nat → Nat), (∀ i, i ≤ n → f i < n) → ∃ a b, a < b ∧ b ≤ n ∧ f a = f b := by
  intro n
  induction n with
  | zero => intro f h; exact absurd (h 0 (Nat.le_refl _)) (by omega)
  | succ n ih =>
    intro f h
    by_cases c : ∃ i, i ≤ n ∧ f i = f (n + 1)
    · obtain ⟨i, hi, e⟩ := c
      exact ⟨i, n + 1, by omega, by omega, e⟩
    · have c' : ∀ i, i ≤ n → f i ≠ f (n + 1) := fun i hi e => c ⟨i, hi, e⟩
      have hn := h (n + 1) (by omega)
      obtain ⟨a, b, hab, hb, e⟩ := ih (fun i => if f i = n then f (n + 1) else f i) (fun i hi => by
        show (if f i = n then f (n + 1) else f i) < n
        have h1 := h i (by omega)
        have h2 := c' i hi
        split <;> omega)
      have e' : (if f a = n then f (n + 1) else f a) = (if f b = n then f (n + 1) else f b) := e
      have h1 := c' a (by omega)
      have h2 := c' b hb
      refine ⟨a, b, hab, by omega, ?_⟩
      by_cases za : f a = n
      · by_cases zb : f b = n
        · rw [za, zb]
        · rw [if_pos za, if_neg zb] at e'; exact absurd e'.symm h2
      · by_cases zb : f b = n
        · rw [if_neg za, if_pos zb] at e'; exact absurd e' h1
        · rw [if_neg za, if_neg zb] at e'; exact e'
theorem gs_col {D : Nat} (hD : 0 < D) (ps : Nat → Nat) : ∃ i j, i < j ∧ j ≤ D ∧ ps i % D = ps j % D ∧ ∀ a b, a < b → b < j → ps a % D ≠ ps b % D := by
  obtain ⟨a, b, hab, hb, e⟩ := gs_pg D (fun i => ps i % D) (fun i _ => Nat.mod_lt _ hD)
  obtain ⟨j, ⟨i, hij, ej⟩, hmin⟩ := pk_least (fun j => ∃ i, i < j ∧ ps i % D = ps j % D) ⟨b, a, hab, e⟩
  refine ⟨i, j, hij, ?_, ej, fun a' b' h1 h2 e' => hmin b' h2 ⟨a', h1, e'⟩⟩
  rcases Nat.lt_or_ge b j with z | z
  · exact absurd ⟨a, hab, e⟩ (hmin b z)
  · omega
theorem gs_y {D m i j : Nat} {x : Nat → Nat} (hD : 0 < D) (hij : i < j) (hj : j ≤ D) (x0 : x 0 < m) (hx : ∀ e, e < j → 1 ≤ x e ∧ x e ≤ m) (he : gu_s x i % D = gu_s x j % D) :
    ∃ y, gu_s x j = gu_s x i + D * y ∧ 1 ≤ y ∧ y < m := by
  have e1 : gu_s x j = gu_s x i + gu_s (fun k => x (i + k)) (j - i) := by
    have := gu_sp x i (j - i)
    rw [show i + (j - i) = j by omega] at this
    exact this
  have lo : (j - i) * 1 ≤ gu_s (fun k => x (i + k)) (j - i) := gu_sl fun k hk => (hx (i + k) (by omega)).1
  have hi : gu_s (fun k => x (i + k)) (j - i) < D * m := by
    by_cases z : i = 0
    · subst z
      have a : gu_s (fun k => x (0 + k)) (j - 0) < gu_s (fun _ => m) (j - 0) := gu_slt (j := 0) (show x (0 + 0) < m from x0) (fun k hk => (hx (0 + k) (by omega)).2) (by omega)
      rw [gu_sn] at a
      exact Nat.lt_of_lt_of_le a (Nat.mul_le_mul_right m (by omega))
    · have a : gu_s (fun k => x (i + k)) (j - i) ≤ (j - i) * m := gu_sb fun k hk => (hx (i + k) (by omega)).2
      have b : (j - i) * m < D * m := Nat.mul_lt_mul_of_pos_right (by omega) (by omega)
      omega
  generalize gu_s (fun k => x (i + k)) (j - i) = d at *
  have hd : d % D = 0 := by
    rw [e1] at he
    have h := Nat.sub_mod_eq_zero_of_mod_eq he.symm
    rw [Nat.add_sub_cancel_left] at h
    exact h
  have hm : D * (d / D) = d := Nat.mul_div_cancel' (Nat.dvd_of_mod_eq_zero hd)
  refine ⟨d / D, by rw [hm]; exact e1, ?_, ?_⟩
  · rcases Nat.eq_zero_or_pos (d / D) with z | z
    · rw [z] at hm; omega
    · exact z
  · apply Nat.lt_of_mul_lt_mul_left (a := D)
    rw [hm]; exact hi
/-- the greatest weight -/
def gs_m (wt : Nat → Nat) : Nat → Nat
  | 0 => 0
  | k + 1 => if wt k ≤ gs_m wt k then gs_m wt k else wt k
theorem gs_mle {wt : Nat → Nat} : ∀ {N u : Nat}, u < N → wt u ≤ gs_m wt N
  | 0, u, h => by omega
  | N + 1, u, h => by
    show wt u ≤ (if wt N ≤ gs_m wt N then gs_m wt N else wt N)
    rcases Nat.lt_or_ge u N with z | z
    · have := gs_mle (wt := wt) z
      split <;> omega
    · have e : u = N := by omega
      subst e
      split <;> omega
theorem gs_mex {wt : Nat → Nat} : ∀ {N : Nat}, gs_m wt N = 0 ∨ ∃ u, u < N ∧ wt u = gs_m wt N
  | 0 => Or.inl rfl
  | N + 1 => by
    show (if wt N ≤ gs_m wt N then gs_m wt N else wt N) = 0 ∨ ∃ u, u < N + 1 ∧ wt u = (if wt N ≤ gs_m wt N then gs_m wt N else wt N)
    by_cases z : wt N ≤ gs_m wt N
    · rw [if_pos z]
      rcases gs_mex (wt := wt) (N := N) with h | ⟨u, hu, e⟩
      · exact Or.inl h
      · exact Or.inr ⟨u, by omega, e⟩
    · rw [if_neg z]
      exact Or.inr ⟨N, by omega, rfl⟩
theorem gs_mb {wt : Nat → Nat} {b : Nat} : ∀ {N : Nat}, (∀ u, u < N → wt u ≤ b) → gs_m wt N ≤ b := by
  intro N h
  rcases gs_mex (wt := wt) (N := N) with z | ⟨u, hu, e⟩
  · omega
  · rw [← e]; exact h u hu
end
section
/-! splitting, pure: the graph of nodes and what a split keeps -/
def gs_J (A : Nat → Nat → Bool) : Nat → Nat → Nat → Prop
  | 0, _, _ => True
  | k + 1, t, t' => ∃ w x x', x < 15 ∧ x' < 15 ∧ A t (15 * w + x) = true ∧ A t' (15 * w + x') = true ∧ gs_J A k x x'
def gs_R (A : Nat → Nat → Bool) : List Nat → Nat → Nat → Prop
  | [], s, z => s = z
  | w :: r, s, z => ∃ x, x < 15 ∧ A s (15 * w + x) = true ∧ gs_R A r x z
/-- two steps of a node with one word differ within k further words -/
def gs_D (A : Nat → Nat → Bool) (k : Nat) : Prop := ∀ s w t t', t < 15 → t' < 15 → A s (15 * w + t) = true → A s (15 * w + t') = true → gs_J A k t t' → t = t'
/-- two walks with the same words, the same begin and the same end are the same -/
def gs_L (A : Nat → Nat → Bool) : Prop := ∀ s w t t' u z, t < 15 → t' < 15 → A s (15 * w + t) = true → A s (15 * w + t') = true → gs_R A u t z → gs_R A u t' z → t = t'
theorem gs_Jm {A : Nat → Nat → Bool} : ∀ k t t', gs_J A (k + 1) t t' → gs_J A k t t' := by
  intro k
  induction k with
  | zero => intro t t' _; trivial
  | succ k ih =>
    intro t t' ⟨w, x, x', h1, h2, h3, h4, h5⟩
    exact ⟨w, x, x', h1, h2, h3, h4, ih x x' h5⟩
section GSP
variable {A A' : Nat → Nat → Bool} {pi : Nat → Nat}
theorem gs_Jp (P1 : ∀ u w t, t < 15 → A' u (15 * w + t) = true → A (pi u) (15 * w + pi t) = true ∧ pi t < 15) : ∀ k t t', gs_J A' k t t' → gs_J A k (pi t) (pi t') := by
  intro k
  induction k with
  | zero => intro t t' _; trivial
  | succ k ih =>
    intro t t' ⟨w, x, x', h1, h2, h3, h4, h5⟩
    exact ⟨w, pi x, pi x', (P1 t w x h1 h3).2, (P1 t' w x' h2 h4).2, (P1 t w x h1 h3).1, (P1 t' w x' h2 h4).1, ih x x' h5⟩
theorem gs_Rp (P1 : ∀ u w t, t < 15 → A' u (15 * w + t) = true → A (pi u) (15 * w + pi t) = true ∧ pi t < 15) : ∀ u s z, gs_R A' u s z → gs_R A u (pi s) (pi z) := by
  intro u
  induction u with
  | nil => intro s z h; exact congrArg pi h
  | cons w r ih =>
    intro s z ⟨x, h1, h2, h3⟩
    exact ⟨pi x, (P1 s w x h1 h2).2, (P1 s w x h1 h2).1, ih x z h3⟩
theorem gs_Dp (P1 : ∀ u w t, t < 15 → A' u (15 * w + t) = true → A (pi u) (15 * w + pi t) = true ∧ pi t < 15)
    (P2 : ∀ u u' w t t', t < 15 → t' < 15 → A' u (15 * w + t) = true → A' u' (15 * w + t') = true → pi u = pi u' → pi t = pi t' → u = u') {k : Nat} (hD : gs_D A k) : gs_D A' (k + 1) := by
  intro s w t t' ht ht' a a' hJ
  have hJ' := gs_Jm _ _ _ (gs_Jp P1 _ _ _ hJ)
  have e : pi t = pi t' := hD (pi s) w (pi t) (pi t') (P1 s w t ht a).2 (P1 s w t' ht' a').2 (P1 s w t ht a).1 (P1 s w t' ht' a').1 hJ'
  obtain ⟨w2, x, x', h1, h2, h3, h4, h5⟩ := hJ
  have b := (P1 t w2 x h1 h3).1
  have b' := (P1 t' w2 x' h2 h4).1
  rw [← e] at b'
  have e2 : pi x = pi x' := hD (pi t) w2 (pi x) (pi x') (P1 t w2 x h1 h3).2 (P1 t' w2 x' h2 h4).2 b b' (gs_Jp P1 _ _ _ h5)
  exact P2 t t' w2 x x' h1 h2 h3 h4 e e2
theorem gs_Lp (P1 : ∀ u w t, t < 15 → A' u (15 * w + t) = true → A (pi u) (15 * w + pi t) = true ∧ pi t < 15)
    (P2 : ∀ u u' w t t', t < 15 → t' < 15 → A' u (15 * w + t) = true → A' u' (15 * w + t') = true → pi u = pi u' → pi t = pi t' → u = u') (hL : gs_L A) : gs_L A' := by
  intro s w t t' u z ht ht' a a' hR hR'
  have e : pi t = pi t' := hL (pi s) w (pi t) (pi t') u (pi z) (P1 s w t ht a).2 (P1 s w t' ht' a').2 (P1 s w t ht a).1 (P1 s w t' ht' a').1 (gs_Rp P1 _ _ _ hR) (gs_Rp P1 _ _ _ hR')
  cases u with
  | nil => exact (show t = z from hR).trans (show t' = z from hR').symm
  | cons w2 r =>
    obtain ⟨x, h1, h2, h3⟩ := hR
    obtain ⟨x', h1', h2', h3'⟩ := hR'
    have b := (P1 t w2 x h1 h2).1
    have b' := (P1 t' w2 x' h1' h2').1
    rw [← e] at b'
    have e2 : pi x = pi x' := hL (pi t) w2 (pi x) (pi x') r (pi z) (P1 t w2 x h1 h2).2 (P1 t' w2 x' h1' h2').2 b b' (gs_Rp P1 _ _ _ h3) (gs_Rp P1 _ _ _ h3')
    exact P2 t t' w2 x x' h1 h1' h2 h2' e e2
end GSP
/-- the sum of the weights of a node's arrows -/
def gs_W (A : Nat → Nat → Bool) (wt : Nat → Nat) (u : Nat) : Nat := gu_s (fun q => if A u q = true then wt (q % 15) else 0) 120
def gs_Inv (S D V N0 k N : Nat) (bs wt : Nat → Nat) (A : Nat → Nat → Bool) : Prop :=
  (∀ u p, A u p = true → u < N ∧ p < 120 ∧ p % 15 < N ∧ p / 15 < V) ∧ (∀ u, u < N → 1 ≤ wt u ∧ wt u ≤ 3 ∧ bs u < S) ∧
  (∀ u, u < N → D * wt u ≤ gs_W A wt u) ∧ (1 ≤ N0 ∧ N0 ≤ 5 ∧ N = N0 + k ∧ gu_s wt N ≤ 3 * N0) ∧ gs_D A k ∧ gs_L A
def gs_pi (s N t : Nat) : Nat := if t = N then s else t
def gs_K (B : Nat → Bool) (f i j q : Nat) : Bool := decide (i ≤ gs_i B f q ∧ gs_i B f q < j)
def gs_r (A : Nat → Nat → Bool) (s N : Nat) (K : Nat → Bool) (u p : Nat) : Bool := if u = s then A s p && K p else if u = N then A s p && !K p else A u p
def gs_A (A : Nat → Nat → Bool) (s N : Nat) (K : Nat → Bool) (u p : Nat) : Bool := gs_r A s N K u (15 * (p / 15) + gs_pi s N (p % 15))
def gs_w (wt : Nat → Nat) (s N m y u : Nat) : Nat := if u = s then y else if u = N then m - y else wt u
def gs_bs (bs : Nat → Nat) (s N u : Nat) : Nat := if u = N then bs s else bs u
section GSI
variable {S D V N0 k N s f i j m y : Nat} {bs wt : Nat → Nat} {A : Nat → Nat → Bool} {K : Nat → Bool}
theorem gs_Ap {u w t : Nat} (ht : t < 15) : gs_A A s N K u (15 * w + t) = gs_r A s N K u (15 * w + gs_pi s N t) := by
  unfold gs_A
  rw [show (15 * w + t) / 15 = w by omega, show (15 * w + t) % 15 = t by omega]
theorem gs_rA {u p : Nat} (h : gs_r A s N K u p = true) : A (gs_pi s N u) p = true := by
  unfold gs_r at h
  unfold gs_pi
  by_cases z : u = s
  · subst z
    rw [if_pos rfl] at h
    split
    · exact (Bool.and_eq_true _ _ ▸ h).1
    · exact (Bool.and_eq_true _ _ ▸ h).1
  · rw [if_neg z] at h
    by_cases y : u = N
    · rw [if_pos y] at h; rw [if_pos y]; exact (Bool.and_eq_true _ _ ▸ h).1
    · rw [if_neg y] at h; rw [if_neg y]; exact h
theorem gs_pil (hs : s < 15) {t : Nat} (ht : t < 15) : gs_pi s N t < 15 := by unfold gs_pi; split <;> omega
theorem gs_P1 (hs : s < 15) : ∀ u w t, t < 15 → gs_A A s N K u (15 * w + t) = true → A (gs_pi s N u) (15 * w + gs_pi s N t) = true ∧ gs_pi s N t < 15 := by
  intro u w t ht h
  rw [gs_Ap ht] at h
  exact ⟨gs_rA h, gs_pil hs ht⟩
theorem gs_P2 (hN : s ≠ N) : ∀ u u' w t t', t < 15 → t' < 15 → gs_A A s N K u (15 * w + t) = true → gs_A A s N K u' (15 * w + t') = true → gs_pi s N u = gs_pi s N u' → gs_pi s N t = gs_pi s N t' → u = u' := by
  intro u u' w t t' ht ht' a a' e1 e2
  rw [gs_Ap ht] at a
  rw [gs_Ap ht', ← e2] at a'
  generalize 15 * w + gs_pi s N t = p at a a'
  unfold gs_pi at e1
  have aux : ∀ u, gs_r A s N K u p = true → (u = s → K p = true) ∧ (u = N → K p = false) := by
    intro u h
    unfold gs_r at h
    constructor
    · intro z; rw [if_pos z] at h; exact (Bool.and_eq_true _ _ ▸ h).2
    · intro z; rw [if_neg (fun q => hN (q.symm.trans z)), if_pos z] at h
      have := (Bool.and_eq_true _ _ ▸ h).2
      cases hk : K p
      · rfl
      · rw [hk] at this; exact absurd this (by decide)
  have x := aux u a
  have x' := aux u' a'
  by_cases z : u = N
  · by_cases z' : u' = N
    · omega
    · rw [if_pos z, if_neg z'] at e1
      have := x.2 z
      rw [x'.1 e1.symm] at this
      exact absurd this (by decide)
  · by_cases z' : u' = N
    · rw [if_neg z, if_pos z'] at e1
      have := x'.2 z'
      rw [x.1 e1] at this
      exact absurd this (by decide)
    · rw [if_neg z, if_neg z'] at e1; exact e1
/-- the sums with the new weights and the doubled arrows are those of the shared arrows with the old weights -/
theorem gs_W1 (hN : N < 15) (hs : s < N) (hi : ∀ u p, A u p = true → p % 15 < N) (hm : wt s = m) (hy : y ≤ m) (u : Nat) :
    gs_W (gs_A A s N K) (gs_w wt s N m y) u = gu_s (fun q => if gs_r A s N K u q = true then wt (q % 15) else 0) 120 := by
  unfold gs_W
  rw [show 120 = 15 * 8 from rfl, gu_s15, gu_s15]
  apply gu_sc
  intro w _
  have hN0 : gs_r A s N K u (15 * w + N) = false := by
    apply gu_nt
    intro h
    have := hi _ _ (gs_rA h)
    omega
  apply gu_s2c (a := s) (b := N) (by omega) (by omega) hN
  · intro t ht h1 h2
    rw [gs_Ap ht, show (15 * w + t) % 15 = t by omega]
    unfold gs_pi gs_w
    rw [if_neg h2, if_neg h1, if_neg h2]
  · rw [gs_Ap (by omega), gs_Ap hN, hN0, show (15 * w + s) % 15 = s by omega, show (15 * w + N) % 15 = N by omega]
    unfold gs_pi gs_w
    rw [if_neg (show s ≠ N by omega), if_pos rfl, if_pos rfl, if_neg (show N ≠ s by omega), if_pos rfl, hm]
    cases gs_r A s N K u (15 * w + s)
    · rfl
    · show y + (m - y) = m + 0
      omega
/-- the arrows that s keeps -/
theorem gs_W2 (hf : A s f = true) (hf2 : f < 120) (hij : i < j) (hj : j ≤ gs_c (A s) f 120) :
    gu_s (fun q => if (A s q && gs_K (A s) f i j q) = true then wt (q % 15) else 0) 120 + gu_s (fun e => wt (gs_h (A s) f 120 e % 15)) i = gu_s (fun e => wt (gs_h (A s) f 120 e % 15)) j := by
  have h1 := gs_sumP (B := A s) (f := f) (P := 120) (fun q => if gs_K (A s) f i j q = true then wt (q % 15) else 0) hf hf2
  have h2 : gu_s (fun e => (fun q => if gs_K (A s) f i j q = true then wt (q % 15) else 0) (gs_h (A s) f 120 e)) (gs_c (A s) f 120) = gu_s (fun e => if i ≤ e ∧ e < j then wt (gs_h (A s) f 120 e % 15) else 0) (gs_c (A s) f 120) := by
    apply gu_sc
    intro e he
    dsimp only
    unfold gs_K
    rw [gs_ih he]
    by_cases z : i ≤ e ∧ e < j
    · rw [if_pos z, if_pos (decide_eq_true z)]
    · rw [if_neg z, if_neg (by rw [decide_eq_false z]; decide)]
  have h3 := gu_sij (x := fun e => wt (gs_h (A s) f 120 e % 15)) (i := i) (j := j) (by omega) (gs_c (A s) f 120)
  rw [Nat.min_eq_left (by omega), Nat.min_eq_left hj] at h3
  rw [← h2, h1] at h3
  rw [← h3]
  congr 1
  apply gu_sc
  intro q _
  cases A s q <;> cases gs_K (A s) f i j q <;> rfl
theorem gs_W3 : gu_s (fun q => if A s q = true then wt (q % 15) else 0) 120 = gu_s (fun q => if (A s q && K q) = true then wt (q % 15) else 0) 120 + gu_s (fun q => if (A s q && !K q) = true then wt (q % 15) else 0) 120 := by
  rw [← gu_sa]
  apply gu_sc
  intro q _
  cases A s q <;> cases K q <;> simp
theorem gs_step (hI : gs_Inv S D V N0 k N bs wt A) (hV : V ≤ 8) (hN : N < 15) (hs : s < N) (hf : A s f = true) (hm : wt s = m) (hij : i < j) (hj : j ≤ gs_c (A s) f 120) (hy1 : 1 ≤ y) (hy : y < m)
    (he : gu_s (fun e => wt (gs_h (A s) f 120 e % 15)) j = gu_s (fun e => wt (gs_h (A s) f 120 e % 15)) i + D * y) :
    gs_Inv S D V N0 (k + 1) (N + 1) (gs_bs bs s N) (gs_w wt s N m y) (gs_A A s N (gs_K (A s) f i j)) := by
  obtain ⟨i1, i2, i3, ⟨i4, i4b, i4c, i4d⟩, i5, i6⟩ := hI
  have hf2 := (i1 s f hf).2.1
  have hms := i2 s hs
  refine ⟨?_, ?_, ?_, ⟨i4, i4b, by omega, ?_⟩, gs_Dp (gs_P1 (by omega)) (gs_P2 (by omega)) i5, gs_Lp (gs_P1 (by omega)) (gs_P2 (by omega)) i6⟩
  · intro u p h
    have a := gs_rA h
    have hp := gs_pil (s := s) (N := N) (by omega) (Nat.mod_lt p (show 0 < 15 by decide))
    obtain ⟨b1, b2, b3, b4⟩ := i1 _ _ a
    have e : gs_pi s N (p % 15) < N := by
      rw [show (15 * (p / 15) + gs_pi s N (p % 15)) % 15 = gs_pi s N (p % 15) by omega] at b3
      exact b3
    refine ⟨?_, by omega, ?_, by omega⟩
    · unfold gs_pi at b1
      split at b1 <;> omega
    · unfold gs_pi at e
      split at e <;> omega
  · intro u hu
    unfold gs_w gs_bs
    by_cases z : u = s
    · rw [if_pos z, if_neg (show u ≠ N by omega)]
      exact ⟨hy1, by omega, (i2 u (by omega)).2.2⟩
    · rw [if_neg z]
      by_cases z2 : u = N
      · rw [if_pos z2, if_pos z2]
        exact ⟨by omega, by omega, hms.2.2⟩
      · rw [if_neg z2, if_neg z2]
        exact i2 u (by omega)
  · intro u hu
    rw [gs_W1 hN hs (fun u p h => (i1 u p h).2.2.1) hm (by omega)]
    have w2 := gs_W2 (wt := wt) hf hf2 hij hj
    rw [he] at w2
    have w3 := gs_W3 (A := A) (s := s) (wt := wt) (K := gs_K (A s) f i j)
    have hb := i3 s hs
    unfold gs_W at hb
    rw [hm] at hb
    by_cases z : u = s
    · have e : (fun q => if gs_r A s N (gs_K (A s) f i j) u q = true then wt (q % 15) else 0) = (fun q => if (A s q && gs_K (A s) f i j q) = true then wt (q % 15) else 0) := by
        funext q; unfold gs_r; rw [if_pos z]
      rw [e]
      unfold gs_w
      rw [if_pos z]
      omega
    · by_cases z2 : u = N
      · have e : (fun q => if gs_r A s N (gs_K (A s) f i j) u q = true then wt (q % 15) else 0) = (fun q => if (A s q && !gs_K (A s) f i j q) = true then wt (q % 15) else 0) := by
          funext q; unfold gs_r; rw [if_neg z, if_pos z2]
        rw [e]
        unfold gs_w
        rw [if_neg z, if_pos z2, Nat.mul_sub]
        omega
      · have e : (fun q => if gs_r A s N (gs_K (A s) f i j) u q = true then wt (q % 15) else 0) = (fun q => if A u q = true then wt (q % 15) else 0) := by
          funext q; unfold gs_r; rw [if_neg z, if_neg z2]
        rw [e]
        unfold gs_w
        rw [if_neg z, if_neg z2]
        exact i3 u (by omega)
  · rw [gu_s1]
    have a := gu_s1c (f := gs_w wt s N m y) (g := wt) (a := s) (k := N) (fun u hu hn => by unfold gs_w; rw [if_neg hn, if_neg (by omega)]) hs
    have b : gs_w wt s N m y s = y := if_pos rfl
    have c : gs_w wt s N m y N = m - y := by unfold gs_w; rw [if_neg (by omega), if_pos rfl]
    rw [b] at a
    rw [c]
    omega
/-- what a split is: the node s, its first arrow f into lighter nodes, the run i .. j of the list -/
def gs_Sp (D N : Nat) (wt : Nat → Nat) (A : Nat → Nat → Bool) (s f i j m y : Nat) : Prop :=
  s < N ∧ N < 15 ∧ m = gs_m wt N ∧ wt s = m ∧ A s f = true ∧ wt (f % 15) < m ∧ (∀ s' p, s' < s → A s' p = true → wt s' = m → ¬ wt (p % 15) < m) ∧ (∀ p, p < f → A s p = true → ¬ wt (p % 15) < m) ∧
  i < j ∧ j ≤ D ∧ j ≤ gs_c (A s) f 120 ∧ (∀ a b, a < b → b < j → gu_s (fun e => wt (gs_h (A s) f 120 e % 15)) a % D ≠ gu_s (fun e => wt (gs_h (A s) f 120 e % 15)) b % D) ∧
  1 ≤ y ∧ y < m ∧ gu_s (fun e => wt (gs_h (A s) f 120 e % 15)) j = gu_s (fun e => wt (gs_h (A s) f 120 e % 15)) i + D * y
def gs_Stop (N : Nat) (wt : Nat → Nat) (A : Nat → Nat → Bool) : Prop := ∀ u p, A u p = true → wt u = gs_m wt N → ¬ wt (p % 15) < gs_m wt N
theorem gs_or (hI : gs_Inv S D V N0 k N bs wt A) (hD : 0 < D) : gs_Stop N wt A ∨ ∃ s f i j y, gs_Sp D N wt A s f i j (gs_m wt N) y := by
  obtain ⟨i1, i2, i3, ⟨i4, i4b, i4c, i4d⟩, i5, i6⟩ := hI
  by_cases h : ∃ q, A (q / 120) (q % 120) = true ∧ wt (q / 120) = gs_m wt N ∧ wt (q % 120 % 15) < gs_m wt N
  · obtain ⟨q, ⟨q1, q2, q3⟩, hmin⟩ := pk_least _ h
    right
    obtain ⟨b1, b2, b3, b4⟩ := i1 _ _ q1
    have hml : ∀ u, u < N → wt u ≤ gs_m wt N := fun u hu => gs_mle hu
    have hcnt : D ≤ gs_c (A (q / 120)) (q % 120) 120 := by
      have a := i3 _ b1
      unfold gs_W at a
      rw [← gs_sumP (B := A (q / 120)) (f := q % 120) (P := 120) (fun p => wt (p % 15)) q1 b2, q2] at a
      have b : gu_s (fun e => (fun p => wt (p % 15)) (gs_h (A (q / 120)) (q % 120) 120 e)) (gs_c (A (q / 120)) (q % 120) 120) ≤ gs_c (A (q / 120)) (q % 120) 120 * gs_m wt N :=
        gu_sb fun e he => hml _ (i1 _ _ (gs_hB q1 b2 he).1).2.2.1
      exact Nat.le_of_mul_le_mul_right (Nat.le_trans a b) (by omega)
    obtain ⟨i, j, hij, hj, hc, hn⟩ := gs_col hD (gu_s (fun e => wt (gs_h (A (q / 120)) (q % 120) 120 e % 15)))
    obtain ⟨y, y1, y2, y3⟩ := gs_y (m := gs_m wt N) (x := fun e => wt (gs_h (A (q / 120)) (q % 120) 120 e % 15)) hD hij hj (by
        show wt (gs_h (A (q / 120)) (q % 120) 120 0 % 15) < _
        rw [gs_h0]; exact q3) (fun e he => by
        have a := (i1 _ _ (gs_hB q1 b2 (show e < gs_c (A (q / 120)) (q % 120) 120 by omega)).1).2.2.1
        exact ⟨(i2 _ a).1, hml _ a⟩) hc
    have hlt : N * 1 < gu_s wt N := by
      rw [← gu_sn 1 N]
      exact gu_slt (j := q / 120) (by have := (i2 _ b3).1; omega) (fun u hu => (i2 u hu).1) b1
    refine ⟨q / 120, q % 120, i, j, y, b1, by omega, rfl, q2, q1, q3, ?_, ?_, hij, hj, by omega, hn, y2, y3, y1⟩
    · intro s' p hs' a e c
      have hp := (i1 _ _ a).2.1
      refine hmin (120 * s' + p) (by omega) ?_
      rw [show (120 * s' + p) / 120 = s' by omega, show (120 * s' + p) % 120 = p by omega]
      exact ⟨a, e, c⟩
    · intro p hp a c
      have hp2 := (i1 _ _ a).2.1
      refine hmin (120 * (q / 120) + p) (by omega) ?_
      rw [show (120 * (q / 120) + p) / 120 = q / 120 by omega, show (120 * (q / 120) + p) % 120 = p by omega]
      exact ⟨a, q2, c⟩
  · left
    intro u p a e c
    have hp := (i1 _ _ a).2.1
    apply h
    refine ⟨120 * u + p, ?_⟩
    rw [show (120 * u + p) / 120 = u by omega, show (120 * u + p) % 120 = p by omega]
    exact ⟨a, e, c⟩
theorem gs_k10 (hI : gs_Inv S D V N0 k N bs wt A) : k ≤ 10 := by
  obtain ⟨i1, i2, i3, ⟨i4, i4b, i4c, i4d⟩, i5, i6⟩ := hI
  have := gu_sl (f := wt) (b := 1) (k := N) (fun u hu => (i2 u hu).1)
  omega
end GSI
end
section
/-! splitting: the component's walk -/
def gx_A (A : Nat → Nat → Bool) (ar : Nat → Int32) : Prop := ∀ u w i, u < 15 → w < 8 → i < 32 → bt (ar (8 * u + w)) i = (decide (i < 15) && A u (15 * w + i))
def gx_R (N : Nat) (bs wt : Nat → Nat) (A : Nat → Nat → Bool) (nb nw ar : Nat → Int32) : Prop :=
  (∀ u, u < N → nb u = nI (bs u)) ∧ (∀ u, u < N → nw u = nI (wt u)) ∧ gx_A A ar
theorem gs_ck {B : Nat → Bool} {f a : Nat} : ∀ b, a ≤ b → (∀ q, a ≤ q → q < b → B q = false) → gs_c B f b = gs_c B f a := by
  intro b
  induction b with
  | zero => intro h _; rw [show a = 0 by omega]
  | succ b ih =>
    intro h h2
    rcases Nat.lt_or_ge b a with z | z
    · rw [show a = b + 1 by omega]
    · rw [gs_cF (fun q => by rw [h2 b z (by omega)] at q; exact absurd q.1 (by decide)), ih z fun q h3 h4 => h2 q h3 (by omega)]
section GXS
variable {S db wb D V cp N N0 k m s f i j y : Nat} {bs wt : Nat → Nat} {A : Nat → Nat → Bool} {f_listSize f_built f_codeCount f_splitCount f_encoder f_messageLength : Int32} {a_edgeTarget a_jumpTarget a_good a_nodeBase a_nodeWeight a_arrows a_renumber a_listWord a_listTarget a_seenAt a_seenSum a_alive a_codeBase a_stepWord a_stepTarget a_pairNow a_pairNext a_sentData a_sentWord a_channelWord : Nat → Int32}
theorem gx_gw4 {post : Int32 → Prop} (hN : N ≤ 15) (hw : ∀ u, u < N → a_nodeWeight u = nI (wt u)) (hb : ∀ u, u < N → wt u ≤ 3) (hp : post (nI (gs_m wt N))) :
    ∀ n u, N < n + u → u ≤ N → wX_greatestWeight_4 post (nI S) (nI db) (nI wb) (nI D) (nI V) (nI cp) (nI N) f_listSize f_built f_codeCount f_splitCount f_encoder f_messageLength a_edgeTarget a_jumpTarget a_good a_nodeBase a_nodeWeight a_arrows a_renumber a_listWord a_listTarget a_seenAt a_seenSum a_alive a_codeBase a_stepWord a_stepTarget a_pairNow a_pairNext a_sentData a_sentWord a_channelWord n (nI (gs_m wt u)) (nI u) := by
  intro n
  induction n with
  | zero => intro u z1 z2; omega
  | succ n ih =>
    intro u z1 z2
    refine pk_le N u (fun h => ?_) (fun h => ⟨vp_in_nI (by omega) (by omega), ?_⟩)
    · have e : u = N := by omega
      subst e; exact hp
    · have e1 : a_nodeWeight (nI u).toNatClampNeg = nI (wt u) := by rw [nI_clamp (by omega)]; exact hw u h
      have b1 := hb u h
      have b2 := gs_mb (wt := wt) (b := 3) (N := u) (fun v hv => hb v (by omega))
      have e2 : gs_m wt (u + 1) = if wt u ≤ gs_m wt u then gs_m wt u else wt u := rfl
      refine pk_le (wt u) (gs_m wt u) (fun z => nm_r (nI_1 u) ?_) (fun z => ⟨vp_in_nI (by omega) (by omega), nm_r e1 (nm_r (nI_1 u) ?_)⟩) e1
      · rw [if_pos z] at e2
        rw [← e2]
        exact ih (u + 1) (by omega) (by omega)
      · rw [if_neg (by omega)] at e2
        rw [← e2]
        exact ih (u + 1) (by omega) (by omega)
theorem gx_gw {post : Int32 → Prop} (hN : N ≤ 15) (hw : ∀ u, u < N → a_nodeWeight u = nI (wt u)) (hb : ∀ u, u < N → wt u ≤ 3) (hp : post (nI (gs_m wt N))) : wpX_greatestWeight post ((nI S), (nI db), (nI wb), (nI D), (nI V), (nI cp), (nI N), f_listSize, f_built, f_codeCount, f_splitCount, f_encoder, f_messageLength, a_edgeTarget, a_jumpTarget, a_good, a_nodeBase, a_nodeWeight, a_arrows, a_renumber, a_listWord, a_listTarget, a_seenAt, a_seenSum, a_alive, a_codeBase, a_stepWord, a_stepTarget, a_pairNow, a_pairNext, a_sentData, a_sentWord, a_channelWord) :=
  ⟨N + 1, gx_gw4 hN hw hb hp (N + 1) 0 (by omega) (by omega)⟩
theorem gx_ln4 {post : Int32 → Prop} (hN : N ≤ 15) (hw : ∀ u, u < N → a_nodeWeight u = nI (wt u)) (hb : ∀ u, u < N → wt u ≤ 3) (hm : m ≤ 3)
    (hp : ∀ r, (∀ i, i < 32 → bt r i = decide (i < N ∧ wt i < m)) → post r) :
    ∀ n u r, N < n + u → u ≤ N → (∀ i, i < 32 → bt r i = decide (i < u ∧ wt i < m)) → wX_lightNodes_4 post (nI m) (nI S) (nI db) (nI wb) (nI D) (nI V) (nI cp) (nI N) f_listSize f_built f_codeCount f_splitCount f_encoder f_messageLength a_edgeTarget a_jumpTarget a_good a_nodeBase a_nodeWeight a_arrows a_renumber a_listWord a_listTarget a_seenAt a_seenSum a_alive a_codeBase a_stepWord a_stepTarget a_pairNow a_pairNext a_sentData a_sentWord a_channelWord n r (nI u) := by
  intro n
  induction n with
  | zero => intro u r z1 z2; omega
  | succ n ih =>
    intro u r z1 z2 hr
    refine pk_le N u (fun h => ?_) (fun h => ⟨vp_in_nI (by omega) (by omega), ?_⟩)
    · have e : u = N := by omega
      subst e; exact hp r hr
    · have e1 : a_nodeWeight (nI u).toNatClampNeg = nI (wt u) := by rw [nI_clamp (by omega)]; exact hw u h
      have b1 := hb u h
      refine pk_le m (wt u) (fun z => nm_r (nI_1 u) (ih (u + 1) r (by omega) (by omega) fun i hi => ?_)) (fun z => nm_e (nm_r (nI_1 u) (ih (u + 1) _ (by omega) (by omega) fun i hi => ?_))) rfl e1
      · rw [hr i hi]
        apply decide_eq_decide.mpr
        constructor
        · intro h1; omega
        · intro ⟨h1, h2⟩
          refine ⟨?_, h2⟩
          by_cases e : i = u
          · subst e; omega
          · omega
      · rw [gu_or (by omega) hi, hr i hi, ← Bool.decide_or]
        apply decide_eq_decide.mpr
        constructor
        · rintro (h1 | rfl)
          · omega
          · omega
        · intro h1
          by_cases e : i = u
          · exact Or.inr e
          · exact Or.inl (by omega)
theorem gx_ln {post : Int32 → Prop} (hN : N ≤ 15) (hw : ∀ u, u < N → a_nodeWeight u = nI (wt u)) (hb : ∀ u, u < N → wt u ≤ 3) (hm : m ≤ 3)
    (hp : ∀ r, (∀ i, i < 32 → bt r i = decide (i < N ∧ wt i < m)) → post r) : wpX_lightNodes post ((nI S), (nI db), (nI wb), (nI D), (nI V), (nI cp), (nI N), f_listSize, f_built, f_codeCount, f_splitCount, f_encoder, f_messageLength, a_edgeTarget, a_jumpTarget, a_good, a_nodeBase, a_nodeWeight, a_arrows, a_renumber, a_listWord, a_listTarget, a_seenAt, a_seenSum, a_alive, a_codeBase, a_stepWord, a_stepTarget, a_pairNow, a_pairNext, a_sentData, a_sentWord, a_channelWord) (nI m) :=
  ⟨N + 1, gx_ln4 hN hw hb hm hp (N + 1) 0 0 (by omega) (by omega) (fun i _ => by rw [b_0]; exact (decide_eq_false (by omega)).symm)⟩
theorem gx_ns23 {post : Int32 → Prop} (J2 : Int32 → Prop) {x1 light : Int32} (hN : N ≤ 15) (hV : V ≤ 8) (hs : s < N) (hA : gx_A A a_arrows) (hi1 : ∀ u p, A u p = true → u < N ∧ p < 120 ∧ p % 15 < N ∧ p / 15 < V)
    (hl : ∀ i, i < 32 → bt light i = decide (i < N ∧ wt i < m))
    (hno : (∀ p, A s p = true → ¬ wt (p % 15) < m) → J2 (nI (s + 1))) (hy : (∃ p, A s p = true ∧ wt (p % 15) < m) → post (nI s)) :
    ∀ n w, V < n + w → w ≤ V → (∀ p, p / 15 < w → A s p = true → ¬ wt (p % 15) < m) → wX_nodeToSplit_23 post J2 x1 light (nI s) (nI S) (nI db) (nI wb) (nI D) (nI V) (nI cp) (nI N) f_listSize f_built f_codeCount f_splitCount f_encoder f_messageLength a_edgeTarget a_jumpTarget a_good a_nodeBase a_nodeWeight a_arrows a_renumber a_listWord a_listTarget a_seenAt a_seenSum a_alive a_codeBase a_stepWord a_stepTarget a_pairNow a_pairNext a_sentData a_sentWord a_channelWord n (nI w) := by
  intro n
  induction n with
  | zero => intro w z1 z2; omega
  | succ n ih =>
    intro w z1 z2 hI
    refine pk_le V w (fun h => nm_r (nI_1 s) (hno fun p hp => hI p (by have := (hi1 _ _ hp).2.2.2; omega) hp)) (fun h => ⟨gu_in8 (by omega) (by omega), ?_⟩)
    rw [gu_c8 (by omega)]
    refine br_c (fun z => nm_r (nI_1 w) (ih (w + 1) (by omega) (by omega) fun p hp ha hlt => ?_)) (fun z => hy ?_)
    · by_cases e : p / 15 = w
      · rw [gu_and0] at z
        have hp15 := (hi1 _ _ ha).2.2.1
        have a := z (p % 15) (by omega) (by
          rw [hA s w (p % 15) (by omega) (by omega) (by omega), decide_eq_true (by omega), show 15 * w + p % 15 = p by omega, ha]; rfl)
        rw [hl (p % 15) (by omega), decide_eq_true ⟨hp15, hlt⟩] at a
        exact absurd a (by decide)
      · exact hI p (by omega) ha hlt
    · refine Classical.byContradiction fun c => z ?_
      rw [gu_and0]
      intro i hi hb
      rw [hA s w i (by omega) (by omega) hi] at hb
      obtain ⟨h15, ha⟩ := (Bool.and_eq_true _ _ ▸ hb : _ ∧ _)
      have h15' : i < 15 := of_decide_eq_true h15
      rw [hl i hi]
      apply decide_eq_false
      intro hlt
      exact c ⟨15 * w + i, ha, by rw [show (15 * w + i) % 15 = i by omega]; exact hlt.2⟩
theorem gx_ns2 {post : Int32 → Prop} {light : Int32} (hN : N ≤ 15) (hV : V ≤ 8) (hR : gx_R N bs wt A a_nodeBase a_nodeWeight a_arrows) (hi1 : ∀ u p, A u p = true → u < N ∧ p < 120 ∧ p % 15 < N ∧ p / 15 < V) (hb : ∀ u, u < N → wt u ≤ 3) (hm : m ≤ 3)
    (hl : ∀ i, i < 32 → bt light i = decide (i < N ∧ wt i < m))
    (hno : (∀ s p, s < N → A s p = true → wt s = m → ¬ wt (p % 15) < m) → post (-1))
    (hy : ∀ s, s < N → wt s = m → (∃ p, A s p = true ∧ wt (p % 15) < m) → (∀ s' p, s' < s → A s' p = true → wt s' = m → ¬ wt (p % 15) < m) → post (nI s)) :
    ∀ n s, N < n + s → s ≤ N → (∀ s' p, s' < s → A s' p = true → wt s' = m → ¬ wt (p % 15) < m) → wX_nodeToSplit_2 post (nI m) light (nI S) (nI db) (nI wb) (nI D) (nI V) (nI cp) (nI N) f_listSize f_built f_codeCount f_splitCount f_encoder f_messageLength a_edgeTarget a_jumpTarget a_good a_nodeBase a_nodeWeight a_arrows a_renumber a_listWord a_listTarget a_seenAt a_seenSum a_alive a_codeBase a_stepWord a_stepTarget a_pairNow a_pairNext a_sentData a_sentWord a_channelWord n (nI s) := by
  intro n
  induction n with
  | zero => intro s z1 z2; omega
  | succ n ih =>
    intro s z1 z2 hI
    refine pk_le N s (fun h => hno fun s' p hs' => hI s' p (by omega)) (fun h => ⟨vp_in_nI (by omega) (by omega), ?_⟩)
    have e1 : a_nodeWeight (nI s).toNatClampNeg = nI (wt s) := by rw [nI_clamp (by omega)]; exact hR.2.1 s h
    have b1 := hb s h
    refine pk_eq (wt s) m (fun z => ⟨V + 1, ?_⟩) (fun z => nm_r (nI_1 s) (ih (s + 1) (by omega) (by omega) fun s' p hs' ha e => ?_)) e1
    · refine gx_ns23 (wX_nodeToSplit_2 post (nI m) light (nI S) (nI db) (nI wb) (nI D) (nI V) (nI cp) (nI N) f_listSize f_built f_codeCount f_splitCount f_encoder f_messageLength a_edgeTarget a_jumpTarget a_good a_nodeBase a_nodeWeight a_arrows a_renumber a_listWord a_listTarget a_seenAt a_seenSum a_alive a_codeBase a_stepWord a_stepTarget a_pairNow a_pairNext a_sentData a_sentWord a_channelWord n) hN hV h hR.2.2 hi1 hl (fun hq => ih (s + 1) (by omega) (by omega) fun s' p hs' ha e => ?_) (fun hq => hy s h z hq hI) (V + 1) 0 (by omega) (by omega) (fun p hp => by omega)
      by_cases c : s' = s
      · subst c; exact hq p ha
      · exact hI s' p (by omega) ha e
    · by_cases c : s' = s
      · subst c; exact absurd e z
      · exact hI s' p (by omega) ha e
/-- the list: the arrows below place p are written -/
def gx_L (B : Nat → Bool) (f p : Nat) (lw lt : Nat → Int32) : Prop := ∀ q, q < p → B q = true → lw (gs_i B f q) = nI (q / 15) ∧ lt (gs_i B f q) = nI (q % 15)
theorem gx_Ls {B : Nat → Bool} {p : Nat} {lw lt : Nat → Int32} (hL : gx_L B f p lw lt) (hp : B p = true) : gx_L B f (p + 1) (upd lw (gs_i B f p) (nI (p / 15))) (upd lt (gs_i B f p) (nI (p % 15))) := by
  intro q hq hb
  by_cases e : q = p
  · subst e; exact ⟨pk_us, pk_us⟩
  · have ne : gs_i B f q ≠ gs_i B f p := fun z => e (gs_iinj (p := p + 1) hb hp (by omega) (by omega) z)
    rw [pk_un ne, pk_un ne]
    exact hL q (by omega) hb
theorem gx_La {post : SX → Prop} (J10 : Int32 → Int32 → Int32 → (Nat → Int32) → (Nat → Int32) → (Nat → Int32) → (Nat → Int32) → (Nat → Int32) → (Nat → Int32) → (Nat → Int32) → (Nat → Int32) → (Nat → Int32) → (Nat → Int32) → (Nat → Int32) → (Nat → Int32) → (Nat → Int32) → (Nat → Int32) → (Nat → Int32) → (Nat → Int32) → (Nat → Int32) → (Nat → Int32) → (Nat → Int32) → (Nat → Int32) → Prop) (J36 : Int32 → Int32 → Int32 → (Nat → Int32) → (Nat → Int32) → (Nat → Int32) → (Nat → Int32) → (Nat → Int32) → (Nat → Int32) → (Nat → Int32) → (Nat → Int32) → (Nat → Int32) → (Nat → Int32) → (Nat → Int32) → (Nat → Int32) → (Nat → Int32) → (Nat → Int32) → (Nat → Int32) → (Nat → Int32) → (Nat → Int32) → (Nat → Int32) → (Nat → Int32) → (Nat → Int32) → Prop) {x1 x2 x3 x5 : Int32} {w t e : Nat} (he : e < 128)
    (h : J36 x3 (nI (t + 1)) f_listSize a_edgeTarget a_jumpTarget a_good a_nodeBase a_nodeWeight a_arrows a_renumber (upd a_listWord e (nI w)) (upd a_listTarget e (nI t)) a_seenAt a_seenSum a_alive a_codeBase a_stepWord a_stepTarget a_pairNow a_pairNext a_sentData a_sentWord a_channelWord) : wX_listArrows_94 post J10 J36 x1 x2 x3 (nI w) x5 (nI t) (nI e) (nI S) (nI db) (nI wb) (nI D) (nI V) (nI cp) (nI N) f_listSize f_built f_codeCount f_splitCount f_encoder f_messageLength a_edgeTarget a_jumpTarget a_good a_nodeBase a_nodeWeight a_arrows a_renumber a_listWord a_listTarget a_seenAt a_seenSum a_alive a_codeBase a_stepWord a_stepTarget a_pairNow a_pairNext a_sentData a_sentWord a_channelWord :=
  pk_le 128 e (fun z => by omega) (fun _ => ⟨vp_in_nI he (by omega), nm_r (by rw [nI_clamp (by omega)]) ⟨vp_in_nI he (by omega), nm_r (by rw [nI_clamp (by omega)]) (nm_r (nI_1 t) h)⟩⟩)
theorem gx_l36 {post : SX → Prop} (J10 : Int32 → Int32 → Int32 → (Nat → Int32) → (Nat → Int32) → (Nat → Int32) → (Nat → Int32) → (Nat → Int32) → (Nat → Int32) → (Nat → Int32) → (Nat → Int32) → (Nat → Int32) → (Nat → Int32) → (Nat → Int32) → (Nat → Int32) → (Nat → Int32) → (Nat → Int32) → (Nat → Int32) → (Nat → Int32) → (Nat → Int32) → (Nat → Int32) → (Nat → Int32) → (Nat → Int32) → Prop) {light : Int32} {w : Nat} {tg : Int32} (hN : N ≤ 15) (hV : V ≤ 8) (hw : w < V) (hs : s < N) (hi1 : ∀ u p, A u p = true → u < N ∧ p < 120 ∧ p % 15 < N ∧ p / 15 < V)
    (htg : ∀ i, i < 32 → bt tg i = (decide (i < 15) && A s (15 * w + i))) (hl : ∀ i, i < 32 → bt light i = decide (i < N ∧ wt i < m))
    (hf : A s f = true) (hf2 : wt (f % 15) < m) (hf3 : ∀ p, p < f → A s p = true → ¬ wt (p % 15) < m)
    (hJ : ∀ lw lt, gx_L (A s) f (15 * (w + 1)) lw lt → J10 (gu_i (decide (f < 15 * (w + 1)))) (nI (w + 1)) (nI (gs_c (A s) f (15 * (w + 1)))) a_edgeTarget a_jumpTarget a_good a_nodeBase a_nodeWeight a_arrows a_renumber lw lt a_seenAt a_seenSum a_alive a_codeBase a_stepWord a_stepTarget a_pairNow a_pairNext a_sentData a_sentWord a_channelWord) :
    ∀ n t lw lt, N < n + t → t ≤ N → gx_L (A s) f (15 * w + t) lw lt → wX_listArrows_36 post J10 (nI s) light (nI w) tg (nI S) (nI db) (nI wb) (nI D) (nI V) (nI cp) (nI N) f_built f_codeCount f_splitCount f_encoder f_messageLength n (gu_i (decide (f < 15 * w + t))) (nI t) (nI (gs_c (A s) f (15 * w + t))) a_edgeTarget a_jumpTarget a_good a_nodeBase a_nodeWeight a_arrows a_renumber lw lt a_seenAt a_seenSum a_alive a_codeBase a_stepWord a_stepTarget a_pairNow a_pairNext a_sentData a_sentWord a_channelWord := by
  have hfb := hi1 _ _ hf
  have hc : ∀ p, gs_c (A s) f p ≤ 120 := fun p => by
    rcases Nat.lt_or_ge p 120 with z | z
    · have := gs_cm (B := A s) (f := f) (show p ≤ 120 by omega)
      have a := gs_cle (B := A s) (f := f) 120
      rw [if_pos hfb.2.1] at a
      omega
    · rw [gs_ck (a := 120) p z fun q h1 h2 => gu_nt fun h => by have := (hi1 _ _ h).2.1; omega]
      have a := gs_cle (B := A s) (f := f) 120
      rw [if_pos hfb.2.1] at a
      omega
  intro n
  induction n with
  | zero => intro t lw lt z1 z2; omega
  | succ n ih =>
    intro t lw lt z1 z2 hL
    refine pk_le N t (fun h => nm_r (nI_1 w) ?_) (fun h => nm_e ?_)
    · have hz : ∀ q, 15 * w + t ≤ q → q < 15 * (w + 1) → A s q = false := fun q h1 h2 => gu_nt fun ha => by have := (hi1 _ _ ha).2.2.1; omega
      have e1 : gs_c (A s) f (15 * (w + 1)) = gs_c (A s) f (15 * w + t) := gs_ck _ (by omega) hz
      have e2 : decide (f < 15 * (w + 1)) = decide (f < 15 * w + t) := by
        apply decide_eq_decide.mpr
        constructor
        · intro h1
          rcases Nat.lt_or_ge f (15 * w + t) with c | c
          · exact c
          · rw [hz f c h1] at hf; exact absurd hf (by decide)
        · intro h1; omega
      have := hJ lw lt fun q hq hb => hL q (by
        rcases Nat.lt_or_ge q (15 * w + t) with c | c
        · exact c
        · rw [hz q c hq] at hb; exact absurd hb (by decide)) hb
      rw [e1, e2] at this
      exact this
    · have h15 : (15 * w + t) % 15 = t := by omega
      have hb : bt tg t = A s (15 * w + t) := by rw [htg t (by omega), decide_eq_true (by omega), Bool.true_and]
      have hlb : bt light t = decide (wt t < m) := by
        rw [hl t (by omega)]
        exact decide_eq_decide.mpr ⟨fun q => q.2, fun q => ⟨h, q⟩⟩
      by_cases ha : A s (15 * w + t) = true
      · rw [ha] at hb
        refine br_f (by rw [gu_t (by omega), hb]; decide) ?_
        have e15 : (15 * w + t) / 15 = w := by omega
        have hL' := gx_Ls hL ha
        rw [e15, h15] at hL'
        have far : 15 * w + t ≠ f → ∀ x3, x3 = gu_i (decide (f < 15 * w + t)) → wX_listArrows_84 post J10 (wX_listArrows_36 post J10 (nI s) light (nI w) tg (nI S) (nI db) (nI wb) (nI D) (nI V) (nI cp) (nI N) f_built f_codeCount f_splitCount f_encoder f_messageLength n) (nI s) light x3 (nI w) tg (nI t) (nI (gs_c (A s) f (15 * w + t))) (nI S) (nI db) (nI wb) (nI D) (nI V) (nI cp) (nI N) (nI (gs_c (A s) f (15 * w + t))) f_built f_codeCount f_splitCount f_encoder f_messageLength a_edgeTarget a_jumpTarget a_good a_nodeBase a_nodeWeight a_arrows a_renumber lw lt a_seenAt a_seenSum a_alive a_codeBase a_stepWord a_stepTarget a_pairNow a_pairNext a_sentData a_sentWord a_channelWord := by
          intro ne x3 hx
          subst hx
          refine nm_r (nI_1 _) (gx_La _ _ (by have := hc (15 * w + t); omega) ?_)
          have e1 : gs_c (A s) f (15 * w + (t + 1)) = gs_c (A s) f (15 * w + t) + 1 := gs_cT ha ne
          have e2 : decide (f < 15 * w + (t + 1)) = decide (f < 15 * w + t) := decide_eq_decide.mpr (by omega)
          have e3 : gs_i (A s) f (15 * w + t) = gs_c (A s) f (15 * w + t) := if_neg ne
          rw [e3] at hL'
          have := ih (t + 1) _ _ (by omega) (by omega) hL'
          rw [e1, e2] at this
          exact this
        by_cases hfd : f < 15 * w + t
        · rw [decide_eq_true hfd]
          refine br_f (by decide) ?_
          have := far (by omega) _ rfl
          rw [decide_eq_true hfd] at this
          exact this
        · rw [decide_eq_false hfd]
          refine br_t rfl ?_
          by_cases hlt : wt t < m
          · have ef : f = 15 * w + t := by
              rcases Nat.lt_or_ge (15 * w + t) f with c | c
              · exact absurd hlt (by have := hf3 _ c ha; rw [h15] at this; exact this)
              · omega
            refine br_f (by rw [gu_t (by omega), hlb, decide_eq_true hlt]; decide) ?_
            refine gx_La (e := 0) _ _ (by omega) ?_
            have e1 : gs_c (A s) f (15 * w + (t + 1)) = gs_c (A s) f (15 * w + t) := gs_cF (fun q => q.2 ef.symm)
            have e2 : decide (f < 15 * w + (t + 1)) = true := decide_eq_true (by omega)
            have e3 : gs_i (A s) f (15 * w + t) = 0 := if_pos ef.symm
            rw [e3] at hL'
            have := ih (t + 1) _ _ (by omega) (by omega) hL'
            rw [e1, e2] at this
            exact this
          · refine br_t (by rw [gu_t (by omega), hlb, decide_eq_false hlt]) ?_
            have := far (fun c => by rw [← c, h15] at hf2; exact hlt hf2) _ rfl
            rw [decide_eq_false hfd] at this
            exact this
      · have hbf : A s (15 * w + t) = false := gu_nt ha
        rw [hbf] at hb
        refine br_t (by rw [gu_t (by omega), hb]) (nm_r (nI_1 t) ?_)
        have ne : f ≠ 15 * w + t := fun c => by rw [← c, hf] at hbf; exact absurd hbf (by decide)
        have e1 : gs_c (A s) f (15 * w + (t + 1)) = gs_c (A s) f (15 * w + t) := gs_cF (fun q => ha q.1)
        have e2 : decide (f < 15 * w + (t + 1)) = decide (f < 15 * w + t) := decide_eq_decide.mpr (by omega)
        have := ih (t + 1) lw lt (by omega) (by omega) (fun q hq hqb => hL q (by
          rcases Nat.lt_or_ge q (15 * w + t) with c | c
          · exact c
          · rw [show q = 15 * w + t by omega, hbf] at hqb; exact absurd hqb (by decide)) hqb)
        rw [e1, e2] at this
        exact this
theorem gx_l10 {post : SX → Prop} {light : Int32} (hN : N ≤ 15) (hV : V ≤ 8) (hs : s < N) (hi1 : ∀ u p, A u p = true → u < N ∧ p < 120 ∧ p % 15 < N ∧ p / 15 < V)
    (hA : gx_A A a_arrows) (hl : ∀ i, i < 32 → bt light i = decide (i < N ∧ wt i < m))
    (hf : A s f = true) (hf2 : wt (f % 15) < m) (hf3 : ∀ p, p < f → A s p = true → ¬ wt (p % 15) < m)
    (hp : ∀ lw lt, gx_L (A s) f 120 lw lt → post ((nI S), (nI db), (nI wb), (nI D), (nI V), (nI cp), (nI N), (nI (gs_c (A s) f 120)), f_built, f_codeCount, f_splitCount, f_encoder, f_messageLength, a_edgeTarget, a_jumpTarget, a_good, a_nodeBase, a_nodeWeight, a_arrows, a_renumber, lw, lt, a_seenAt, a_seenSum, a_alive, a_codeBase, a_stepWord, a_stepTarget, a_pairNow, a_pairNext, a_sentData, a_sentWord, a_channelWord)) :
    ∀ n w lw lt, V < n + w → w ≤ V → gx_L (A s) f (15 * w) lw lt → wX_listArrows_10 post (nI s) light (nI S) (nI db) (nI wb) (nI D) (nI V) (nI cp) (nI N) f_built f_codeCount f_splitCount f_encoder f_messageLength n (gu_i (decide (f < 15 * w))) (nI w) (nI (gs_c (A s) f (15 * w))) a_edgeTarget a_jumpTarget a_good a_nodeBase a_nodeWeight a_arrows a_renumber lw lt a_seenAt a_seenSum a_alive a_codeBase a_stepWord a_stepTarget a_pairNow a_pairNext a_sentData a_sentWord a_channelWord := by
  intro n
  induction n with
  | zero => intro w lw lt z1 z2; omega
  | succ n ih =>
    intro w lw lt z1 z2 hL
    refine pk_le V w (fun h => ?_) (fun h => ⟨gu_in8 (by omega) (by omega), nm_e ⟨N + 1, ?_⟩⟩)
    · have hz : ∀ q, 15 * w ≤ q → q < 120 → A s q = false := fun q h1 h2 => gu_nt fun ha => by have := (hi1 _ _ ha).2.2.2; omega
      rw [← gs_ck (B := A s) (f := f) (a := 15 * w) 120 (by omega) hz]
      exact hp lw lt fun q hq hb => hL q (by
        rcases Nat.lt_or_ge q (15 * w) with c | c
        · exact c
        · rw [hz q c hq] at hb; exact absurd hb (by decide)) hb
    · rw [gu_c8 (by omega)]
      exact gx_l36 (wX_listArrows_10 post (nI s) light (nI S) (nI db) (nI wb) (nI D) (nI V) (nI cp) (nI N) f_built f_codeCount f_splitCount f_encoder f_messageLength n) hN hV h hs hi1 (fun i hi => hA s w i (by omega) (by omega) hi) hl hf hf2 hf3 (fun lw' lt' h' => ih (w + 1) lw' lt' (by omega) (by omega) h') (N + 1) 0 lw lt (by omega) (by omega) hL
theorem gx_la {post : SX → Prop} {light : Int32} (hN : N ≤ 15) (hV : V ≤ 8) (hs : s < N) (hi1 : ∀ u p, A u p = true → u < N ∧ p < 120 ∧ p % 15 < N ∧ p / 15 < V)
    (hA : gx_A A a_arrows) (hl : ∀ i, i < 32 → bt light i = decide (i < N ∧ wt i < m))
    (hf : A s f = true) (hf2 : wt (f % 15) < m) (hf3 : ∀ p, p < f → A s p = true → ¬ wt (p % 15) < m)
    (hp : ∀ lw lt, gx_L (A s) f 120 lw lt → post ((nI S), (nI db), (nI wb), (nI D), (nI V), (nI cp), (nI N), (nI (gs_c (A s) f 120)), f_built, f_codeCount, f_splitCount, f_encoder, f_messageLength, a_edgeTarget, a_jumpTarget, a_good, a_nodeBase, a_nodeWeight, a_arrows, a_renumber, lw, lt, a_seenAt, a_seenSum, a_alive, a_codeBase, a_stepWord, a_stepTarget, a_pairNow, a_pairNext, a_sentData, a_sentWord, a_channelWord)) : wpX_listArrows post ((nI S), (nI db), (nI wb), (nI D), (nI V), (nI cp), (nI N), f_listSize, f_built, f_codeCount, f_splitCount, f_encoder, f_messageLength, a_edgeTarget, a_jumpTarget, a_good, a_nodeBase, a_nodeWeight, a_arrows, a_renumber, a_listWord, a_listTarget, a_seenAt, a_seenSum, a_alive, a_codeBase, a_stepWord, a_stepTarget, a_pairNow, a_pairNext, a_sentData, a_sentWord, a_channelWord) (nI s) light := by
  refine ⟨V + 1, ?_⟩
  have := gx_l10 (cp := cp) (db := db) (wb := wb) (S := S) (D := D) (f_built := f_built) (f_codeCount := f_codeCount) (f_splitCount := f_splitCount) (f_encoder := f_encoder) (f_messageLength := f_messageLength) hN hV hs hi1 hA hl hf hf2 hf3 hp (V + 1) 0 a_listWord a_listTarget (by omega) (by omega) (fun q hq => by omega)
  exact this
end GXS
end
section
/-! splitting: the component's walk, second half -/
theorem gs_Ks {B : Nat → Bool} {f i e q : Nat} (hi : i ≤ e) (he : e < gs_c B f 120) (hB : B q = true) (hq : q < 120) : gs_K B f i (e + 1) q = (gs_K B f i e q || decide (q = gs_h B f 120 e)) := by
  have h1 : q = gs_h B f 120 e ↔ gs_i B f q = e := by
    constructor
    · intro h; rw [h, gs_ih he]
    · intro h; rw [← h, gs_hi' hB hq]
  unfold gs_K
  rw [← Bool.decide_or]
  apply decide_eq_decide.mpr
  rw [h1]
  omega
section GXT
variable {S db wb D V cp N N0 k m s f i j y : Nat} {bs wt : Nat → Nat} {A : Nat → Nat → Bool} {f_listSize f_built f_codeCount f_splitCount f_encoder f_messageLength : Int32} {a_edgeTarget a_jumpTarget a_good a_nodeBase a_nodeWeight a_arrows a_renumber a_listWord a_listTarget a_seenAt a_seenSum a_alive a_codeBase a_stepWord a_stepTarget a_pairNow a_pairNext a_sentData a_sentWord a_channelWord : Nat → Int32}
def gx_rE (A : Nat → Nat → Bool) (s N : Nat) (K : Nat → Bool) (ar : Nat → Int32) : Prop := gx_A (gs_r A s N K) ar
theorem gx_s65 {post : SX → Prop} (hN : N < 15) (hs : s < N) (hV : V ≤ 8) (hi1 : ∀ u p, A u p = true → u < N ∧ p < 120 ∧ p % 15 < N ∧ p / 15 < V) (hf : A s f = true) (hL : gx_L (A s) f 120 a_listWord a_listTarget)
    (hij : i ≤ j) (hj : j ≤ gs_c (A s) f 120)
    (hp : ∀ ar, gx_A (gs_r A s N (gs_K (A s) f i j)) ar → post ((nI S), (nI db), (nI wb), (nI D), (nI V), (nI cp), (nI N), f_listSize, f_built, f_codeCount, f_splitCount, f_encoder, f_messageLength, a_edgeTarget, a_jumpTarget, a_good, a_nodeBase, a_nodeWeight, ar, a_renumber, a_listWord, a_listTarget, a_seenAt, a_seenSum, a_alive, a_codeBase, a_stepWord, a_stepTarget, a_pairNow, a_pairNext, a_sentData, a_sentWord, a_channelWord)) :
    ∀ n e ar, j < n + e → i ≤ e → e ≤ j → gx_A (gs_r A s N (gs_K (A s) f i e)) ar → wX_shareArrows_65 post (nI s) (nI j) (nI N) (nI S) (nI db) (nI wb) (nI D) (nI V) (nI cp) (nI N) f_listSize f_built f_codeCount f_splitCount f_encoder f_messageLength n (nI e) a_edgeTarget a_jumpTarget a_good a_nodeBase a_nodeWeight ar a_renumber a_listWord a_listTarget a_seenAt a_seenSum a_alive a_codeBase a_stepWord a_stepTarget a_pairNow a_pairNext a_sentData a_sentWord a_channelWord := by
  have hfb := hi1 _ _ hf
  have hc : gs_c (A s) f 120 ≤ 120 := by
    have a := gs_cle (B := A s) (f := f) 120
    rw [if_pos hfb.2.1] at a
    omega
  intro n
  induction n with
  | zero => intro e ar z1 z2; omega
  | succ n ih =>
    intro e ar z1 z2 z3 hI
    refine pk_le j e (fun h => ?_) (fun h => ?_)
    · have ee : e = j := by omega
      subst ee; exact hp ar hI
    · obtain ⟨hB, hq⟩ := gs_hB (p := 120) hf hfb.2.1 (show e < gs_c (A s) f 120 by omega)
      have hb := hi1 _ _ hB
      have hie := gs_ih (B := A s) (f := f) (p := 120) (show e < gs_c (A s) f 120 by omega)
      have l := hL _ hq hB
      rw [hie] at l
      generalize hp0 : gs_h (A s) f 120 e = p at *
      have ew : a_listWord (nI e).toNatClampNeg = nI (p / 15) := by rw [nI_clamp (by omega)]; exact l.1
      have et : a_listTarget (nI e).toNatClampNeg = nI (p % 15) := by rw [nI_clamp (by omega)]; exact l.2
      refine ⟨vp_in_nI (by omega) (by omega), nm_r (e' := (1 : Int32) <<< (nI (p % 15) &&& 31)) (by rw [et]) ⟨vp_in_nI (by omega) (by omega), nm_r ew ⟨gu_in8 (by omega) (by omega), gu_in8 (by omega) (by omega), ?_⟩⟩⟩
      refine nm_r (e' := upd ar (8 * s + p / 15) (ar (8 * s + p / 15) ||| ((1 : Int32) <<< (nI (p % 15) &&& 31)))) (by rw [gu_c8 (by omega)]) ⟨gu_in8 (by omega) (by omega), gu_in8 (by omega) (by omega), ?_⟩
      refine nm_r (e' := upd (upd ar (8 * s + p / 15) (ar (8 * s + p / 15) ||| ((1 : Int32) <<< (nI (p % 15) &&& 31)))) (8 * N + p / 15) (ar (8 * N + p / 15) &&& (((1 : Int32) <<< (nI (p % 15) &&& 31)) ^^^ (-1)))) (by rw [gu_c8 (by omega), pk_un (show 8 * N + p / 15 ≠ 8 * s + p / 15 by omega)]) (nm_r (nI_1 e) (ih (e + 1) _ (by omega) (by omega) (by omega) ?_))
      intro u w x hu hw hx
      have old := hI u w x hu hw hx
      have kk : ∀ q, A s q = true → gs_K (A s) f i (e + 1) q = (gs_K (A s) f i e q || decide (q = p)) := fun q hq => by
        rw [gs_Ks z2 (by omega) hq (hi1 _ _ hq).2.1, hp0]
      by_cases cN : 8 * u + w = 8 * N + p / 15
      · have e1 : u = N := by omega
        have e2 : w = p / 15 := by omega
        subst e1 e2
        rw [pk_us, gu_cl (by omega) hx, old]
        unfold gs_r
        rw [if_neg (by omega), if_pos rfl, if_neg (by omega), if_pos rfl]
        by_cases h15 : x < 15
        · rw [decide_eq_true h15, Bool.true_and, Bool.true_and]
          cases ha : A s (15 * (p / 15) + x)
          · rfl
          · rw [kk _ ha]
            have : decide (15 * (p / 15) + x = p) = decide (x = p % 15) := decide_eq_decide.mpr (by omega)
            rw [this]
            cases gs_K (A s) f i e (15 * (p / 15) + x) <;> cases decide (x = p % 15) <;> rfl
        · rw [decide_eq_false h15, Bool.false_and, Bool.false_and, Bool.false_and]
      · rw [pk_un cN]
        by_cases cs : 8 * u + w = 8 * s + p / 15
        · have e1 : u = s := by omega
          have e2 : w = p / 15 := by omega
          subst e1 e2
          rw [pk_us, gu_or (by omega) hx, old]
          unfold gs_r
          rw [if_pos rfl, if_pos rfl]
          by_cases h15 : x < 15
          · rw [decide_eq_true h15, Bool.true_and, Bool.true_and]
            have e3 : decide (15 * (p / 15) + x = p) = decide (x = p % 15) := decide_eq_decide.mpr (by omega)
            cases ha : A u (15 * (p / 15) + x)
            · have : decide (x = p % 15) = false := by
                rw [← e3]
                apply decide_eq_false
                intro c
                rw [c, hB] at ha
                exact absurd ha (by decide)
              rw [this]; rfl
            · rw [kk _ ha, e3]
              cases gs_K (A u) f i e (15 * (p / 15) + x) <;> cases decide (x = p % 15) <;> rfl
          · rw [decide_eq_false h15, Bool.false_and, Bool.false_and, decide_eq_false (by omega)]; rfl
        · rw [pk_un cs, old]
          by_cases h15 : x < 15
          · congr 1
            have np : A s (15 * w + x) = true → decide (15 * w + x = p) = true → w = p / 15 := fun _ h => by have := of_decide_eq_true h; omega
            unfold gs_r
            by_cases c1 : u = s
            · rw [if_pos c1, if_pos c1]
              cases ha : A s (15 * w + x)
              · rfl
              · rw [kk _ ha, decide_eq_false (show ¬ 15 * w + x = p by omega), Bool.or_false]
            · rw [if_neg c1, if_neg c1]
              by_cases c2 : u = N
              · rw [if_pos c2, if_pos c2]
                cases ha : A s (15 * w + x)
                · rfl
                · rw [kk _ ha, decide_eq_false (show ¬ 15 * w + x = p by omega), Bool.or_false]
              · rw [if_neg c2, if_neg c2]
          · rw [decide_eq_false h15, Bool.false_and, Bool.false_and]
theorem gx_s9 {post : SX → Prop} (hN : N < 15) (hs : s < N) (hV : V ≤ 8) (hi1 : ∀ u p, A u p = true → u < N ∧ p < 120 ∧ p % 15 < N ∧ p / 15 < V) (hA : gx_A A a_arrows)
    (hk : ∀ ar, gx_A (gs_r A s N (fun _ => false)) ar → ∃ n65, wX_shareArrows_65 post (nI s) (nI j) (nI N) (nI S) (nI db) (nI wb) (nI D) (nI V) (nI cp) (nI N) f_listSize f_built f_codeCount f_splitCount f_encoder f_messageLength n65 (nI i) a_edgeTarget a_jumpTarget a_good a_nodeBase a_nodeWeight ar a_renumber a_listWord a_listTarget a_seenAt a_seenSum a_alive a_codeBase a_stepWord a_stepTarget a_pairNow a_pairNext a_sentData a_sentWord a_channelWord) :
    ∀ n w ar, V < n + w → w ≤ V → (∀ u w' x, u < 15 → w' < 8 → x < 32 → bt (ar (8 * u + w')) x = (decide (x < 15) && (if w' < w then gs_r A s N (fun _ => false) u (15 * w' + x) else A u (15 * w' + x)))) → wX_shareArrows_9 post (nI s) (nI i) (nI j) (nI N) (nI S) (nI db) (nI wb) (nI D) (nI V) (nI cp) (nI N) f_listSize f_built f_codeCount f_splitCount f_encoder f_messageLength n (nI w) a_edgeTarget a_jumpTarget a_good a_nodeBase a_nodeWeight ar a_renumber a_listWord a_listTarget a_seenAt a_seenSum a_alive a_codeBase a_stepWord a_stepTarget a_pairNow a_pairNext a_sentData a_sentWord a_channelWord := by
  have rr : ∀ q, gs_r A s N (fun _ => false) s q = false := fun q => by unfold gs_r; rw [if_pos rfl, Bool.and_false]
  have rN : ∀ q, gs_r A s N (fun _ => false) N q = A s q := fun q => by unfold gs_r; rw [if_neg (by omega), if_pos rfl]; cases A s q <;> rfl
  have rO : ∀ u q, u ≠ s → u ≠ N → gs_r A s N (fun _ => false) u q = A u q := fun u q h1 h2 => by unfold gs_r; rw [if_neg h1, if_neg h2]
  intro n
  induction n with
  | zero => intro w ar z1 z2; omega
  | succ n ih =>
    intro w ar z1 z2 hI
    refine pk_le V w (fun h => hk ar fun u w' x hu hw hx => ?_) (fun h => ?_)
    · rw [hI u w' x hu hw hx]
      by_cases h15 : x < 15
      · congr 1
        by_cases c : w' < w
        · rw [if_pos c]
        · rw [if_neg c]
          have z : ∀ v, A v (15 * w' + x) = false := fun v => gu_nt fun h => by have := (hi1 _ _ h).2.2.2; omega
          rw [z]
          unfold gs_r
          rw [z, z]
          split
          · rfl
          · split <;> rfl
      · rw [decide_eq_false h15, Bool.false_and, Bool.false_and]
    · refine ⟨gu_in8 (by omega) (by omega), gu_in8 (by omega) (by omega), nm_r (e' := upd ar (8 * N + w) (ar (8 * s + w))) (by rw [gu_c8 (by omega), gu_c8 (by omega)]) ⟨gu_in8 (by omega) (by omega), nm_r (e' := upd (upd ar (8 * N + w) (ar (8 * s + w))) (8 * s + w) 0) (by rw [gu_c8 (by omega)]) (nm_r (nI_1 w) (ih (w + 1) _ (by omega) (by omega) fun u w' x hu hw hx => ?_))⟩⟩
      by_cases cs : 8 * u + w' = 8 * s + w
      · have e1 : u = s := by omega
        have e2 : w' = w := by omega
        subst e1 e2
        rw [pk_us, b_0, if_pos (by omega), rr, Bool.and_false]
      · rw [pk_un cs]
        by_cases cN : 8 * u + w' = 8 * N + w
        · have e1 : u = N := by omega
          have e2 : w' = w := by omega
          subst e1 e2
          rw [pk_us, hI s w' x (by omega) hw hx, if_neg (by omega), if_pos (by omega), rN]
        · rw [pk_un cN, hI u w' x hu hw hx]
          by_cases c : w' < w
          · rw [if_pos c, if_pos (by omega)]
          · rw [if_neg c]
            by_cases c2 : w' = w
            · subst c2
              rw [if_pos (by omega), rO u _ (by omega) (by omega)]
            · rw [if_neg (by omega)]
theorem gx_sh {post : SX → Prop} (hN : N < 15) (hs : s < N) (hV : V ≤ 8) (hi1 : ∀ u p, A u p = true → u < N ∧ p < 120 ∧ p % 15 < N ∧ p / 15 < V) (hA : gx_A A a_arrows) (hf : A s f = true) (hL : gx_L (A s) f 120 a_listWord a_listTarget)
    (hij : i ≤ j) (hj : j ≤ gs_c (A s) f 120)
    (hp : ∀ ar, gx_A (gs_r A s N (gs_K (A s) f i j)) ar → post ((nI S), (nI db), (nI wb), (nI D), (nI V), (nI cp), (nI N), f_listSize, f_built, f_codeCount, f_splitCount, f_encoder, f_messageLength, a_edgeTarget, a_jumpTarget, a_good, a_nodeBase, a_nodeWeight, ar, a_renumber, a_listWord, a_listTarget, a_seenAt, a_seenSum, a_alive, a_codeBase, a_stepWord, a_stepTarget, a_pairNow, a_pairNext, a_sentData, a_sentWord, a_channelWord)) : wpX_shareArrows post ((nI S), (nI db), (nI wb), (nI D), (nI V), (nI cp), (nI N), f_listSize, f_built, f_codeCount, f_splitCount, f_encoder, f_messageLength, a_edgeTarget, a_jumpTarget, a_good, a_nodeBase, a_nodeWeight, a_arrows, a_renumber, a_listWord, a_listTarget, a_seenAt, a_seenSum, a_alive, a_codeBase, a_stepWord, a_stepTarget, a_pairNow, a_pairNext, a_sentData, a_sentWord, a_channelWord) (nI s) (nI i) (nI j) := by
  refine ⟨V + 1, gx_s9 hN hs hV hi1 hA (fun ar h => ⟨j + 1, gx_s65 hN hs hV hi1 hf hL hij hj hp (j + 1) i ar (by omega) (by omega) hij ?_⟩) (V + 1) 0 a_arrows (by omega) (by omega) fun u w' x hu hw hx => ?_⟩
  · have e : gs_K (A s) f i i = fun _ => false := by funext q; unfold gs_K; exact decide_eq_false (by omega)
    rw [e]; exact h
  · rw [hA u w' x hu hw hx, if_neg (by omega)]
/-- the arrows to s doubled -/
theorem gx_d13 {post : SX → Prop} (J2 : Int32 → (Nat → Int32) → (Nat → Int32) → (Nat → Int32) → (Nat → Int32) → (Nat → Int32) → (Nat → Int32) → (Nat → Int32) → (Nat → Int32) → (Nat → Int32) → (Nat → Int32) → (Nat → Int32) → (Nat → Int32) → (Nat → Int32) → (Nat → Int32) → (Nat → Int32) → (Nat → Int32) → (Nat → Int32) → (Nat → Int32) → (Nat → Int32) → (Nat → Int32) → Prop) {K : Nat → Bool} {u : Nat} (hN : N < 15) (hs : s < N) (hV : V ≤ 8) (hu : u < N + 1) (hi1 : ∀ u p, A u p = true → u < N ∧ p < 120 ∧ p % 15 < N ∧ p / 15 < V)
    (hJ : ∀ ar, (∀ u' w' x, u' < 15 → w' < 8 → x < 32 → bt (ar (8 * u' + w')) x = (decide (x < 15) && (if u' < u + 1 then gs_A A s N K u' (15 * w' + x) else gs_r A s N K u' (15 * w' + x)))) → J2 (nI (u + 1)) a_edgeTarget a_jumpTarget a_good a_nodeBase a_nodeWeight ar a_renumber a_listWord a_listTarget a_seenAt a_seenSum a_alive a_codeBase a_stepWord a_stepTarget a_pairNow a_pairNext a_sentData a_sentWord a_channelWord) :
    ∀ n w ar, V < n + w → w ≤ V → (∀ u' w' x, u' < 15 → w' < 8 → x < 32 → bt (ar (8 * u' + w')) x = (decide (x < 15) && (if u' < u ∨ (u' = u ∧ w' < w) then gs_A A s N K u' (15 * w' + x) else gs_r A s N K u' (15 * w' + x)))) → wX_doubleArrows_13 post J2 (nI s) (nI N) (nI u) (nI S) (nI db) (nI wb) (nI D) (nI V) (nI cp) (nI (N + 1)) f_listSize f_built f_codeCount f_splitCount f_encoder f_messageLength n (nI w) a_edgeTarget a_jumpTarget a_good a_nodeBase a_nodeWeight ar a_renumber a_listWord a_listTarget a_seenAt a_seenSum a_alive a_codeBase a_stepWord a_stepTarget a_pairNow a_pairNext a_sentData a_sentWord a_channelWord := by
  have hrz : ∀ u q, ¬ (q / 15 < V ∧ q % 15 < N) → gs_r A s N K u q = false := fun u q h => gu_nt fun z => h (by have := hi1 _ _ (gs_rA z); exact ⟨this.2.2.2, this.2.2.1⟩)
  intro n
  induction n with
  | zero => intro w ar z1 z2; omega
  | succ n ih =>
    intro w ar z1 z2 hI
    refine pk_le V w (fun h => nm_r (nI_1 u) (hJ ar fun u' w' x hu' hw' hx => ?_)) (fun h => ⟨gu_in8 (by omega) (by omega), ?_⟩)
    · rw [hI u' w' x hu' hw' hx]
      by_cases h15 : x < 15
      · congr 1
        by_cases c : u' < u ∨ (u' = u ∧ w' < w)
        · rw [if_pos c, if_pos (by omega)]
        · rw [if_neg c]
          by_cases c2 : u' < u + 1
          · rw [if_pos c2, gs_Ap h15, hrz _ _ (by omega), hrz _ _ (by have := gs_pil (s := s) (N := N) (by omega) h15; omega)]
          · rw [if_neg c2]
      · rw [decide_eq_false h15, Bool.false_and, Bool.false_and]
    · have old : ∀ x, x < 15 → bt (ar (8 * u + w)) x = gs_r A s N K u (15 * w + x) := fun x hx => by
        rw [hI u w x (by omega) (by omega) (by omega), decide_eq_true hx, Bool.true_and, if_neg (by omega)]
      have hNf : gs_r A s N K u (15 * w + N) = false := hrz _ _ (by omega)
      have goal : ∀ ar' : Nat → Int32, (∀ q, q ≠ 8 * u + w → ar' q = ar q) → (∀ x, x < 32 → bt (ar' (8 * u + w)) x = (bt (ar (8 * u + w)) x || (decide (x = N) && gs_r A s N K u (15 * w + s)))) →
          (∀ u' w' x, u' < 15 → w' < 8 → x < 32 → bt (ar' (8 * u' + w')) x = (decide (x < 15) && (if u' < u ∨ (u' = u ∧ w' < w + 1) then gs_A A s N K u' (15 * w' + x) else gs_r A s N K u' (15 * w' + x)))) := by
        intro ar' h1 h2 u' w' x hu' hw' hx
        by_cases c : 8 * u' + w' = 8 * u + w
        · have e1 : u' = u := by omega
          have e2 : w' = w := by omega
          subst e1 e2
          rw [h2 x hx, if_pos (by omega)]
          by_cases h15 : x < 15
          · rw [old x h15, decide_eq_true h15, Bool.true_and, gs_Ap h15]
            unfold gs_pi
            by_cases cN : x = N
            · subst cN
              rw [if_pos rfl, decide_eq_true rfl, hNf, Bool.true_and, Bool.false_or]
            · rw [if_neg cN, decide_eq_false cN, Bool.false_and, Bool.or_false]
          · rw [hI u' w' x hu' hw' hx, decide_eq_false h15, Bool.false_and, Bool.false_and, decide_eq_false (by omega)]; rfl
        · rw [h1 _ c, hI u' w' x hu' hw' hx]
          by_cases c1 : u' < u ∨ (u' = u ∧ w' < w)
          · rw [if_pos c1, if_pos (by omega)]
          · rw [if_neg c1, if_neg (by omega)]
      rw [gu_c8 (by omega)]
      have hbs : bt (ar (8 * u + w)) s = gs_r A s N K u (15 * w + s) := old s (by omega)
      cases hb : gs_r A s N K u (15 * w + s)
      · rw [hb] at hbs
        refine br_t (by rw [gu_t (by omega)]; exact hbs) (nm_r (nI_1 w) (ih (w + 1) ar (by omega) (by omega) (goal ar (fun _ _ => rfl) fun x hx => ?_)))
        rw [hb, Bool.and_false, Bool.or_false]
      · rw [hb] at hbs
        refine br_f (by rw [gu_t (by omega), hbs]; decide) ⟨gu_in8 (by omega) (by omega), gu_in8 (by omega) (by omega), nm_e (nm_r (nI_1 w) (ih (w + 1) _ (by omega) (by omega) (goal _ (fun q hq => pk_un hq) fun x hx => ?_)))⟩
        rw [pk_us, gu_or (by omega) hx, hb, Bool.and_true]
theorem gx_d2 {post : SX → Prop} {K : Nat → Bool} (hN : N < 15) (hs : s < N) (hV : V ≤ 8) (hi1 : ∀ u p, A u p = true → u < N ∧ p < 120 ∧ p % 15 < N ∧ p / 15 < V)
    (hp : ∀ ar, gx_A (gs_A A s N K) ar → post ((nI S), (nI db), (nI wb), (nI D), (nI V), (nI cp), (nI (N + 1)), f_listSize, f_built, f_codeCount, f_splitCount, f_encoder, f_messageLength, a_edgeTarget, a_jumpTarget, a_good, a_nodeBase, a_nodeWeight, ar, a_renumber, a_listWord, a_listTarget, a_seenAt, a_seenSum, a_alive, a_codeBase, a_stepWord, a_stepTarget, a_pairNow, a_pairNext, a_sentData, a_sentWord, a_channelWord)) :
    ∀ n u ar, N + 1 < n + u → u ≤ N + 1 → (∀ u' w' x, u' < 15 → w' < 8 → x < 32 → bt (ar (8 * u' + w')) x = (decide (x < 15) && (if u' < u then gs_A A s N K u' (15 * w' + x) else gs_r A s N K u' (15 * w' + x)))) → wX_doubleArrows_2 post (nI s) (nI N) (nI S) (nI db) (nI wb) (nI D) (nI V) (nI cp) (nI (N + 1)) f_listSize f_built f_codeCount f_splitCount f_encoder f_messageLength n (nI u) a_edgeTarget a_jumpTarget a_good a_nodeBase a_nodeWeight ar a_renumber a_listWord a_listTarget a_seenAt a_seenSum a_alive a_codeBase a_stepWord a_stepTarget a_pairNow a_pairNext a_sentData a_sentWord a_channelWord := by
  intro n
  induction n with
  | zero => intro u ar z1 z2; omega
  | succ n ih =>
    intro u ar z1 z2 hI
    refine pk_le (N + 1) u (fun h => hp ar fun u' w' x hu' hw' hx => ?_) (fun h => ⟨V + 1, ?_⟩)
    · rw [hI u' w' x hu' hw' hx]
      by_cases h15 : x < 15
      · congr 1
        by_cases c : u' < u
        · rw [if_pos c]
        · have z : ∀ q, gs_r A s N K u' q = false := fun q => gu_nt fun z => by
            have := (hi1 _ _ (gs_rA z)).1
            unfold gs_pi at this
            rw [if_neg (by omega)] at this
            omega
          rw [if_neg c, z, gs_Ap h15, z]
      · rw [decide_eq_false h15, Bool.false_and, Bool.false_and]
    · exact gx_d13 (wX_doubleArrows_2 post (nI s) (nI N) (nI S) (nI db) (nI wb) (nI D) (nI V) (nI cp) (nI (N + 1)) f_listSize f_built f_codeCount f_splitCount f_encoder f_messageLength n) hN hs hV h hi1 (fun ar' h' => ih (u + 1) ar' (by omega) (by omega) h') (V + 1) 0 ar (by omega) (by omega) fun u' w' x hu' hw' hx => by
        rw [hI u' w' x hu' hw' hx]
        by_cases c : u' < u
        · rw [if_pos c, if_pos (by omega)]
        · rw [if_neg c, if_neg (by omega)]
theorem gx_db {post : SX → Prop} {K : Nat → Bool} (hN : N < 15) (hs : s < N) (hV : V ≤ 8) (hi1 : ∀ u p, A u p = true → u < N ∧ p < 120 ∧ p % 15 < N ∧ p / 15 < V) (hA : gx_A (gs_r A s N K) a_arrows)
    (hp : ∀ ar, gx_A (gs_A A s N K) ar → post ((nI S), (nI db), (nI wb), (nI D), (nI V), (nI cp), (nI (N + 1)), f_listSize, f_built, f_codeCount, f_splitCount, f_encoder, f_messageLength, a_edgeTarget, a_jumpTarget, a_good, a_nodeBase, a_nodeWeight, ar, a_renumber, a_listWord, a_listTarget, a_seenAt, a_seenSum, a_alive, a_codeBase, a_stepWord, a_stepTarget, a_pairNow, a_pairNext, a_sentData, a_sentWord, a_channelWord)) : wpX_doubleArrows post ((nI S), (nI db), (nI wb), (nI D), (nI V), (nI cp), (nI (N + 1)), f_listSize, f_built, f_codeCount, f_splitCount, f_encoder, f_messageLength, a_edgeTarget, a_jumpTarget, a_good, a_nodeBase, a_nodeWeight, a_arrows, a_renumber, a_listWord, a_listTarget, a_seenAt, a_seenSum, a_alive, a_codeBase, a_stepWord, a_stepTarget, a_pairNow, a_pairNext, a_sentData, a_sentWord, a_channelWord) (nI s) (nI N) :=
  ⟨N + 2, gx_d2 hN hs hV hi1 hp (N + 2) 0 a_arrows (by omega) (by omega) fun u' w' x hu' hw' hx => by rw [hA u' w' x hu' hw' hx, if_neg (by omega)]⟩
end GXT
end
section
/-! splitting: the component's splitNode and splitOnce -/
section GXU
variable {S db wb D V cp N N0 k m s f i j y : Nat} {bs wt : Nat → Nat} {A : Nat → Nat → Bool} {f_listSize f_built f_codeCount f_splitCount f_encoder f_messageLength : Int32} {a_edgeTarget a_jumpTarget a_good a_nodeBase a_nodeWeight a_arrows a_renumber a_listWord a_listTarget a_seenAt a_seenSum a_alive a_codeBase a_stepWord a_stepTarget a_pairNow a_pairNext a_sentData a_sentWord a_channelWord : Nat → Int32}
theorem gx_162 {post : Int32 → SX → Prop} (hN : N < 15) (hs : s < N) (hV : V ≤ 8) (hm : m ≤ 3) (hy : y ≤ m) (hi1 : ∀ u p, A u p = true → u < N ∧ p < 120 ∧ p % 15 < N ∧ p / 15 < V) (hR : gx_R N bs wt A a_nodeBase a_nodeWeight a_arrows) (hf : A s f = true) (hL : gx_L (A s) f 120 a_listWord a_listTarget)
    (hij : i ≤ j) (hj : j ≤ gs_c (A s) f 120)
    (hp : ∀ nb nw ar, gx_R (N + 1) (gs_bs bs s N) (gs_w wt s N m y) (gs_A A s N (gs_K (A s) f i j)) nb nw ar → post 1 ((nI S), (nI db), (nI wb), (nI D), (nI V), (nI cp), (nI (N + 1)), f_listSize, f_built, f_codeCount, f_splitCount, f_encoder, f_messageLength, a_edgeTarget, a_jumpTarget, a_good, nb, nw, ar, a_renumber, a_listWord, a_listTarget, a_seenAt, a_seenSum, a_alive, a_codeBase, a_stepWord, a_stepTarget, a_pairNow, a_pairNext, a_sentData, a_sentWord, a_channelWord)) :
    wX_splitNode_162 post (nI s) (nI m) (nI i) (nI j) (nI y) (nI S) (nI db) (nI wb) (nI D) (nI V) (nI cp) (nI N) f_listSize f_built f_codeCount f_splitCount f_encoder f_messageLength a_edgeTarget a_jumpTarget a_good a_nodeBase a_nodeWeight a_arrows a_renumber a_listWord a_listTarget a_seenAt a_seenSum a_alive a_codeBase a_stepWord a_stepTarget a_pairNow a_pairNext a_sentData a_sentWord a_channelWord := by
  have hc : gs_c (A s) f 120 ≤ 121 := by
    have a := gs_cle (B := A s) (f := f) 120
    omega
  refine br_t (nI_pos' (by omega)) (gx_sh hN hs hV hi1 hR.2.2 hf hL hij hj fun ar har => ?_)
  refine ⟨vp_in_nI (by omega) (by omega), vp_in_nI (by omega) (by omega), nm_r (e' := upd a_nodeBase N (nI (bs s))) (by rw [nI_clamp (by omega), nI_clamp (by omega), hR.1 s hs]) ⟨vp_in_nI (by omega) (by omega), nm_r (e' := upd a_nodeWeight N (nI (m - y))) (by rw [nI_clamp (by omega), pk_sub hy]) ⟨vp_in_nI (by omega) (by omega), nm_r (e' := upd (upd a_nodeWeight N (nI (m - y))) s (nI y)) (by rw [nI_clamp (by omega)]) (nm_r (nI_1 N) ?_)⟩⟩⟩
  rw [nI_pred]
  refine gx_db hN hs hV hi1 har fun ar' har' => hp _ _ ar' ⟨fun u hu => ?_, fun u hu => ?_, har'⟩
  · unfold gs_bs
    by_cases c : u = N
    · subst c; rw [pk_us, if_pos rfl]
    · rw [pk_un c, if_neg c]; exact hR.1 u (by omega)
  · unfold gs_w
    by_cases c : u = s
    · subst c; rw [pk_us, if_pos rfl]
    · rw [pk_un c, if_neg c]
      by_cases c2 : u = N
      · subst c2; rw [pk_us, if_pos rfl]
      · rw [pk_un c2, if_neg c2]; exact hR.2.1 u (by omega)
/-- what seenAt and seenSum hold of the prefix sums below a -/
def gx_SI (D : Nat) (x : Nat → Nat) (a : Nat) (sa ss : Nat → Int32) : Prop :=
  (∀ b, b < a → sa (gu_s x b % D) = nI b ∧ ss (gu_s x b % D) = nI (gu_s x b)) ∧ ∀ r, r < 4 → (∀ b, b < a → gu_s x b % D ≠ r) → sa r = -1
theorem gx_48 {post : Int32 → SX → Prop} (hD : (db = 1 ∧ D = 2) ∨ (db = 2 ∧ D = 4)) (hSp : gs_Sp D N wt A s f i j m y) (hm : m ≤ 3) (hb : ∀ u, u < N → wt u ≤ 3) (hi1 : ∀ u p, A u p = true → u < N ∧ p < 120 ∧ p % 15 < N ∧ p / 15 < V) (hw : ∀ u, u < N → a_nodeWeight u = nI (wt u)) (hL : gx_L (A s) f 120 a_listWord a_listTarget)
    (hp : ∀ sa ss, wX_splitNode_162 post (nI s) (nI m) (nI i) (nI j) (nI y) (nI S) (nI db) (nI wb) (nI D) (nI V) (nI cp) (nI N) (nI (gs_c (A s) f 120)) f_built f_codeCount f_splitCount f_encoder f_messageLength a_edgeTarget a_jumpTarget a_good a_nodeBase a_nodeWeight a_arrows a_renumber a_listWord a_listTarget sa ss a_alive a_codeBase a_stepWord a_stepTarget a_pairNow a_pairNext a_sentData a_sentWord a_channelWord) :
    ∀ n a sa ss, a < j → j + 2 ≤ n + a → gx_SI D (fun e => wt (gs_h (A s) f 120 e % 15)) (a + 1) sa ss →
      wX_splitNode_48 post (nI s) (nI m) (nI S) (nI db) (nI wb) (nI D) (nI V) (nI cp) (nI N) (nI (gs_c (A s) f 120)) f_built f_codeCount f_splitCount f_encoder f_messageLength n (nI (gu_s (fun e => wt (gs_h (A s) f 120 e % 15)) a)) (-1) (-1) 0 (nI (a + 1)) a_edgeTarget a_jumpTarget a_good a_nodeBase a_nodeWeight a_arrows a_renumber a_listWord a_listTarget sa ss a_alive a_codeBase a_stepWord a_stepTarget a_pairNow a_pairNext a_sentData a_sentWord a_channelWord := by
  obtain ⟨p1, p2, p3, p4, p5, p6, p7, p8, p9, p10, p11, p12, p13, p14, p15⟩ := hSp
  have hD4 : 0 < D ∧ D ≤ 4 := by omega
  have hf2 := (hi1 _ _ p5).2.1
  have hc : gs_c (A s) f 120 ≤ 120 := by
    have a := gs_cle (B := A s) (f := f) 120
    rw [if_pos hf2] at a
    omega
  have hx : ∀ e, e < gs_c (A s) f 120 → a_listTarget e = nI (gs_h (A s) f 120 e % 15) ∧ gs_h (A s) f 120 e % 15 < N := fun e he => by
    obtain ⟨hB, hq⟩ := gs_hB (p := 120) p5 hf2 he
    have l := hL _ hq hB
    rw [gs_ih he] at l
    exact ⟨l.2, (hi1 _ _ hB).2.2.1⟩
  have hps : ∀ a, a ≤ 4 → a ≤ j → gu_s (fun e => wt (gs_h (A s) f 120 e % 15)) a ≤ 12 := fun a h4 ha => by
    have := gu_sb (f := fun e => wt (gs_h (A s) f 120 e % 15)) (b := 3) (k := a) (fun e he => hb _ (hx e (by omega)).2)
    omega
  intro n
  induction n with
  | zero => intro a sa ss z1 z2; omega
  | succ n ih =>
    intro a sa ss z1 z2 hI
    obtain ⟨ht, hwN⟩ := hx a (by omega)
    have hpa := hps a (by omega) (by omega)
    have hpa1 := hps (a + 1) (by omega) (by omega)
    have e1 : gu_s (fun e => wt (gs_h (A s) f 120 e % 15)) (a + 1) = gu_s (fun e => wt (gs_h (A s) f 120 e % 15)) a + wt (gs_h (A s) f 120 a % 15) := rfl
    refine pk_lt (gs_c (A s) f 120) (a + 1) (fun z => by omega) (fun _ => pk_lt 128 (a + 1) (fun z => by omega) (fun _ => br_f (by decide) ?_))
    rw [nI_pred, nI_clamp (by omega), ht, nI_clamp (by omega), hw _ hwN]
    have hr : gu_s (fun e => wt (gs_h (A s) f 120 e % 15)) (a + 1) % D < D := Nat.mod_lt _ hD4.1
    refine ⟨vp_in_nI (by omega) (by omega), vp_in_nI (by omega) (by omega), nm_r (e' := nI (gu_s (fun e => wt (gs_h (A s) f 120 e % 15)) (a + 1))) (by rw [nI_add, e1]) (nm_r (gu_mD hD (by omega)) ⟨vp_in_nI (by omega) (by omega), ?_⟩)⟩
    rw [nI_clamp (by omega)]
    rcases Nat.lt_or_ge (a + 1) j with c | c
    · have hneg : sa (gu_s (fun e => wt (gs_h (A s) f 120 e % 15)) (a + 1) % D) = -1 := hI.2 _ (by omega) (fun b hb' => p12 b (a + 1) hb' c)
      refine br_t (by rw [hneg]; decide) ⟨vp_in_nI (by omega) (by omega), nm_e ⟨vp_in_nI (by omega) (by omega), nm_e (nm_r (nI_1 (a + 1)) (ih (a + 1) _ _ c (by omega) ⟨fun b hb' => ?_, fun r hr' hb' => ?_⟩))⟩⟩
      · by_cases e : b = a + 1
        · subst e; exact ⟨pk_us, pk_us⟩
        · have ne : gu_s (fun e => wt (gs_h (A s) f 120 e % 15)) b % D ≠ gu_s (fun e => wt (gs_h (A s) f 120 e % 15)) (a + 1) % D := p12 b (a + 1) (by omega) c
          rw [pk_un ne, pk_un ne]
          exact hI.1 b (by omega)
      · rw [pk_un (fun e => hb' (a + 1) (by omega) e.symm)]
        exact hI.2 r hr' fun b hb'' => hb' b (by omega)
    · have ej : a + 1 = j := by omega
      subst ej
      have em : gu_s (fun e => wt (gs_h (A s) f 120 e % 15)) i % D = gu_s (fun e => wt (gs_h (A s) f 120 e % 15)) (a + 1) % D := by
        rw [p15, Nat.add_mul_mod_self_left]
      have hi' := hI.1 i p9
      rw [em] at hi'
      have ed : D * y / D = y := Nat.mul_div_cancel_left _ hD4.1
      refine br_f (by rw [hi'.1]; exact nI_pos (by omega)) ⟨vp_in_nI (by omega) (by omega), nm_r hi'.1 ⟨vp_in_nI (by omega) (by omega), nm_r (e' := nI y) ?_ (nm_r (nI_1 (a + 1)) ?_)⟩⟩
      · rw [hi'.2, pk_sub (by omega), show gu_s (fun e => wt (gs_h (A s) f 120 e % 15)) (a + 1) - gu_s (fun e => wt (gs_h (A s) f 120 e % 15)) i = D * y by omega, gu_dD hD (by omega), ed]
      · obtain ⟨n, rfl⟩ : ∃ n', n = n' + 1 := ⟨n - 1, by omega⟩
        exact br_c (fun _ => hp _ _) (fun _ => br_c (fun _ => hp _ _) (fun _ => br_t (nI_pos' (by omega)) (hp _ _)))
theorem gx_2 {post : Int32 → SX → Prop} {x2 : Int32} (hk : ∀ sa ss, (∀ r, r < 4 → sa r = -1 ∧ ss r = 0) → ∃ n48, wX_splitNode_48 post (nI s) x2 (nI S) (nI db) (nI wb) (nI D) (nI V) (nI cp) (nI N) f_listSize f_built f_codeCount f_splitCount f_encoder f_messageLength n48 0 (-1) (-1) 0 1 a_edgeTarget a_jumpTarget a_good a_nodeBase a_nodeWeight a_arrows a_renumber a_listWord a_listTarget (upd sa 0 0) ss a_alive a_codeBase a_stepWord a_stepTarget a_pairNow a_pairNext a_sentData a_sentWord a_channelWord) :
    ∀ n r sa ss, 4 < n + r → r ≤ 4 → (∀ r', r' < r → sa r' = -1 ∧ ss r' = 0) → wX_splitNode_2 post (nI s) x2 (nI S) (nI db) (nI wb) (nI D) (nI V) (nI cp) (nI N) f_listSize f_built f_codeCount f_splitCount f_encoder f_messageLength n (nI r) a_edgeTarget a_jumpTarget a_good a_nodeBase a_nodeWeight a_arrows a_renumber a_listWord a_listTarget sa ss a_alive a_codeBase a_stepWord a_stepTarget a_pairNow a_pairNext a_sentData a_sentWord a_channelWord := by
  intro n
  induction n with
  | zero => intro r sa ss z1 z2; omega
  | succ n ih =>
    intro r sa ss z1 z2 hI
    refine pk_le 4 r (fun h => nm_e (hk sa ss fun r' hr' => hI r' (by omega))) (fun h => ⟨vp_in_nI (by omega) (by omega), nm_r (e' := upd sa r (-1)) (by rw [nI_clamp (by omega)]) ⟨vp_in_nI (by omega) (by omega), nm_r (e' := upd ss r 0) (by rw [nI_clamp (by omega)]) (nm_r (nI_1 r) (ih (r + 1) _ _ (by omega) (by omega) fun r' hr' => ?_))⟩⟩)
    by_cases e : r' = r
    · subst e; exact ⟨pk_us, pk_us⟩
    · rw [pk_un e, pk_un e]; exact hI r' (by omega)
theorem gx_sn {post : Int32 → SX → Prop} (hD : (db = 1 ∧ D = 2) ∨ (db = 2 ∧ D = 4)) (hV : V ≤ 8) (hSp : gs_Sp D N wt A s f i j m y) (hm : m ≤ 3) (hb : ∀ u, u < N → wt u ≤ 3) (hi1 : ∀ u p, A u p = true → u < N ∧ p < 120 ∧ p % 15 < N ∧ p / 15 < V) (hR : gx_R N bs wt A a_nodeBase a_nodeWeight a_arrows) (hL : gx_L (A s) f 120 a_listWord a_listTarget)
    (hp : ∀ sa ss nb nw ar, gx_R (N + 1) (gs_bs bs s N) (gs_w wt s N m y) (gs_A A s N (gs_K (A s) f i j)) nb nw ar → post 1 ((nI S), (nI db), (nI wb), (nI D), (nI V), (nI cp), (nI (N + 1)), (nI (gs_c (A s) f 120)), f_built, f_codeCount, f_splitCount, f_encoder, f_messageLength, a_edgeTarget, a_jumpTarget, a_good, nb, nw, ar, a_renumber, a_listWord, a_listTarget, sa, ss, a_alive, a_codeBase, a_stepWord, a_stepTarget, a_pairNow, a_pairNext, a_sentData, a_sentWord, a_channelWord)) :
    wpX_splitNode post ((nI S), (nI db), (nI wb), (nI D), (nI V), (nI cp), (nI N), (nI (gs_c (A s) f 120)), f_built, f_codeCount, f_splitCount, f_encoder, f_messageLength, a_edgeTarget, a_jumpTarget, a_good, a_nodeBase, a_nodeWeight, a_arrows, a_renumber, a_listWord, a_listTarget, a_seenAt, a_seenSum, a_alive, a_codeBase, a_stepWord, a_stepTarget, a_pairNow, a_pairNext, a_sentData, a_sentWord, a_channelWord) (nI s) (nI m) := by
  have hD4 : 0 < D ∧ D ≤ 4 := by omega
  refine ⟨5, gx_2 (fun sa ss h => ⟨j + 2, ?_⟩) 5 0 a_seenAt a_seenSum (by omega) (by omega) (fun r' h => by omega)⟩
  refine gx_48 hD hSp hm hb hi1 hR.2.1 hL (fun sa' ss' => gx_162 hSp.2.1 hSp.1 hV hm ?_ hi1 hR hSp.2.2.2.2.1 hL (Nat.le_of_lt hSp.2.2.2.2.2.2.2.2.1) hSp.2.2.2.2.2.2.2.2.2.2.1 (hp sa' ss')) (j + 2) 0 (upd sa 0 0) ss ?_ (by omega) ⟨fun b hb' => ?_, fun r hr hb' => ?_⟩
  · have := hSp.2.2.2.2.2.2.2.2.2.2.2.2.2.1; omega
  · have := hSp.2.2.2.2.2.2.2.2.1; omega
  · have e : b = 0 := by omega
    subst e
    have e0 : gu_s (fun e => wt (gs_h (A s) f 120 e % 15)) 0 % D = 0 := Nat.zero_mod D
    rw [e0, pk_us]
    exact ⟨rfl, (h 0 (by omega)).2⟩
  · have e0 : gu_s (fun e => wt (gs_h (A s) f 120 e % 15)) 0 % D = 0 := Nat.zero_mod D
    have := hb' 0 (by omega)
    rw [e0] at this
    rw [pk_un (fun z => this z.symm)]
    exact (h r hr).1
/-- splitOnce, where there is a split -/
theorem gx_sp {post : Int32 → SX → Prop} (hD : (db = 1 ∧ D = 2) ∨ (db = 2 ∧ D = 4)) (hV : V ≤ 8) (hI : gs_Inv S D V N0 k N bs wt A) (hR : gx_R N bs wt A a_nodeBase a_nodeWeight a_arrows) (hSp : gs_Sp D N wt A s f i j m y)
    (hp : ∀ ls lw lt sa ss nb nw ar, gx_R (N + 1) (gs_bs bs s N) (gs_w wt s N m y) (gs_A A s N (gs_K (A s) f i j)) nb nw ar → post 1 ((nI S), (nI db), (nI wb), (nI D), (nI V), (nI cp), (nI (N + 1)), ls, f_built, f_codeCount, f_splitCount, f_encoder, f_messageLength, a_edgeTarget, a_jumpTarget, a_good, nb, nw, ar, a_renumber, lw, lt, sa, ss, a_alive, a_codeBase, a_stepWord, a_stepTarget, a_pairNow, a_pairNext, a_sentData, a_sentWord, a_channelWord)) :
    wpX_splitOnce post ((nI S), (nI db), (nI wb), (nI D), (nI V), (nI cp), (nI N), f_listSize, f_built, f_codeCount, f_splitCount, f_encoder, f_messageLength, a_edgeTarget, a_jumpTarget, a_good, a_nodeBase, a_nodeWeight, a_arrows, a_renumber, a_listWord, a_listTarget, a_seenAt, a_seenSum, a_alive, a_codeBase, a_stepWord, a_stepTarget, a_pairNow, a_pairNext, a_sentData, a_sentWord, a_channelWord) := by
  have hb : ∀ u, u < N → wt u ≤ 3 := fun u hu => (hI.2.1 u hu).2.1
  have hm3 : gs_m wt N ≤ 3 := gs_mb hb
  obtain ⟨p1, p2, p3, p4, p5, p6, p7, p8, p9, p10, p11, p12, p13, p14, p15⟩ := id hSp
  refine gx_gw (by omega) hR.2.1 hb ?_
  rw [← p3] at hm3 ⊢
  refine gx_ln (by omega) hR.2.1 hb hm3 fun light hl => ⟨N + 1, ?_⟩
  refine gx_ns2 (by omega) hV hR hI.1 hb hm3 hl (fun hno => absurd p6 (hno s f p1 p5 p4)) (fun s' h1 h2 h3 h4 => ?_) (N + 1) 0 (by omega) (by omega) (fun s' p h => by omega)
  have es : s' = s := by
    rcases Nat.lt_trichotomy s' s with c | c | c
    · obtain ⟨p, ha, hlt⟩ := h3
      exact absurd hlt (p7 s' p c ha h2)
    · exact c
    · exact absurd p6 (h4 s f c p5 p4)
  subst es
  refine br_f (nI_pos (by omega)) (pk_lt N 15 (fun _ => ?_) (fun z => by omega))
  refine gx_la (by omega) hV p1 hI.1 hR.2.2 hl p5 p6 p8 fun lw lt hL => ?_
  exact gx_sn hD hV hSp hm3 hb hI.1 hR hL fun sa ss nb nw ar h => ⟨rfl, hp _ lw lt sa ss nb nw ar h⟩
theorem gx_st {post : Int32 → SX → Prop} (hV : V ≤ 8) (hN : N ≤ 15) (hI : gs_Inv S D V N0 k N bs wt A) (hR : gx_R N bs wt A a_nodeBase a_nodeWeight a_arrows) (hSt : gs_Stop N wt A)
    (hp : post 0 ((nI S), (nI db), (nI wb), (nI D), (nI V), (nI cp), (nI N), f_listSize, f_built, f_codeCount, f_splitCount, f_encoder, f_messageLength, a_edgeTarget, a_jumpTarget, a_good, a_nodeBase, a_nodeWeight, a_arrows, a_renumber, a_listWord, a_listTarget, a_seenAt, a_seenSum, a_alive, a_codeBase, a_stepWord, a_stepTarget, a_pairNow, a_pairNext, a_sentData, a_sentWord, a_channelWord)) : wpX_splitOnce post ((nI S), (nI db), (nI wb), (nI D), (nI V), (nI cp), (nI N), f_listSize, f_built, f_codeCount, f_splitCount, f_encoder, f_messageLength, a_edgeTarget, a_jumpTarget, a_good, a_nodeBase, a_nodeWeight, a_arrows, a_renumber, a_listWord, a_listTarget, a_seenAt, a_seenSum, a_alive, a_codeBase, a_stepWord, a_stepTarget, a_pairNow, a_pairNext, a_sentData, a_sentWord, a_channelWord) := by
  have hb : ∀ u, u < N → wt u ≤ 3 := fun u hu => (hI.2.1 u hu).2.1
  have hm3 : gs_m wt N ≤ 3 := gs_mb hb
  refine gx_gw hN hR.2.1 hb (gx_ln hN hR.2.1 hb hm3 fun light hl => ⟨N + 1, ?_⟩)
  exact gx_ns2 hN hV hR hI.1 hb hm3 hl (fun _ => br_t (by decide) hp) (fun s' h1 h2 ⟨p, ha, hlt⟩ h4 => absurd hlt (hSt s' p ha h2)) (N + 1) 0 (by omega) (by omega) (fun s' p h => by omega)
end GXU
end
section
/-! splitting: the reference's walk -/
def gy_A (A : Nat → Nat → Bool) (ar : Nat → Int32) : Prop := ∀ u p, u < 15 → p < 120 → ar (120 * u + p) = gu_i (A u p)
def gy_hit (wt : Nat → Nat) (A : Nat → Nat → Bool) (m P : Nat) : Prop := A (P / 120) (P % 120) = true ∧ wt (P / 120) = m ∧ wt (P % 15) < m
theorem gu_12 {P : Nat} (h : P < 2 ^ 31) : nI P / 120 = nI (P / 120) := pk_div h (by decide) (by decide)
theorem gu_15 {P : Nat} (h : P < 2 ^ 31) : nI P / 15 = nI (P / 15) := pk_div h (by decide) (by decide)
theorem gu_r15 {P : Nat} (h : P < 2 ^ 31) : nI P - nI P / 15 * 15 = nI (P % 15) := pk_rem h (by decide) (by decide)
theorem gu_r12 {P : Nat} (h : P < 2 ^ 31) : nI P - nI P / 120 * 120 = nI (P % 120) := pk_rem h (by decide) (by decide)
theorem gu_n12 (N : Nat) : nI N * 120 = nI (N * 120) := pk_mul N 120
theorem gy_AP {A : Nat → Nat → Bool} {ar : Nat → Int32} (hA : gy_A A ar) {P : Nat} (hP : P < 1800) : ar P = gu_i (A (P / 120) (P % 120)) := by
  have := hA (P / 120) (P % 120) (by omega) (by omega)
  rw [show 120 * (P / 120) + P % 120 = P by omega] at this
  exact this
section GYS
variable {S wb D V cp N N0 k m s f i j y : Nat} {bs wt : Nat → Nat} {A : Nat → Nat → Bool} {f_built f_codes f_made f_encoder f_places : Int32} {a_edges a_x a_base a_weight a_number a_arrow a_mark a_list a_sum a_outW a_outS a_sent a_own a_chan a_at a_pick : Nat → Int32}
theorem gy_15 {post : Int32 → SY → Prop} {x2 x3 x4 x5 : Int32} (hN : N ≤ 15) (hw : ∀ u, u < N → a_weight u = nI (wt u)) (hb : ∀ u, u < N → wt u ≤ 3)
    (hp : ∃ n49, wY_split_49 post (nI (gs_m wt N)) x3 x4 x5 (nI S) (nI D) (nI wb) (nI V) (nI cp) f_built f_codes f_made f_encoder f_places (nI N) a_edges a_x a_base a_weight a_number a_arrow a_mark a_list a_sum a_outW a_outS a_sent a_own a_chan a_at a_pick n49 x2) :
    ∀ n u, N < n + u → u ≤ N → wY_split_15 post x2 x3 x4 x5 (nI S) (nI D) (nI wb) (nI V) (nI cp) f_built f_codes f_made f_encoder f_places (nI N) a_edges a_x a_base a_weight a_number a_arrow a_mark a_list a_sum a_outW a_outS a_sent a_own a_chan a_at a_pick n (nI (gs_m wt u)) (nI u) := by
  intro n
  induction n with
  | zero => intro u z1 z2; omega
  | succ n ih =>
    intro u z1 z2
    refine pk_le N u (fun h => ?_) (fun h => ⟨vp_in_nI (by omega) (by omega), ?_⟩)
    · have e : u = N := by omega
      subst e; exact hp
    · have e1 : a_weight (nI u).toNatClampNeg = nI (wt u) := by rw [nI_clamp (by omega)]; exact hw u h
      have b1 := hb u h
      have b2 := gs_mb (wt := wt) (b := 3) (N := u) (fun v hv => hb v (by omega))
      have e2 : gs_m wt (u + 1) = if wt u ≤ gs_m wt u then gs_m wt u else wt u := rfl
      refine pk_le (wt u) (gs_m wt u) (fun z => nm_r (nI_1 u) ?_) (fun z => ⟨vp_in_nI (by omega) (by omega), nm_r e1 (nm_r (nI_1 u) ?_)⟩) e1
      · rw [if_pos z] at e2
        rw [← e2]
        exact ih (u + 1) (by omega) (by omega)
      · rw [if_neg (by omega)] at e2
        rw [← e2]
        exact ih (u + 1) (by omega) (by omega)
theorem gy_49 {post : Int32 → SY → Prop} {x3 x4 x5 : Int32} (hN : N ≤ 15) (hm : m ≤ 3) (hw : ∀ u, u < N → a_weight u = nI (wt u)) (hb : ∀ u, u < N → wt u ≤ 3) (hA : gy_A A a_arrow) (hi1 : ∀ u p, A u p = true → u < N ∧ p < 120 ∧ p % 15 < N ∧ p / 15 < V)
    (hhit : ∀ P, P < N * 120 → gy_hit wt A m P → (∀ Q, Q < P → ¬ gy_hit wt A m Q) → wY_split_101 post (nI m) (nI P) x3 x4 x5 (nI S) (nI D) (nI wb) (nI V) (nI cp) f_built f_codes f_made f_encoder f_places (nI N) a_edges a_x a_base a_weight a_number a_arrow a_mark a_list a_sum a_outW a_outS a_sent a_own a_chan a_at a_pick)
    (hend : (∀ Q, Q < N * 120 → ¬ gy_hit wt A m Q) → wY_split_101 post (nI m) (nI (N * 120)) x3 x4 x5 (nI S) (nI D) (nI wb) (nI V) (nI cp) f_built f_codes f_made f_encoder f_places (nI N) a_edges a_x a_base a_weight a_number a_arrow a_mark a_list a_sum a_outW a_outS a_sent a_own a_chan a_at a_pick) :
    ∀ n P, N * 120 < n + P → P ≤ N * 120 → (∀ Q, Q < P → ¬ gy_hit wt A m Q) → wY_split_49 post (nI m) x3 x4 x5 (nI S) (nI D) (nI wb) (nI V) (nI cp) f_built f_codes f_made f_encoder f_places (nI N) a_edges a_x a_base a_weight a_number a_arrow a_mark a_list a_sum a_outW a_outS a_sent a_own a_chan a_at a_pick n (nI P) := by
  intro n
  induction n with
  | zero => intro P z1 z2; omega
  | succ n ih =>
    intro P z1 z2 hI
    refine pk_le (N * 120) P (fun h => ?_) (fun h => ⟨vp_in_nI (by omega) (by omega), ?_⟩) (gu_n12 N)
    · have e : P = N * 120 := by omega
      subst e; exact hend hI
    · have ea : a_arrow (nI P).toNatClampNeg = gu_i (A (P / 120) (P % 120)) := by rw [nI_clamp (by omega)]; exact gy_AP hA (by omega)
      have next : ¬ gy_hit wt A m P → wY_split_49 post (nI m) x3 x4 x5 (nI S) (nI D) (nI wb) (nI V) (nI cp) f_built f_codes f_made f_encoder f_places (nI N) a_edges a_x a_base a_weight a_number a_arrow a_mark a_list a_sum a_outW a_outS a_sent a_own a_chan a_at a_pick n (nI (P + 1)) := fun hn => ih (P + 1) (by omega) (by omega) fun Q hQ => by
        by_cases e : Q = P
        · subst e; exact hn
        · exact hI Q (by omega)
      rw [ea, gu_i0, gu_12 (by omega), gu_r15 (by omega), nI_clamp (by omega), nI_clamp (by omega)]
      cases ha : A (P / 120) (P % 120)
      · exact br_t rfl (nm_r (nI_1 P) (next fun z => absurd (ha.symm.trans z.1) (by decide)))
      · have hb1 := hi1 _ _ ha
        rw [show P % 120 % 15 = P % 15 by omega] at hb1
        have c1 := hb _ hb1.1
        have c2 := hb _ hb1.2.2.1
        refine br_f (by decide) ⟨by decide, vp_in_nI (by omega) (by omega), pk_eq (wt (P / 120)) m (fun e1 => ⟨by decide, vp_in_nI (by omega) (by omega), pk_lt (wt (P % 15)) m (fun e2 => hhit P h ⟨ha, e1, e2⟩ hI) (fun e2 => nm_r (nI_1 P) (next fun z => by have := z.2.2; omega)) (hw _ hb1.2.2.1)⟩) (fun e1 => nm_r (nI_1 P) (next fun z => e1 z.2.1)) (hw _ hb1.1)⟩
/-- the list -/
def gy_L (B : Nat → Bool) (f s p : Nat) (li : Nat → Int32) : Prop := li 0 = nI (120 * s + f) ∧ ∀ q, q < p → B q = true → li (gs_i B f q) = nI (120 * s + q)
theorem gy_143 {post : Int32 → SY → Prop} {x1 x4 x5 : Int32} (hN : N < 15) (hs : s < N) (hA : gy_A A a_arrow) (hi1 : ∀ u p, A u p = true → u < N ∧ p < 120 ∧ p % 15 < N ∧ p / 15 < V) (hf : A s f = true)
    (hk : ∀ li, gy_L (A s) f s 120 li → ∃ n192, wY_split_192 post x1 (nI (gs_c (A s) f 120)) x4 x5 (nI s) (nI S) (nI D) (nI wb) (nI V) (nI cp) f_built f_codes f_made f_encoder f_places (nI N) n192 0 a_edges a_x a_base a_weight a_number a_arrow a_mark li a_sum a_outW a_outS a_sent a_own a_chan a_at a_pick) :
    ∀ n p li, 120 < n + p → p ≤ 120 → gy_L (A s) f s p li → wY_split_143 post x1 (nI (120 * s + f)) x4 x5 (nI s) (nI S) (nI D) (nI wb) (nI V) (nI cp) f_built f_codes f_made f_encoder f_places (nI N) n (nI (gs_c (A s) f p)) (nI (120 * s + p)) a_edges a_x a_base a_weight a_number a_arrow a_mark li a_sum a_outW a_outS a_sent a_own a_chan a_at a_pick := by
  have hf2 := (hi1 _ _ hf).2.1
  have hc : gs_c (A s) f 120 ≤ 120 := by
    have a := gs_cle (B := A s) (f := f) 120
    rw [if_pos hf2] at a
    omega
  have e120 : nI s * 120 + 120 = nI (120 * s + 120) := by rw [gu_n12, show (120 : Int32) = nI 120 from rfl, nI_add, Nat.mul_comm]
  intro n
  induction n with
  | zero => intro p li z1 z2; omega
  | succ n ih =>
    intro p li z1 z2 hL
    refine pk_le (120 * s + 120) (120 * s + p) (fun h => ?_) (fun h => ⟨vp_in_nI (by omega) (by omega), ?_⟩) e120
    · have e : p = 120 := by omega
      subst e; exact hk li hL
    · rw [nI_clamp (by omega), hA s p (by omega) (by omega), gu_i0]
      cases ha : A s p
      · refine br_t rfl (nm_r (nI_1 (120 * s + p)) ?_)
        have e1 : gs_c (A s) f (p + 1) = gs_c (A s) f p := gs_cF fun q => by rw [ha] at q; exact absurd q.1 (by decide)
        rw [← e1]
        exact ih (p + 1) li (by omega) (by omega) ⟨hL.1, fun q hq hb => hL.2 q (by
          by_cases e : q = p
          · subst e; rw [ha] at hb; exact absurd hb (by decide)
          · omega) hb⟩
      · refine br_f (by decide) (pk_eq (120 * s + p) (120 * s + f) (fun e => nm_r (nI_1 (120 * s + p)) ?_) (fun e => ?_))
        · have e1 : gs_c (A s) f (p + 1) = gs_c (A s) f p := gs_cF fun q => by have := q.2; omega
          rw [← e1]
          refine ih (p + 1) li (by omega) (by omega) ⟨hL.1, fun q hq hb => ?_⟩
          by_cases c : q = p
          · have e0 : gs_i (A s) f q = 0 := if_pos (by omega)
            rw [e0, hL.1]; congr 1; omega
          · exact hL.2 q (by omega) hb
        · have e1 : gs_c (A s) f (p + 1) = gs_c (A s) f p + 1 := gs_cT ha (by omega)
          have hm := gs_cm (B := A s) (f := f) (show p + 1 ≤ 120 by omega)
          have hc1 := gs_c1 (B := A s) (f := f) p
          refine ⟨vp_in_nI (by omega) (by omega), nm_r (e' := upd li (gs_c (A s) f p) (nI (120 * s + p))) (by rw [nI_clamp (by omega)]) (nm_r (e' := nI (gs_c (A s) f (p + 1))) (by rw [nI_1, e1]) (nm_r (nI_1 (120 * s + p)) (ih (p + 1) _ (by omega) (by omega) ⟨?_, fun q hq hb => ?_⟩)))⟩
          · rw [pk_un (by omega)]; exact hL.1
          · by_cases c : q = p
            · subst c
              have e0 : gs_i (A s) f q = gs_c (A s) f q := if_neg (by omega)
              rw [e0, pk_us]
            · have e0 : gs_i (A s) f p = gs_c (A s) f p := if_neg (by omega)
              rw [pk_un (by rw [← e0]; exact fun z => c (gs_iinj (p := 120) hb ha (by omega) (by omega) z))]
              exact hL.2 q (by omega) hb
theorem gy_Le (hi1 : ∀ u p, A u p = true → u < N ∧ p < 120 ∧ p % 15 < N ∧ p / 15 < V) (hf : A s f = true) {li : Nat → Int32} (hL : gy_L (A s) f s 120 li) {e : Nat} (he : e < gs_c (A s) f 120) :
    li e = nI (120 * s + gs_h (A s) f 120 e) ∧ A s (gs_h (A s) f 120 e) = true ∧ gs_h (A s) f 120 e < 120 ∧ gs_h (A s) f 120 e % 15 < N := by
  obtain ⟨hB, hq⟩ := gs_hB (p := 120) hf (hi1 _ _ hf).2.1 he
  have l := hL.2 _ hq hB
  rw [gs_ih he] at l
  exact ⟨l, hB, hq, (hi1 _ _ hB).2.2.1⟩
theorem gy_192 {post : Int32 → SY → Prop} {x1 x4 x5 : Int32} (hN : N < 15) (hs : s < N) (hi1 : ∀ u p, A u p = true → u < N ∧ p < 120 ∧ p % 15 < N ∧ p / 15 < V) (hf : A s f = true) (hL : gy_L (A s) f s 120 a_list)
    (hw : ∀ u, u < N → a_weight u = nI (wt u)) (hb : ∀ u, u < N → wt u ≤ 3)
    (hk : ∀ sm, (∀ a, a ≤ gs_c (A s) f 120 → sm a = nI (gu_s (fun e => wt (gs_h (A s) f 120 e % 15)) a)) → ∃ n236, wY_split_236 post x1 (nI (gs_c (A s) f 120)) (nI s) (nI S) (nI D) (nI wb) (nI V) (nI cp) f_built f_codes f_made f_encoder f_places (nI N) a_edges a_x a_base a_weight a_number a_arrow a_mark a_list sm a_outW a_outS a_sent a_own a_chan a_at a_pick n236 x4 x5) :
    ∀ n e sm, gs_c (A s) f 120 < n + e → e ≤ gs_c (A s) f 120 → (∀ a, a ≤ e → sm a = nI (gu_s (fun e => wt (gs_h (A s) f 120 e % 15)) a)) → wY_split_192 post x1 (nI (gs_c (A s) f 120)) x4 x5 (nI s) (nI S) (nI D) (nI wb) (nI V) (nI cp) f_built f_codes f_made f_encoder f_places (nI N) n (nI e) a_edges a_x a_base a_weight a_number a_arrow a_mark a_list sm a_outW a_outS a_sent a_own a_chan a_at a_pick := by
  have hf2 := (hi1 _ _ hf).2.1
  have hc : gs_c (A s) f 120 ≤ 120 := by
    have a := gs_cle (B := A s) (f := f) 120
    rw [if_pos hf2] at a
    omega
  intro n
  induction n with
  | zero => intro e sm z1 z2; omega
  | succ n ih =>
    intro e sm z1 z2 hI
    refine pk_le (gs_c (A s) f 120) e (fun h => hk sm fun a ha => hI a (by omega)) (fun h => ?_)
    obtain ⟨l1, l2, l3, l4⟩ := gy_Le hi1 hf hL h
    have er : nI (120 * s + gs_h (A s) f 120 e) - nI (120 * s + gs_h (A s) f 120 e) / 15 * 15 = nI (gs_h (A s) f 120 e % 15) := by
      rw [gu_r15 (by omega)]; congr 1; omega
    have es : gu_s (fun e => wt (gs_h (A s) f 120 e % 15)) (e + 1) = gu_s (fun e => wt (gs_h (A s) f 120 e % 15)) e + wt (gs_h (A s) f 120 e % 15) := rfl
    rw [nI_1, nI_clamp (by omega), nI_clamp (by omega), l1, er, nI_clamp (by omega), hw _ l4, hI e (by omega), nI_add, ← es]
    refine ⟨vp_in_nI (by omega) (by omega), vp_in_nI (by omega) (by omega), by decide, vp_in_nI (by omega) (by omega), vp_in_nI (by omega) (by omega), nm_e (nm_e (ih (e + 1) _ (by omega) (by omega) fun a ha => ?_))⟩
    by_cases c : a = e + 1
    · subst c; exact pk_us
    · rw [pk_un c]; exact hI a (by omega)
/-- the search for the run -/
theorem gy_253 {post : Int32 → SY → Prop} (J236 : Int32 → Int32 → Prop) {x1 x3 x6 : Int32} {x : Nat → Nat} {b : Nat} (hD : 0 < D ∧ D ≤ 4) (hb : b ≤ j) (hj : j ≤ 4) (hx : ∀ a, a ≤ j → gu_s x a ≤ 12) (hsm : ∀ a, a ≤ j → a_sum a = nI (gu_s x a))
    (hc : ∀ a b, a < b → b < j → gu_s x a % D ≠ gu_s x b % D) (hij : i < j) (he : gu_s x j = gu_s x i + D * y)
    (hk : J236 (if b = j then nI i else -1) (nI b)) :
    ∀ n h x4, b < n + h → h ≤ b → x4 = (if b = j ∧ i < h then nI i else -1) → wY_split_253 post J236 x1 x3 (nI b) x6 (nI S) (nI D) (nI wb) (nI V) (nI cp) f_built f_codes f_made f_encoder f_places (nI N) a_edges a_x a_base a_weight a_number a_arrow a_mark a_list a_sum a_outW a_outS a_sent a_own a_chan a_at a_pick n x4 (nI h) := by
  have em : gu_s x i % D = gu_s x j % D := by rw [he, Nat.add_mul_mod_self_left]
  intro n
  induction n with
  | zero => intro h x4 z1 z2; omega
  | succ n ih =>
    intro h x4 z1 z2 hx4
    subst hx4
    refine pk_le b h (fun c => ?_) (fun c => ?_)
    · have e : h = b := by omega
      subst e
      have e2 : (if h = j ∧ i < h then nI i else -1) = (if h = j then nI i else -1) := by
        by_cases z : h = j
        · rw [if_pos z, if_pos ⟨z, by omega⟩]
        · rw [if_neg z, if_neg (fun q => z q.1)]
      rw [e2]; exact hk
    · have b1 := hx b hb
      have mono : gu_s x h ≤ gu_s x b := by
        have := gu_sp x h (b - h)
        rw [show h + (b - h) = b by omega] at this
        omega
      refine ⟨vp_in_nI (by omega) (by omega), vp_in_nI (by omega) (by omega), nI_ne0 hD.1 (by omega), ?_⟩
      rw [nI_clamp (by omega), nI_clamp (by omega), hsm b hb, hsm h (by omega), pk_sub mono, pk_rem (by omega) hD.1 (by omega)]
      have key : (gu_s x b - gu_s x h) % D = 0 ↔ gu_s x h % D = gu_s x b % D := by
        constructor
        · intro z
          have e1 := Nat.div_add_mod (gu_s x b - gu_s x h) D
          rw [z, Nat.add_zero] at e1
          have e2 : gu_s x b = gu_s x h + D * ((gu_s x b - gu_s x h) / D) := by omega
          rw [e2, Nat.add_mul_mod_self_left]
        · intro z; exact Nat.sub_mod_eq_zero_of_mod_eq z.symm
      have hm : (gu_s x b - gu_s x h) % D < D := Nat.mod_lt _ hD.1
      refine pk_eq ((gu_s x b - gu_s x h) % D) 0 (fun z => nm_r (nI_1 h) ?_) (fun z => nm_r (nI_1 h) ?_)
      · have z' := key.mp z
        have eb : b = j := by
          rcases Nat.lt_or_ge b j with q | q
          · exact absurd z' (hc h b c q)
          · omega
        have eh : h = i := by
          rw [eb, ← em] at z'
          rcases Nat.lt_trichotomy h i with q | q | q
          · exact absurd z' (hc h i q hij)
          · exact q
          · exact absurd z'.symm (hc i h q (by omega))
        exact ih (h + 1) _ (by omega) (by omega) (by rw [if_pos ⟨eb, by omega⟩, eh])
      · have e2 : (if b = j ∧ i < h then nI i else -1) = (if b = j ∧ i < h + 1 then nI i else -1) := by
          by_cases q : b = j
          · have : h ≠ i := fun c2 => z (key.mpr (by rw [c2, q]; exact em))
            by_cases q2 : i < h
            · rw [if_pos ⟨q, q2⟩, if_pos ⟨q, by omega⟩]
            · rw [if_neg (fun r => q2 r.2), if_neg (fun r => q2 (by omega))]
          · rw [if_neg (fun r => q r.1), if_neg (fun r => q r.1)]
        exact ih (h + 1) _ (by omega) (by omega) e2
theorem gy_236 {post : Int32 → SY → Prop} {x1 x6 : Int32} {x : Nat → Nat} {cnt : Nat} (hD : 0 < D ∧ D ≤ 4) (hj : j ≤ 4) (hjc : j ≤ cnt) (hcnt : cnt ≤ 120) (hx : ∀ a, a ≤ j → gu_s x a ≤ 12) (hsm : ∀ a, a ≤ j → a_sum a = nI (gu_s x a))
    (hc : ∀ a b, a < b → b < j → gu_s x a % D ≠ gu_s x b % D) (hij : i < j) (he : gu_s x j = gu_s x i + D * y)
    (hk : wY_split_296 post x1 (nI cnt) (nI i) (nI j) x6 (nI S) (nI D) (nI wb) (nI V) (nI cp) f_built f_codes f_made f_encoder f_places (nI N) a_edges a_x a_base a_weight a_number a_arrow a_mark a_list a_sum a_outW a_outS a_sent a_own a_chan a_at a_pick) :
    ∀ n a, a < j → j + 2 ≤ n + a → wY_split_236 post x1 (nI cnt) x6 (nI S) (nI D) (nI wb) (nI V) (nI cp) f_built f_codes f_made f_encoder f_places (nI N) a_edges a_x a_base a_weight a_number a_arrow a_mark a_list a_sum a_outW a_outS a_sent a_own a_chan a_at a_pick n (-1) (nI a) := by
  intro n
  induction n with
  | zero => intro a z1 z2; omega
  | succ n ih =>
    intro a z1 z2
    refine br_f (by decide) (pk_le cnt a (fun z => by omega) (fun _ => nm_r (nI_1 a) ⟨a + 2, ?_⟩))
    refine gy_253 (b := a + 1) (wY_split_236 post x1 (nI cnt) x6 (nI S) (nI D) (nI wb) (nI V) (nI cp) f_built f_codes f_made f_encoder f_places (nI N) a_edges a_x a_base a_weight a_number a_arrow a_mark a_list a_sum a_outW a_outS a_sent a_own a_chan a_at a_pick n) hD (by omega) hj hx hsm hc hij he ?_ (a + 2) 0 (-1) (by omega) (by omega) ?_
    · by_cases c : a + 1 = j
      · rw [if_pos c, c]
        obtain ⟨n, rfl⟩ : ∃ n', n = n' + 1 := ⟨n - 1, by omega⟩
        exact br_t (nI_pos' (by omega)) hk
      · rw [if_neg c]
        exact ih (a + 1) (by omega) (by omega)
    · rw [if_neg (by omega)]
end GYS
end
section
/-! splitting: the reference's walk, second half -/
section GYT
variable {S wb D V cp N N0 k m s f i j y : Nat} {bs wt : Nat → Nat} {A : Nat → Nat → Bool} {f_built f_codes f_made f_encoder f_places : Int32} {a_edges a_x a_base a_weight a_number a_arrow a_mark a_list a_sum a_outW a_outS a_sent a_own a_chan a_at a_pick : Nat → Int32}
/-- the arrows when the first e of the list are shared -/
def gy_r (A : Nat → Nat → Bool) (f i j s N e u p : Nat) : Bool :=
  if u = s then A s p && (!decide (gs_i (A s) f p < e) || gs_K (A s) f i j p) else if u = N then A s p && decide (gs_i (A s) f p < e) && !gs_K (A s) f i j p else A u p
theorem gy_r0 (hs : s < N) (hN0 : ∀ p, A N p = false) : gy_r A f i j s N 0 = A := by
  funext u p
  unfold gy_r
  rw [decide_eq_false (by omega)]
  by_cases c : u = s
  · rw [if_pos c, c]; cases A s p <;> rfl
  · rw [if_neg c]
    by_cases c2 : u = N
    · rw [if_pos c2, c2, hN0]; cases A s p <;> rfl
    · rw [if_neg c2]
theorem gy_rE (hi1 : ∀ u p, A u p = true → u < N ∧ p < 120 ∧ p % 15 < N ∧ p / 15 < V) : gy_r A f i j s N (gs_c (A s) f 120) = gs_r A s N (gs_K (A s) f i j) := by
  funext u p
  unfold gy_r gs_r
  cases ha : A s p
  · rfl
  · rw [decide_eq_true (gs_il ha (hi1 _ _ ha).2.1)]
    rfl
theorem gy_rs (hs : s < N) (hi1 : ∀ u p, A u p = true → u < N ∧ p < 120 ∧ p % 15 < N ∧ p / 15 < V) (hf : A s f = true) {e : Nat} (he : e < gs_c (A s) f 120) {ar : Nat → Int32} (hN : N < 15)
    (hA : gy_A (gy_r A f i j s N e) ar) {b : Bool} (hb : b = decide (i ≤ e ∧ e < j)) :
    gy_A (gy_r A f i j s N (e + 1)) (upd (upd ar (120 * s + gs_h (A s) f 120 e) (gu_i b)) (120 * N + gs_h (A s) f 120 e) (gu_i (!b))) := by
  obtain ⟨hB, hq⟩ := gs_hB (p := 120) hf (hi1 _ _ hf).2.1 he
  have hie := gs_ih (B := A s) (f := f) (p := 120) he
  have hK : gs_K (A s) f i j (gs_h (A s) f 120 e) = b := by unfold gs_K; rw [hie, hb]
  intro u p hu hp
  by_cases c : 120 * u + p = 120 * N + gs_h (A s) f 120 e
  · have e1 : u = N := by omega
    have e2 : p = gs_h (A s) f 120 e := by omega
    subst e1
    rw [c, pk_us]
    congr 1
    unfold gy_r
    rw [if_neg (by omega), if_pos rfl, e2, hB, hie, hK, decide_eq_true (by omega)]
    rfl
  · rw [pk_un c]
    by_cases c2 : 120 * u + p = 120 * s + gs_h (A s) f 120 e
    · have e1 : u = s := by omega
      have e2 : p = gs_h (A s) f 120 e := by omega
      subst e1
      rw [c2, pk_us]
      congr 1
      unfold gy_r
      rw [if_pos rfl, e2, hB, hie, hK, decide_eq_true (by omega)]
      rfl
    · rw [pk_un c2, hA u p hu hp]
      congr 1
      unfold gy_r
      cases ha : A s p
      · rfl
      · by_cases c3 : p = gs_h (A s) f 120 e
        · rw [if_neg (by omega), if_neg (by omega), if_neg (by omega), if_neg (by omega)]
        · have ne : gs_i (A s) f p ≠ e := fun z => c3 (by rw [← z, gs_hi' ha hp])
          rw [show decide (gs_i (A s) f p < e + 1) = decide (gs_i (A s) f p < e) from decide_eq_decide.mpr (by omega)]
theorem gy_364 {post : Int32 → SY → Prop} (J328 : Int32 → (Nat → Int32) → (Nat → Int32) → (Nat → Int32) → (Nat → Int32) → (Nat → Int32) → (Nat → Int32) → (Nat → Int32) → (Nat → Int32) → (Nat → Int32) → (Nat → Int32) → (Nat → Int32) → (Nat → Int32) → (Nat → Int32) → (Nat → Int32) → (Nat → Int32) → (Nat → Int32) → Prop) {x1 x3 x7 : Int32} {e p : Nat} {b : Bool} (hN : N < 15) (hs : s < N) (he : e < 120) (hi : i ≤ 121) (hj : j ≤ 121) (hp : p < 120) (hl : a_list e = nI (120 * s + p)) (hb : b = decide (i ≤ e ∧ e < j))
    (h : J328 (nI (e + 1)) a_edges a_x a_base a_weight a_number (upd (upd a_arrow (120 * s + p) (gu_i b)) (120 * N + p) (gu_i (!b))) a_mark a_list a_sum a_outW a_outS a_sent a_own a_chan a_at a_pick) :
    wY_split_364 post J328 x1 x3 (nI i) (nI j) (nI s) x7 (nI e) (gu_i b) (nI (120 * s + p)) (nI S) (nI D) (nI wb) (nI V) (nI cp) f_built f_codes f_made f_encoder f_places (nI N) a_edges a_x a_base a_weight a_number a_arrow a_mark a_list a_sum a_outW a_outS a_sent a_own a_chan a_at a_pick := by
  have ex : nI (120 * s + p) + ((nI N - nI s) * 120) = nI (120 * N + p) := by
    rw [pk_sub (by omega), gu_n12, nI_add]; congr 1; omega
  have en : vp_nar .boolean (gu_i b) = gu_i b := by cases b <;> rfl
  refine ⟨vp_in_nI (by omega) (by omega), nm_r (e' := upd a_arrow (120 * s + p) (gu_i b)) (by rw [nI_clamp (by omega), en]) ⟨vp_in_nI (by omega) (by omega), ?_⟩⟩
  rw [nI_clamp (by omega), hl, ex, nI_clamp (by omega)]
  subst hb
  refine pk_lt e i (fun c => ⟨vp_in_nI (by omega) (by omega), nm_e (nm_r (nI_1 e) ?_)⟩) (fun c => pk_lt e j (fun c2 => ⟨vp_in_nI (by omega) (by omega), nm_e (nm_r (nI_1 e) ?_)⟩) (fun c2 => ⟨vp_in_nI (by omega) (by omega), nm_e (nm_r (nI_1 e) ?_)⟩))
  · rw [decide_eq_false (by omega)] at h ⊢; exact h
  · rw [decide_eq_true ⟨c, c2⟩] at h ⊢; exact h
  · rw [decide_eq_false (by omega)] at h ⊢; exact h
/-- the arrows to s doubled, at index P -/
theorem gy_464 {post : Int32 → SY → Prop} {K : Nat → Bool} (hN : N < 15) (hs : s < N) (hV : V ≤ 8) (hi1 : ∀ u p, A u p = true → u < N ∧ p < 120 ∧ p % 15 < N ∧ p / 15 < V)
    (hp : ∀ ar, gy_A (gs_A A s N K) ar → post 1 ((nI S), (nI D), (nI wb), (nI V), (nI cp), f_built, f_codes, f_made, f_encoder, f_places, (nI (N + 1)), a_edges, a_x, a_base, a_weight, a_number, ar, a_mark, a_list, a_sum, a_outW, a_outS, a_sent, a_own, a_chan, a_at, a_pick)) :
    ∀ n P ar, (N + 1) * 120 < n + P → P ≤ (N + 1) * 120 →
      (∀ u w t, u < 15 → w < 8 → t < 15 → ar (120 * u + (15 * w + t)) = gu_i (if t = N then decide (120 * u + (15 * w + s) < P) && gs_r A s N K u (15 * w + s) else gs_r A s N K u (15 * w + t))) → wY_split_464 post (nI s) (nI S) (nI D) (nI wb) (nI V) (nI cp) f_built f_codes f_made f_encoder f_places (nI (N + 1)) n (nI P) a_edges a_x a_base a_weight a_number ar a_mark a_list a_sum a_outW a_outS a_sent a_own a_chan a_at a_pick := by
  have hrz : ∀ u q, ¬ (q / 15 < V ∧ q % 15 < N ∧ gs_pi s N u < N) → gs_r A s N K u q = false := fun u q h => gu_nt fun z => h (by have := hi1 _ _ (gs_rA z); exact ⟨this.2.2.2, this.2.2.1, this.1⟩)
  intro n
  induction n with
  | zero => intro P ar z1 z2; omega
  | succ n ih =>
    intro P ar z1 z2 hI
    refine pk_le ((N + 1) * 120) P (fun h => hp ar fun u p hu hp' => ?_) (fun h => ⟨vp_in_nI (by omega) (by omega), ?_⟩) (gu_n12 (N + 1))
    · have := hI u (p / 15) (p % 15) hu (by omega) (by omega)
      rw [show 15 * (p / 15) + p % 15 = p by omega] at this
      rw [this]
      congr 1
      have ep : gs_A A s N K u p = gs_r A s N K u (15 * (p / 15) + gs_pi s N (p % 15)) := rfl
      rw [ep]
      unfold gs_pi
      by_cases c : p % 15 = N
      · rw [if_pos c, if_pos c]
        by_cases c2 : 120 * u + (15 * (p / 15) + s) < P
        · rw [decide_eq_true c2, Bool.true_and]
        · rw [decide_eq_false c2, Bool.false_and, hrz]
          intro z
          have z3 := z.2.2
          unfold gs_pi at z3
          rw [if_neg (by omega)] at z3
          omega
      · rw [if_neg c, if_neg c, show 15 * (p / 15) + p % 15 = p by omega]
    · have hP := hI (P / 120) (P % 120 / 15) (P % 15) (by omega) (by omega) (by omega)
      rw [show 120 * (P / 120) + (15 * (P % 120 / 15) + P % 15) = P by omega] at hP
      have keep : (∀ u w t, u < 15 → w < 8 → t < 15 → t = N → 120 * u + (15 * w + s) = P → gs_r A s N K u (15 * w + s) = false) →
          (∀ u w t, u < 15 → w < 8 → t < 15 → ar (120 * u + (15 * w + t)) = gu_i (if t = N then decide (120 * u + (15 * w + s) < P + 1) && gs_r A s N K u (15 * w + s) else gs_r A s N K u (15 * w + t))) := by
        intro h0 u w t hu hw ht
        rw [hI u w t hu hw ht]
        congr 1
        by_cases c : t = N
        · rw [if_pos c, if_pos c]
          by_cases c2 : 120 * u + (15 * w + s) = P
          · rw [h0 u w t hu hw ht c c2, Bool.and_false, Bool.and_false]
          · rw [show decide (120 * u + (15 * w + s) < P + 1) = decide (120 * u + (15 * w + s) < P) from decide_eq_decide.mpr (by omega)]
        · rw [if_neg c, if_neg c]
      rw [nI_clamp (by omega), hP, gu_i0, gu_r15 (by omega)]
      by_cases cz : (if P % 15 = N then decide (120 * (P / 120) + (15 * (P % 120 / 15) + s) < P) && gs_r A s N K (P / 120) (15 * (P % 120 / 15) + s) else gs_r A s N K (P / 120) (15 * (P % 120 / 15) + P % 15)) = false
      · refine br_t cz (nm_r (nI_1 P) (ih (P + 1) ar (by omega) (by omega) (keep fun u w t hu hw ht c c2 => ?_)))
        rw [if_neg (by omega)] at cz
        rw [show u = P / 120 by omega, show 15 * w + s = 15 * (P % 120 / 15) + P % 15 by omega]
        exact cz
      · refine br_f cz ⟨by decide, pk_eq (P % 15) s (fun c => ?_) (fun c => nm_r (nI_1 P) (ih (P + 1) ar (by omega) (by omega) (keep fun u w t hu hw ht c1 c2 => absurd (show P % 15 = s by omega) c)))⟩
        have ex : nI P - nI s + nI (N + 1) - 1 = nI (P - s + N) := by
          rw [pk_sub (by omega), nI_add, ← Nat.add_assoc, nI_pred]
        rw [ex, nI_clamp (by omega)]
        refine ⟨vp_in_nI (by omega) (by omega), nm_e (nm_r (nI_1 P) (ih (P + 1) _ (by omega) (by omega) fun u w t hu hw ht => ?_))⟩
        by_cases c3 : 120 * u + (15 * w + t) = P - s + N
        · rw [c3, pk_us]
          have e1 : t = N := by omega
          have e2 : 120 * u + (15 * w + s) = P := by omega
          rw [if_pos e1, decide_eq_true (by omega), Bool.true_and]
          rw [if_neg (by omega)] at cz
          have := gu_nf cz
          rw [show P / 120 = u by omega, show 15 * (P % 120 / 15) + P % 15 = 15 * w + s by omega] at this
          rw [this]; rfl
        · rw [pk_un c3, hI u w t hu hw ht]
          congr 1
          by_cases c4 : t = N
          · rw [if_pos c4, if_pos c4, show decide (120 * u + (15 * w + s) < P + 1) = decide (120 * u + (15 * w + s) < P) from decide_eq_decide.mpr (by omega)]
          · rw [if_neg c4, if_neg c4]
theorem gy_328 {post : Int32 → SY → Prop} (hN : N < 15) (hs : s < N) (hV : V ≤ 8) (hm : m ≤ 3) (hy : y ≤ m) (hi1 : ∀ u p, A u p = true → u < N ∧ p < 120 ∧ p % 15 < N ∧ p / 15 < V) (hf : A s f = true) (hL : gy_L (A s) f s 120 a_list)
    (hij : i < j) (hj : j ≤ gs_c (A s) f 120) (hbs : a_base s = nI (bs s))
    (hp : ∀ ar, gy_A (gs_A A s N (gs_K (A s) f i j)) ar → post 1 ((nI S), (nI D), (nI wb), (nI V), (nI cp), f_built, f_codes, f_made, f_encoder, f_places, (nI (N + 1)), a_edges, a_x, (upd a_base N (nI (bs s))), (upd (upd a_weight N (nI (m - y))) s (nI y)), a_number, ar, a_mark, a_list, a_sum, a_outW, a_outS, a_sent, a_own, a_chan, a_at, a_pick)) :
    ∀ n e ar, gs_c (A s) f 120 < n + e → e ≤ gs_c (A s) f 120 → gy_A (gy_r A f i j s N e) ar →
      wY_split_328 post (nI m) (nI (gs_c (A s) f 120)) (nI i) (nI j) (nI s) (nI y) (nI S) (nI D) (nI wb) (nI V) (nI cp) f_built f_codes f_made f_encoder f_places (nI N) n (nI e) a_edges a_x a_base a_weight a_number ar a_mark a_list a_sum a_outW a_outS a_sent a_own a_chan a_at a_pick := by
  have hf2 := (hi1 _ _ hf).2.1
  have hc : gs_c (A s) f 120 ≤ 120 := by
    have a := gs_cle (B := A s) (f := f) 120
    rw [if_pos hf2] at a
    omega
  intro n
  induction n with
  | zero => intro e ar z1 z2; omega
  | succ n ih =>
    intro e ar z1 z2 hI
    refine pk_le (gs_c (A s) f 120) e (fun h => ?_) (fun h => ⟨vp_in_nI (by omega) (by omega), ?_⟩)
    · have ee : e = gs_c (A s) f 120 := by omega
      rw [ee, gy_rE hi1] at hI
      refine ⟨vp_in_nI (by omega) (by omega), vp_in_nI (by omega) (by omega), nm_r (e' := upd a_base N (nI (bs s))) (by rw [nI_clamp (by omega), nI_clamp (by omega), hbs]) ⟨vp_in_nI (by omega) (by omega), nm_r (e' := upd a_weight N (nI (m - y))) (by rw [nI_clamp (by omega), pk_sub hy]) ⟨vp_in_nI (by omega) (by omega), nm_r (e' := upd (upd a_weight N (nI (m - y))) s (nI y)) (by rw [nI_clamp (by omega)]) (nm_r (nI_1 N) ⟨(N + 1) * 120 + 1, ?_⟩)⟩⟩⟩
      refine gy_464 hN hs hV hi1 hp _ 0 ar (by omega) (by omega) fun u w t hu hw ht => ?_
      rw [hI u (15 * w + t) hu (by omega)]
      congr 1
      by_cases c : t = N
      · rw [if_pos c, decide_eq_false (by omega), Bool.false_and]
        apply gu_nt
        intro z
        have := (hi1 _ _ (gs_rA z)).2.2.1
        omega
      · rw [if_neg c]
    · obtain ⟨l1, l2, l3, l4⟩ := gy_Le hi1 hf hL h
      have st := fun b hb => ih (e + 1) _ (by omega) (by omega) (gy_rs (b := b) hs hi1 hf h hN hI hb)
      rw [nI_clamp (by omega), l1]
      refine pk_lt e i (fun c => ?_) (fun c => pk_le j e (fun c2 => ?_) (fun c2 => ?_))
      · exact gy_364 (b := false) _ hN hs (by omega) (by omega) (by omega) l3 l1 (decide_eq_false (by omega)).symm (st false (decide_eq_false (by omega)).symm)
      · exact gy_364 (b := false) _ hN hs (by omega) (by omega) (by omega) l3 l1 (decide_eq_false (by omega)).symm (st false (decide_eq_false (by omega)).symm)
      · exact gy_364 (b := true) _ hN hs (by omega) (by omega) (by omega) l3 l1 (decide_eq_true (by omega)).symm (st true (decide_eq_true (by omega)).symm)
/-- split, where there is a split -/
theorem gy_sp {post : Int32 → SY → Prop} (hD : 0 < D ∧ D ≤ 4) (hV : V ≤ 8) (hI : gs_Inv S D V N0 k N bs wt A) (hw : ∀ u, u < N → a_weight u = nI (wt u)) (hbs : ∀ u, u < N → a_base u = nI (bs u)) (hA : gy_A A a_arrow) (hs0 : a_sum 0 = 0) (hSp : gs_Sp D N wt A s f i j m y)
    (hp : ∀ li sm ar, sm 0 = 0 → gy_A (gs_A A s N (gs_K (A s) f i j)) ar → post 1 ((nI S), (nI D), (nI wb), (nI V), (nI cp), f_built, f_codes, f_made, f_encoder, f_places, (nI (N + 1)), a_edges, a_x, (upd a_base N (nI (bs s))), (upd (upd a_weight N (nI (m - y))) s (nI y)), a_number, ar, a_mark, li, sm, a_outW, a_outS, a_sent, a_own, a_chan, a_at, a_pick)) :
    wpY_split post ((nI S), (nI D), (nI wb), (nI V), (nI cp), f_built, f_codes, f_made, f_encoder, f_places, (nI N), a_edges, a_x, a_base, a_weight, a_number, a_arrow, a_mark, a_list, a_sum, a_outW, a_outS, a_sent, a_own, a_chan, a_at, a_pick) := by
  have hb : ∀ u, u < N → wt u ≤ 3 := fun u hu => (hI.2.1 u hu).2.1
  have hm3 : gs_m wt N ≤ 3 := gs_mb hb
  obtain ⟨p1, p2, p3, p4, p5, p6, p7, p8, p9, p10, p11, p12, p13, p14, p15⟩ := id hSp
  have hi1 := hI.1
  have hf := hi1 _ _ p5
  have hc : gs_c (A s) f 120 ≤ 120 := by
    have a := gs_cle (B := A s) (f := f) 120
    rw [if_pos hf.2.1] at a
    omega
  refine ⟨N + 1, gy_15 (by omega) hw hb ⟨N * 120 + 1, ?_⟩ (N + 1) 0 (by omega) (by omega)⟩
  rw [← p3] at hm3 ⊢
  have hitF : gy_hit wt A m (120 * s + f) := by
    unfold gy_hit
    rw [show (120 * s + f) / 120 = s by omega, show (120 * s + f) % 120 = f by omega, show (120 * s + f) % 15 = f % 15 by omega]
    exact ⟨p5, p4, p6⟩
  refine gy_49 (by omega) hm3 hw hb hA hi1 (fun P hP hh hno => ?_) (fun hno => absurd hitF (hno _ (by omega))) (N * 120 + 1) 0 (by omega) (by omega) (fun Q h => by omega)
  have eP : P = 120 * s + f := by
    rcases Nat.lt_trichotomy P (120 * s + f) with c | c | c
    · exfalso
      obtain ⟨q1, q2, q3⟩ := hh
      rw [show P % 15 = P % 120 % 15 by omega] at q3
      rcases Nat.lt_or_ge (P / 120) s with c2 | c2
      · exact p7 _ _ c2 q1 q2 q3
      · have e : P / 120 = s := by omega
        rw [e] at q1
        exact p8 _ (by omega) q1 q3
    · exact c
    · exact absurd hitF (hno _ c)
  subst eP
  refine pk_le (N * 120) (120 * s + f) (fun z => by omega) (fun _ => pk_lt N 15 (fun _ => ⟨by decide, nm_r (e' := nI s) (by rw [gu_12 (by omega)]; congr 1; omega) (nm_e (nm_r (e' := nI (120 * s + 0)) (by rw [gu_n12]; congr 1; omega) ⟨121, ?_⟩))⟩) (fun z => by omega)) (gu_n12 N)
  refine gy_143 p2 p1 hA hi1 p5 (fun li hL => ⟨gs_c (A s) f 120 + 1, ?_⟩) 121 0 _ (by omega) (by omega) ⟨pk_us, fun q h => by omega⟩
  refine gy_192 p2 p1 hi1 p5 hL hw hb (fun sm hsm => ⟨j + 2, ?_⟩) (gs_c (A s) f 120 + 1) 0 a_sum (by omega) (by omega) (fun a ha => by rw [show a = 0 by omega]; exact hs0)
  have hx : ∀ a, a ≤ j → gu_s (fun e => wt (gs_h (A s) f 120 e % 15)) a ≤ 12 := fun a ha => by
    have := gu_sb (f := fun e => wt (gs_h (A s) f 120 e % 15)) (b := 3) (k := a) (fun e he => hb _ (gy_Le hi1 p5 hL (show e < gs_c (A s) f 120 by omega)).2.2.2)
    omega
  refine gy_236 (x := fun e => wt (gs_h (A s) f 120 e % 15)) hD (by omega) p11 hc hx (fun a ha => hsm a (by omega)) p12 p9 p15 ?_ (j + 2) 0 (by omega) (by omega)
  have hj := hx j (Nat.le_refl _)
  have ed : D * y / D = y := Nat.mul_div_cancel_left _ hD.1
  refine br_t (nI_pos' (by omega)) ⟨vp_in_nI (by omega) (by omega), vp_in_nI (by omega) (by omega), nI_ne0 hD.1 (by omega), nm_r (e' := nI y) ?_ ⟨gs_c (A s) f 120 + 1, ?_⟩⟩
  · rw [nI_clamp (by omega), nI_clamp (by omega), hsm j (by omega), hsm i (by omega), pk_sub (by omega), show gu_s (fun e => wt (gs_h (A s) f 120 e % 15)) j - gu_s (fun e => wt (gs_h (A s) f 120 e % 15)) i = D * y by omega, pk_div (by omega) hD.1 (by omega), ed]
  · refine gy_328 p2 p1 hV hm3 (by omega) hi1 p5 hL p9 p11 (hbs s p1) (fun ar har => hp li sm ar ?_ har) _ 0 a_arrow (by omega) (by omega) ?_
    · exact hsm 0 (by omega)
    · rw [gy_r0 p1 fun p => gu_nt fun z => by have := (hi1 _ _ z).1; omega]
      exact hA
theorem gy_st {post : Int32 → SY → Prop} (hN : N ≤ 15) (hI : gs_Inv S D V N0 k N bs wt A) (hw : ∀ u, u < N → a_weight u = nI (wt u)) (hA : gy_A A a_arrow) (hSt : gs_Stop N wt A)
    (hp : post 0 ((nI S), (nI D), (nI wb), (nI V), (nI cp), f_built, f_codes, f_made, f_encoder, f_places, (nI N), a_edges, a_x, a_base, a_weight, a_number, a_arrow, a_mark, a_list, a_sum, a_outW, a_outS, a_sent, a_own, a_chan, a_at, a_pick)) : wpY_split post ((nI S), (nI D), (nI wb), (nI V), (nI cp), f_built, f_codes, f_made, f_encoder, f_places, (nI N), a_edges, a_x, a_base, a_weight, a_number, a_arrow, a_mark, a_list, a_sum, a_outW, a_outS, a_sent, a_own, a_chan, a_at, a_pick) := by
  have hb : ∀ u, u < N → wt u ≤ 3 := fun u hu => (hI.2.1 u hu).2.1
  have hm3 : gs_m wt N ≤ 3 := gs_mb hb
  refine ⟨N + 1, gy_15 hN hw hb ⟨N * 120 + 1, ?_⟩ (N + 1) 0 (by omega) (by omega)⟩
  refine gy_49 hN hm3 hw hb hA hI.1 (fun P hP hh hno => ?_) (fun hno => ?_) (N * 120 + 1) 0 (by omega) (by omega) (fun Q h => by omega)
  · exact absurd hh.2.2 (by have := hSt _ _ hh.1 hh.2.1; rw [show P % 120 % 15 = P % 15 by omega] at this; exact this)
  · exact pk_le (N * 120) (N * 120) (fun _ => hp) (fun z => by omega) (gu_n12 N)
end GYT
end
section
/-! the first nodes -/
def gn_B (G : Nat → Nat) (u : Nat) : Bool := decide (0 < G u)
def gn_k (G : Nat → Nat) (u : Nat) : Nat := gs_c (gn_B G) 200 u - 1
def gn_b (G : Nat → Nat) (k : Nat) : Nat := gs_h (gn_B G) 200 5 (k + 1)
def gn_w (G : Nat → Nat) (k : Nat) : Nat := G (gn_b G k)
def gn_A (V : Nat) (J : Nat → Nat → Nat) (G : Nat → Nat) (s p : Nat) : Bool := decide (s < gn_k G 5 ∧ p % 15 < gn_k G 5 ∧ p / 15 < V ∧ J (gn_b G s) (p / 15) = gn_b G (p % 15) + 1)
section GNP
variable {S D V lv : Nat} {J : Nat → Nat → Nat} {G : Nat → Nat}
theorem gn_k5 : gn_k G 5 ≤ 5 := by
  have := gs_cle (B := gn_B G) (f := 200) 5
  unfold gn_k; omega
theorem gn_km {u v : Nat} (h : u ≤ v) : gn_k G u ≤ gn_k G v := by
  have := gs_cm (B := gn_B G) (f := 200) h
  unfold gn_k; omega
theorem gn_kT {u : Nat} (hu : u < 5) (h : 0 < G u) : gn_k G (u + 1) = gn_k G u + 1 := by
  have := gs_cT (B := gn_B G) (f := 200) (decide_eq_true h) (show u ≠ 200 by omega)
  have h1 := gs_c1 (B := gn_B G) (f := 200) u
  unfold gn_k; omega
theorem gn_kF {u : Nat} (h : ¬ 0 < G u) : gn_k G (u + 1) = gn_k G u := by
  have := gs_cF (B := gn_B G) (f := 200) (p := u) (fun z => h (of_decide_eq_true z.1))
  unfold gn_k; omega
/-- the state of node k -/
theorem gn_bP {k : Nat} (hk : k < gn_k G 5) : gn_b G k < 5 ∧ 0 < G (gn_b G k) ∧ gn_k G (gn_b G k) = k := by
  have h1 : k + 1 < gs_c (gn_B G) 200 5 := by unfold gn_k at hk; omega
  rcases gs_hb (B := gn_B G) (f := 200) 5 (k + 1) h1 with ⟨r, _⟩ | ⟨_, r2, r3, _, r5⟩
  · omega
  · refine ⟨r2, of_decide_eq_true r3, ?_⟩
    show gs_c (gn_B G) 200 (gs_h (gn_B G) 200 5 (k + 1)) - 1 = k
    omega
theorem gn_kb {v : Nat} (hv : v < 5) (h : 0 < G v) : gn_b G (gn_k G v) = v ∧ gn_k G v < gn_k G 5 := by
  have h1 := gs_c1 (B := gn_B G) (f := 200) v
  have h2 := gs_hi (B := gn_B G) (f := 200) (q := v) (p := 5) (decide_eq_true h) (by omega) hv
  constructor
  · show gs_h (gn_B G) 200 5 (gs_c (gn_B G) 200 v - 1 + 1) = v
    rw [show gs_c (gn_B G) 200 v - 1 + 1 = gs_c (gn_B G) 200 v by omega]
    exact h2
  · have a := gn_kT hv h
    have b := gn_km (G := G) (show v + 1 ≤ 5 by omega)
    omega
theorem gn_binj {a b : Nat} (ha : a < gn_k G 5) (hb : b < gn_k G 5) (e : gn_b G a = gn_b G b) : a = b := by
  rw [← (gn_bP ha).2.2, ← (gn_bP hb).2.2, e]
theorem gn_inv (hS : S ≤ 5) (hV : V ≤ 8) (hl : lv ≤ 3) (hJ : ∀ u w, u < S → J u w ≤ S) (hG : gb_Gr S D V J lv G) (hx : ∃ u, u < S ∧ 0 < G u) :
    gs_Inv S D V (gn_k G 5) 0 (gn_k G 5) (gn_b G) (gn_w G) (gn_A V J G) := by
  have hbS : ∀ k, k < gn_k G 5 → gn_b G k < S := fun k hk => by
    rcases Nat.lt_or_ge (gn_b G k) S with z | z
    · exact z
    · have := (gn_bP hk).2.1
      rw [hG.2.2 _ z] at this
      omega
  have h5 := gn_k5 (G := G)
  have det : ∀ s w t t', t < 15 → t' < 15 → gn_A V J G s (15 * w + t) = true → gn_A V J G s (15 * w + t') = true → t = t' := by
    intro s w t t' ht ht' a a'
    have a := of_decide_eq_true a
    have a' := of_decide_eq_true a'
    rw [show (15 * w + t) % 15 = t by omega, show (15 * w + t) / 15 = w by omega] at a
    rw [show (15 * w + t') % 15 = t' by omega, show (15 * w + t') / 15 = w by omega] at a'
    exact gn_binj a.2.1 a'.2.1 (by have := a.2.2.2; have := a'.2.2.2; omega)
  refine ⟨fun u p h => ?_, fun u hu => ?_, fun u hu => ?_, ⟨?_, h5, rfl, ?_⟩, fun s w t t' ht ht' a a' _ => det s w t t' ht ht' a a', fun s w t t' u z ht ht' a a' _ _ => det s w t t' ht ht' a a'⟩
  · obtain ⟨h1, h2, h3, h4⟩ := of_decide_eq_true h
    exact ⟨h1, by omega, h2, h3⟩
  · have := gn_bP hu
    exact ⟨this.2.1, Nat.le_trans (hG.1 _ (hbS u hu)).1 hl, hbS u hu⟩
  · refine Nat.le_trans (hG.1 _ (hbS u hu)).2 ?_
    unfold gs_W
    rw [show 120 = 15 * 8 from rfl, gu_s15]
    have e8 := gu_sp (fun w => gu_s (fun t => if gn_A V J G u (15 * w + t) = true then gn_w G ((15 * w + t) % 15) else 0) 15) V (8 - V)
    rw [show V + (8 - V) = 8 by omega] at e8
    rw [e8]
    refine Nat.le_trans ?_ (Nat.le_add_right _ _)
    apply gu_sm
    intro w hw
    show (if J (gn_b G u) w = 0 then 0 else G (J (gn_b G u) w - 1)) ≤ _
    by_cases c : J (gn_b G u) w = 0
    · rw [if_pos c]; omega
    · rw [if_neg c]
      rcases Nat.eq_zero_or_pos (G (J (gn_b G u) w - 1)) with z | z
      · omega
      · have hj := hJ (gn_b G u) w (hbS u hu)
        obtain ⟨e1, e2⟩ := gn_kb (v := J (gn_b G u) w - 1) (by omega) z
        have := gu_sge (f := fun t => if gn_A V J G u (15 * w + t) = true then gn_w G ((15 * w + t) % 15) else 0) (j := gn_k G (J (gn_b G u) w - 1)) (k := 15) (by omega)
        refine Nat.le_trans (Nat.le_of_eq ?_) this
        have ha : gn_A V J G u (15 * w + gn_k G (J (gn_b G u) w - 1)) = true := by
          apply decide_eq_true
          rw [show (15 * w + gn_k G (J (gn_b G u) w - 1)) % 15 = gn_k G (J (gn_b G u) w - 1) by omega, show (15 * w + gn_k G (J (gn_b G u) w - 1)) / 15 = w by omega, e1]
          exact ⟨hu, e2, hw, by omega⟩
        rw [if_pos ha, show (15 * w + gn_k G (J (gn_b G u) w - 1)) % 15 = gn_k G (J (gn_b G u) w - 1) by omega]
        show _ = G (gn_b G _)
        rw [e1]
  · obtain ⟨u, hu, h⟩ := hx
    have := (gn_kb (v := u) (by omega) h).2
    omega
  · have := gu_sb (f := gn_w G) (b := 3) (k := gn_k G 5) (fun k hk => Nat.le_trans (hG.1 _ (hbS k hk)).1 hl)
    omega
end GNP
section GNX
variable {S db wb D V cp lv : Nat} {J : Nat → Nat → Nat} {G : Nat → Nat} {f_nodeCount f_listSize f_built f_codeCount f_splitCount f_encoder f_messageLength : Int32} {a_edgeTarget a_jumpTarget a_good a_nodeBase a_nodeWeight a_arrows a_renumber a_listWord a_listTarget a_seenAt a_seenSum a_alive a_codeBase a_stepWord a_stepTarget a_pairNow a_pairNext a_sentData a_sentWord a_channelWord : Nat → Int32}
theorem gn_7 {post : SX → Prop} (hk : ∀ ar, (∀ q, q < 120 → ar q = 0) → ∃ n28, wX_makeNodes_28 post (nI S) (nI db) (nI wb) (nI D) (nI V) (nI cp) f_listSize f_built f_codeCount f_splitCount f_encoder f_messageLength n28 0 f_nodeCount a_edgeTarget a_jumpTarget a_good a_nodeBase a_nodeWeight ar a_renumber a_listWord a_listTarget a_seenAt a_seenSum a_alive a_codeBase a_stepWord a_stepTarget a_pairNow a_pairNext a_sentData a_sentWord a_channelWord) :
    ∀ n q ar, 120 < n + q → q ≤ 120 → (∀ q', q' < q → ar q' = 0) → wX_makeNodes_7 post (nI S) (nI db) (nI wb) (nI D) (nI V) (nI cp) f_nodeCount f_listSize f_built f_codeCount f_splitCount f_encoder f_messageLength n (nI q) a_edgeTarget a_jumpTarget a_good a_nodeBase a_nodeWeight ar a_renumber a_listWord a_listTarget a_seenAt a_seenSum a_alive a_codeBase a_stepWord a_stepTarget a_pairNow a_pairNext a_sentData a_sentWord a_channelWord := by
  intro n
  induction n with
  | zero => intro q ar z1 z2; omega
  | succ n ih =>
    intro q ar z1 z2 hI
    refine pk_le 120 q (fun h => hk ar fun q' hq' => hI q' (by omega)) (fun h => ⟨vp_in_nI (by omega) (by omega), nm_r (e' := upd ar q 0) (by rw [nI_clamp (by omega)]) (nm_r (nI_1 q) (ih (q + 1) _ (by omega) (by omega) fun q' hq' => ?_))⟩)
    by_cases e : q' = q
    · subst e; exact pk_us
    · rw [pk_un e]; exact hI q' (by omega)
def gn_I (G : Nat → Nat) (u : Nat) (al rn nb nw : Nat → Int32) : Prop :=
  ∀ v, v < u → al v = gu_i (gn_B G v) ∧ (0 < G v → rn v = nI (gn_k G v) ∧ nb (gn_k G v) = nI v ∧ nw (gn_k G v) = nI (G v))
theorem gn_28 {post : SX → Prop} (hG3 : ∀ u, u < 5 → G u ≤ 3) (hg : ∀ u, u < 5 → a_good u = nI (G u))
    (hk : ∀ al rn nb nw, gn_I G 5 al rn nb nw → ∃ n122, wX_makeNodes_122 post (nI S) (nI db) (nI wb) (nI D) (nI V) (nI cp) (nI (gn_k G 5)) f_listSize f_built f_codeCount f_splitCount f_encoder f_messageLength n122 0 a_edgeTarget a_jumpTarget a_good nb nw a_arrows rn a_listWord a_listTarget a_seenAt a_seenSum al a_codeBase a_stepWord a_stepTarget a_pairNow a_pairNext a_sentData a_sentWord a_channelWord) :
    ∀ n u al rn nb nw, 5 < n + u → u ≤ 5 → gn_I G u al rn nb nw → wX_makeNodes_28 post (nI S) (nI db) (nI wb) (nI D) (nI V) (nI cp) f_listSize f_built f_codeCount f_splitCount f_encoder f_messageLength n (nI u) (nI (gn_k G u)) a_edgeTarget a_jumpTarget a_good nb nw a_arrows rn a_listWord a_listTarget a_seenAt a_seenSum al a_codeBase a_stepWord a_stepTarget a_pairNow a_pairNext a_sentData a_sentWord a_channelWord := by
  intro n
  induction n with
  | zero => intro u al rn nb nw z1 z2; omega
  | succ n ih =>
    intro u al rn nb nw z1 z2 hI
    refine pk_le 5 u (fun h => ?_) (fun h => ⟨vp_in_nI (by omega) (by omega), ?_⟩)
    · have e : u = 5 := by omega
      subst e; exact hk al rn nb nw hI
    · have hk5 := gn_km (G := G) (show u ≤ 5 by omega)
      have h5 := gn_k5 (G := G)
      have g3 := hG3 u h
      have eg : a_good (nI u).toNatClampNeg = nI (G u) := by rw [nI_clamp (by omega)]; exact hg u h
      refine pk_le (G u) 0 (fun c => ?_) (fun c => ?_) eg
      · have e1 : gn_k G (u + 1) = gn_k G u := gn_kF (by omega)
        refine ⟨vp_in_nI (by omega) (by omega), nm_r (e' := upd al u 0) (by rw [nI_clamp (by omega)]; rfl) ⟨vp_in_nI (by omega) (by omega), nm_r (e' := upd rn u (-1)) (by rw [nI_clamp (by omega)]) ⟨vp_in_nI (by omega) (by omega), br_t (by rw [nI_clamp (by omega), pk_us]) (nm_r (nI_1 u) ?_)⟩⟩⟩
        rw [← e1]
        refine ih (u + 1) _ _ _ _ (by omega) (by omega) fun v hv => ?_
        by_cases e : v = u
        · subst e
          exact ⟨by rw [pk_us]; unfold gn_B; rw [decide_eq_false (by omega)]; rfl, fun z => by omega⟩
        · rw [pk_un e, pk_un e]; exact hI v (by omega)
      · have e1 : gn_k G (u + 1) = gn_k G u + 1 := gn_kT h c
        refine ⟨vp_in_nI (by omega) (by omega), nm_r (e' := upd al u 1) (by rw [nI_clamp (by omega)]; rfl) ⟨vp_in_nI (by omega) (by omega), nm_r (e' := upd rn u (-1)) (by rw [nI_clamp (by omega)]) ⟨vp_in_nI (by omega) (by omega), br_f (by rw [nI_clamp (by omega), pk_us]; decide) ⟨vp_in_nI (by omega) (by omega), nm_r (e' := upd (upd rn u (-1)) u (nI (gn_k G u))) (by rw [nI_clamp (by omega)]) ⟨vp_in_nI (by omega) (by omega), nm_r (e' := upd nb (gn_k G u) (nI u)) (by rw [nI_clamp (by omega)]) ⟨vp_in_nI (by omega) (by omega), vp_in_nI (by omega) (by omega), nm_r (e' := upd nw (gn_k G u) (nI (G u))) (by rw [nI_clamp (by omega), eg]) (nm_r (nI_1 (gn_k G u)) (nm_r (nI_1 u) ?_))⟩⟩⟩⟩⟩⟩
        rw [← e1]
        refine ih (u + 1) _ _ _ _ (by omega) (by omega) fun v hv => ?_
        by_cases e : v = u
        · subst e
          exact ⟨by rw [pk_us]; unfold gn_B; rw [decide_eq_true c]; rfl, fun _ => ⟨pk_us, pk_us, pk_us⟩⟩
        · obtain ⟨i1, i2⟩ := hI v (by omega)
          rw [pk_un e, pk_un e, pk_un e]
          refine ⟨i1, fun z => ?_⟩
          have e2 : gn_k G v ≠ gn_k G u := by
            have := gn_kT (u := v) (by omega) z
            have := gn_km (G := G) (show v + 1 ≤ u by omega)
            omega
          rw [pk_un e2, pk_un e2]
          exact i2 z
theorem gn_132 {post : SX → Prop} (J122 : Int32 → (Nat → Int32) → (Nat → Int32) → (Nat → Int32) → (Nat → Int32) → (Nat → Int32) → (Nat → Int32) → (Nat → Int32) → (Nat → Int32) → (Nat → Int32) → (Nat → Int32) → (Nat → Int32) → (Nat → Int32) → (Nat → Int32) → (Nat → Int32) → (Nat → Int32) → (Nat → Int32) → (Nat → Int32) → (Nat → Int32) → (Nat → Int32) → (Nat → Int32) → Prop) {s : Nat} (hS : S ≤ 5) (hV : V ≤ 8) (hs : s < gn_k G 5) (hJ : ∀ u w, u < S → J u w ≤ S) (hT : ∀ u w, u < S → w < V → a_jumpTarget (8 * u + w) = gu_e (J u w)) (hGS : ∀ u, S ≤ u → G u = 0)
    (hI : gn_I G 5 a_alive a_renumber a_nodeBase a_nodeWeight)
    (hJ2 : ∀ ar, (∀ u w x, u < 15 → w < 8 → x < 32 → bt (ar (8 * u + w)) x = (decide (x < 15) && (decide (u < s + 1) && gn_A V J G u (15 * w + x)))) → J122 (nI (s + 1)) a_edgeTarget a_jumpTarget a_good a_nodeBase a_nodeWeight ar a_renumber a_listWord a_listTarget a_seenAt a_seenSum a_alive a_codeBase a_stepWord a_stepTarget a_pairNow a_pairNext a_sentData a_sentWord a_channelWord) :
    ∀ n w ar, V < n + w → w ≤ V → (∀ u w' x, u < 15 → w' < 8 → x < 32 → bt (ar (8 * u + w')) x = (decide (x < 15) && (decide (u < s ∨ (u = s ∧ w' < w)) && gn_A V J G u (15 * w' + x)))) → (∀ w', w ≤ w' → w' < V → ar (8 * s + w') = 0) → wX_makeNodes_132 post J122 (nI s) (nI S) (nI db) (nI wb) (nI D) (nI V) (nI cp) (nI (gn_k G 5)) f_listSize f_built f_codeCount f_splitCount f_encoder f_messageLength n (nI w) a_edgeTarget a_jumpTarget a_good a_nodeBase a_nodeWeight ar a_renumber a_listWord a_listTarget a_seenAt a_seenSum a_alive a_codeBase a_stepWord a_stepTarget a_pairNow a_pairNext a_sentData a_sentWord a_channelWord := by
  obtain ⟨b1, b2, b3⟩ := gn_bP hs
  have hbS : gn_b G s < S := by
    rcases Nat.lt_or_ge (gn_b G s) S with z | z
    · exact z
    · rw [hGS _ z] at b2; omega
  have h5 := gn_k5 (G := G)
  intro n
  induction n with
  | zero => intro w ar z1 z2; omega
  | succ n ih =>
    intro w ar z1 z2 hA hz
    refine pk_le V w (fun h => nm_r (nI_1 s) (hJ2 ar fun u w' x hu hw hx => ?_)) (fun h => ⟨vp_in_nI (by omega) (by omega), ?_⟩)
    · rw [hA u w' x hu hw hx]
      by_cases h15 : x < 15
      · congr 1
        by_cases c : w' < V
        · congr 1
          exact decide_eq_decide.mpr (by omega)
        · have : gn_A V J G u (15 * w' + x) = false := decide_eq_false (fun z => by have := z.2.2.1; omega)
          rw [this, Bool.and_false, Bool.and_false]
      · rw [decide_eq_false h15, Bool.false_and, Bool.false_and]
    · have eb : a_nodeBase (nI s).toNatClampNeg = nI (gn_b G s) := by
        have := ((hI _ b1).2 b2).2.1
        rw [b3] at this
        rw [nI_clamp (by omega)]; exact this
      have hj := hJ (gn_b G s) w hbS
      rw [eb, gu_c8 (by omega), hT _ _ hbS h]
      refine ⟨gu_in8 (by omega) (by omega), nm_e ?_⟩
      have next : ∀ ar', (∀ q, q ≠ 8 * s + w → ar' q = ar q) → (∀ x, x < 32 → bt (ar' (8 * s + w)) x = (decide (x < 15) && gn_A V J G s (15 * w + x))) → wX_makeNodes_132 post J122 (nI s) (nI S) (nI db) (nI wb) (nI D) (nI V) (nI cp) (nI (gn_k G 5)) f_listSize f_built f_codeCount f_splitCount f_encoder f_messageLength n (nI (w + 1)) a_edgeTarget a_jumpTarget a_good a_nodeBase a_nodeWeight ar' a_renumber a_listWord a_listTarget a_seenAt a_seenSum a_alive a_codeBase a_stepWord a_stepTarget a_pairNow a_pairNext a_sentData a_sentWord a_channelWord := by
        intro ar' h1 h2
        refine ih (w + 1) ar' (by omega) (by omega) (fun u w' x hu hw hx => ?_) (fun w' h3 h4 => by rw [h1 _ (by omega)]; exact hz w' (by omega) h4)
        by_cases c : 8 * u + w' = 8 * s + w
        · have e1 : u = s := by omega
          have e2 : w' = w := by omega
          subst e1 e2
          rw [h2 x hx, decide_eq_true (show u < u ∨ u = u ∧ w' < w' + 1 by omega), Bool.true_and]
        · rw [h1 _ c, hA u w' x hu hw hx]
          congr 2
          exact decide_eq_decide.mpr (by omega)
      have same : (∀ x, x < 15 → gn_A V J G s (15 * w + x) = false) → ∀ x, x < 32 → bt (ar (8 * s + w)) x = (decide (x < 15) && gn_A V J G s (15 * w + x)) := fun h0 x hx => by
        rw [hz w (by omega) h, b_0]
        by_cases h15 : x < 15
        · rw [h0 x h15, Bool.and_false]
        · rw [decide_eq_false h15, Bool.false_and]
      by_cases c : J (gn_b G s) w = 0
      · refine br_t ((gu_elt (by omega)).mpr c) (nm_r (nI_1 w) (next ar (fun _ _ => rfl) (same fun x hx => decide_eq_false fun z => ?_)))
        have z := z.2.2.2
        rw [show (15 * w + x) / 15 = w by omega] at z
        omega
      · obtain ⟨v, hv⟩ : ∃ v, J (gn_b G s) w = v + 1 := ⟨J (gn_b G s) w - 1, by omega⟩
        obtain ⟨i1, i2⟩ := hI v (by omega)
        rw [hv, gu_es, nI_clamp (by omega), i1, gu_i0]
        refine br_f (nI_pos (by omega)) ⟨vp_in_nI (by omega) (by omega), ?_⟩
        by_cases cg : 0 < G v
        · obtain ⟨k1, k2⟩ := gn_kb (v := v) (by omega) cg
          have hb : gn_B G v = true := decide_eq_true cg
          rw [hb, (i2 cg).1]
          refine br_f (by decide) ⟨vp_in_nI (by omega) (by omega), gu_in8 (by omega) (by omega), nm_r (e' := upd ar (8 * s + w) ((1 : Int32) <<< (nI (gn_k G v) &&& 31))) (by rw [gu_c8 (by omega)]) (nm_r (nI_1 w) (next _ (fun q hq => pk_un hq) fun x hx => ?_))⟩
          rw [pk_us, gu_b1 (by omega) hx]
          by_cases h15 : x < 15
          · rw [decide_eq_true h15, Bool.true_and]
            apply decide_eq_decide.mpr
            rw [show (15 * w + x) % 15 = x by omega, show (15 * w + x) / 15 = w by omega, hv]
            constructor
            · intro e; subst e; exact ⟨hs, k2, h, by rw [k1]⟩
            · intro ⟨_, q2, _, q4⟩
              rw [← (gn_bP q2).2.2, show gn_b G x = v by omega]
          · rw [decide_eq_false h15, decide_eq_false (by omega)]; rfl
        · have hb : gn_B G v = false := decide_eq_false cg
          rw [hb]
          refine br_t rfl (nm_r (nI_1 w) (next ar (fun _ _ => rfl) (same fun x hx => decide_eq_false fun z => ?_)))
          have z2 := z.2.1
          have z4 := z.2.2.2
          rw [show (15 * w + x) % 15 = x by omega] at z2 z4
          rw [show (15 * w + x) / 15 = w by omega, hv] at z4
          have := (gn_bP z2).2.1
          rw [show gn_b G x = v by omega] at this
          exact cg this
theorem gn_122 {post : SX → Prop} (hS : S ≤ 5) (hV : V ≤ 8) (hJ : ∀ u w, u < S → J u w ≤ S) (hT : ∀ u w, u < S → w < V → a_jumpTarget (8 * u + w) = gu_e (J u w)) (hGS : ∀ u, S ≤ u → G u = 0)
    (hI : gn_I G 5 a_alive a_renumber a_nodeBase a_nodeWeight)
    (hp : ∀ ar, gx_A (gn_A V J G) ar → post ((nI S), (nI db), (nI wb), (nI D), (nI V), (nI cp), (nI (gn_k G 5)), f_listSize, f_built, f_codeCount, f_splitCount, f_encoder, f_messageLength, a_edgeTarget, a_jumpTarget, a_good, a_nodeBase, a_nodeWeight, ar, a_renumber, a_listWord, a_listTarget, a_seenAt, a_seenSum, a_alive, a_codeBase, a_stepWord, a_stepTarget, a_pairNow, a_pairNext, a_sentData, a_sentWord, a_channelWord)) :
    ∀ n s ar, gn_k G 5 < n + s → s ≤ gn_k G 5 → (∀ u w x, u < 15 → w < 8 → x < 32 → bt (ar (8 * u + w)) x = (decide (x < 15) && (decide (u < s) && gn_A V J G u (15 * w + x)))) → (∀ u w', s ≤ u → u < 15 → w' < 8 → ar (8 * u + w') = 0) → wX_makeNodes_122 post (nI S) (nI db) (nI wb) (nI D) (nI V) (nI cp) (nI (gn_k G 5)) f_listSize f_built f_codeCount f_splitCount f_encoder f_messageLength n (nI s) a_edgeTarget a_jumpTarget a_good a_nodeBase a_nodeWeight ar a_renumber a_listWord a_listTarget a_seenAt a_seenSum a_alive a_codeBase a_stepWord a_stepTarget a_pairNow a_pairNext a_sentData a_sentWord a_channelWord := by
  have h5 := gn_k5 (G := G)
  intro n
  induction n with
  | zero => intro s ar z1 z2; omega
  | succ n ih =>
    intro s ar z1 z2 hA hz
    refine pk_le (gn_k G 5) s (fun h => hp ar fun u w x hu hw hx => ?_) (fun h => ⟨V + 1, ?_⟩)
    · rw [hA u w x hu hw hx]
      congr 1
      by_cases c : u < s
      · rw [decide_eq_true c, Bool.true_and]
      · rw [decide_eq_false c, Bool.false_and]
        exact (decide_eq_false fun z => by omega).symm
    · refine gn_132 (wX_makeNodes_122 post (nI S) (nI db) (nI wb) (nI D) (nI V) (nI cp) (nI (gn_k G 5)) f_listSize f_built f_codeCount f_splitCount f_encoder f_messageLength n) hS hV h hJ hT hGS hI (fun ar' h' => ih (s + 1) ar' (by omega) (by omega) h' ?_) (V + 1) 0 ar (by omega) (by omega) (fun u w x hu hw hx => ?_) (fun w' h1 h2 => hz s w' (by omega) (by omega) (by omega))
      · intro u w' hu hu2 hw'
        apply b_ext
        intro x hx
        rw [h' u w' x hu2 hw' hx, decide_eq_false (show ¬ u < s + 1 by omega), Bool.false_and, Bool.and_false, b_0]
      · rw [hA u w x hu hw hx]
        congr 2
        exact decide_eq_decide.mpr (by omega)
theorem gn_mn {post : SX → Prop} (hS : S ≤ 5) (hV : V ≤ 8) (hJ : ∀ u w, u < S → J u w ≤ S) (hT : ∀ u w, u < S → w < V → a_jumpTarget (8 * u + w) = gu_e (J u w)) (hGS : ∀ u, S ≤ u → G u = 0) (hG3 : ∀ u, u < 5 → G u ≤ 3) (hg : ∀ u, u < 5 → a_good u = nI (G u))
    (hp : ∀ nb nw ar rn al, gx_R (gn_k G 5) (gn_b G) (gn_w G) (gn_A V J G) nb nw ar → (∀ u, u < 5 → al u = gu_i (gn_B G u)) → post ((nI S), (nI db), (nI wb), (nI D), (nI V), (nI cp), (nI (gn_k G 5)), f_listSize, f_built, f_codeCount, f_splitCount, f_encoder, f_messageLength, a_edgeTarget, a_jumpTarget, a_good, nb, nw, ar, rn, a_listWord, a_listTarget, a_seenAt, a_seenSum, al, a_codeBase, a_stepWord, a_stepTarget, a_pairNow, a_pairNext, a_sentData, a_sentWord, a_channelWord)) : wpX_makeNodes post ((nI S), (nI db), (nI wb), (nI D), (nI V), (nI cp), f_nodeCount, f_listSize, f_built, f_codeCount, f_splitCount, f_encoder, f_messageLength, a_edgeTarget, a_jumpTarget, a_good, a_nodeBase, a_nodeWeight, a_arrows, a_renumber, a_listWord, a_listTarget, a_seenAt, a_seenSum, a_alive, a_codeBase, a_stepWord, a_stepTarget, a_pairNow, a_pairNext, a_sentData, a_sentWord, a_channelWord) := by
  have h5 := gn_k5 (G := G)
  refine ⟨121, gn_7 (fun ar har => ⟨6, gn_28 hG3 hg (fun al rn nb nw hI => ⟨gn_k G 5 + 1, ?_⟩) 6 0 a_alive a_renumber a_nodeBase a_nodeWeight (by omega) (by omega) (fun v h => by omega)⟩) 121 0 a_arrows (by omega) (by omega) (fun q h => by omega)⟩
  refine gn_122 hS hV hJ hT hGS hI (fun ar' h' => hp nb nw ar' rn al ⟨fun u hu => ?_, fun u hu => ?_, h'⟩ fun u hu => (hI u hu).1) (gn_k G 5 + 1) 0 ar (by omega) (by omega) (fun u w x hu hw hx => ?_) (fun u w' _ h1 h2 => har _ (by omega))
  · obtain ⟨b1, b2, b3⟩ := gn_bP hu
    have := ((hI _ b1).2 b2).2.1
    rw [b3] at this
    exact this
  · obtain ⟨b1, b2, b3⟩ := gn_bP hu
    have := ((hI _ b1).2 b2).2.2
    rw [b3] at this
    exact this
  · rw [har _ (by omega), b_0, decide_eq_false (show ¬ u < 0 by omega), Bool.false_and, Bool.and_false]
end GNX
end
section
/-! the first nodes, the reference's side -/
def gy_B (S : Nat) (ba : Nat → Int32) : Prop := ∀ i, i < 15 → ∃ v, v < S ∧ ba i = nI v
theorem gy_Bu {S v k : Nat} {ba : Nat → Int32} (h : gy_B S ba) (hv : v < S) : gy_B S (upd ba k (nI v)) := by
  intro i hi
  by_cases e : i = k
  · subst e; exact ⟨v, hv, pk_us⟩
  · rw [pk_un e]; exact h i hi
def gy_I (G : Nat → Nat) (u : Nat) (xx ba we : Nat → Int32) : Prop :=
  ∀ v, v < u → xx v = nI (G v) ∧ (0 < G v → ba (gn_k G v) = nI v ∧ we (gn_k G v) = nI (G v))
theorem gn_kS {S : Nat} {G : Nat → Nat} (hS : S ≤ 5) (hGS : ∀ u, S ≤ u → G u = 0) : gn_k G S = gn_k G 5 := by
  unfold gn_k
  rw [gs_ck (B := gn_B G) (f := 200) (a := S) 5 hS fun q h1 _ => decide_eq_false (by rw [hGS q h1]; omega)]
theorem gn_k0 {S : Nat} {G : Nat → Nat} (hS : S ≤ 5) (hGS : ∀ u, S ≤ u → G u = 0) : gn_k G 5 = 0 ↔ ∀ u, u < S → G u = 0 := by
  constructor
  · intro h u hu
    rcases Nat.eq_zero_or_pos (G u) with z | z
    · exact z
    · have := (gn_kb (v := u) (by omega) z).2; omega
  · intro h
    have : gs_c (gn_B G) 200 5 = gs_c (gn_B G) 200 0 := gs_ck 5 (by omega) fun q _ _ => decide_eq_false (by
      rcases Nat.lt_or_ge q S with z | z
      · rw [h q z]; omega
      · rw [hGS q z]; omega)
    unfold gn_k
    rw [this]; rfl
section GNY
variable {S wb D V cp lv : Nat} {E : Nat → Nat} {G : Nat → Nat} {f_built f_codes f_made f_encoder f_places f_nodes : Int32} {a_edges a_x a_base a_weight a_number a_arrow a_mark a_list a_sum a_outW a_outS a_sent a_own a_chan a_at a_pick : Nat → Int32}
theorem gy_36 {post : Int32 → SY → Prop} (J19 : Int32 → Int32 → (Nat → Int32) → (Nat → Int32) → (Nat → Int32) → (Nat → Int32) → (Nat → Int32) → (Nat → Int32) → (Nat → Int32) → (Nat → Int32) → (Nat → Int32) → (Nat → Int32) → (Nat → Int32) → (Nat → Int32) → (Nat → Int32) → (Nat → Int32) → (Nat → Int32) → (Nat → Int32) → Prop) (hT : ∀ i, i < 10 → a_edges i = nI (E i)) (hE : ∀ i, E i ≤ S) (hS : S ≤ 5) (hV : V ≤ 8) (hwb : wb ≤ 3) (hD : D ≤ 4) (h1 : 1 ≤ lv) (hl : lv ≤ 3)
    (hG : gb_Gr S D V (fun u w => ga_j E w wb (u + 1)) lv G)
    (hJ : ∀ xx ba we, gy_B S ba → gy_I G S xx ba we → J19 (nI (lv + 1)) (nI (gn_k G 5)) a_edges xx ba we a_number a_arrow a_mark a_list a_sum a_outW a_outS a_sent a_own a_chan a_at a_pick) :
    ∀ n u xx ba we, S < n + u → u ≤ S → gy_B S ba → gy_I G u xx ba we → wY_build_36 post J19 (nI lv) (nI S) (nI D) (nI wb) (nI V) (nI cp) f_built f_codes f_made f_encoder f_places n (nI u) (nI (gn_k G u)) a_edges xx ba we a_number a_arrow a_mark a_list a_sum a_outW a_outS a_sent a_own a_chan a_at a_pick := by
  have h5 := gn_k5 (G := G)
  intro n
  induction n with
  | zero => intro u xx ba we z1 z2; omega
  | succ n ih =>
    intro u xx ba we z1 z2 hB hI
    have hk5 := gn_km (G := G) (show u ≤ 5 by omega)
    refine pk_le S u (fun h => nm_r (nI_1 lv) ?_) (fun h => ?_)
    · have e : u = S := by omega
      subst e
      rw [gn_kS hS hG.2.2]
      exact hJ xx ba we hB hI
    · refine gb_v hT hE hS hV hwb hD h1 hl h hG ?_
      have g3 := (hG.1 u h).1
      refine ⟨vp_in_nI (by omega) (by omega), nm_r (e' := upd xx u (nI (G u))) (by rw [nI_clamp (by omega)]) ⟨vp_in_nI (by omega) (by omega), nm_r (e' := upd ba (gn_k G u) (nI u)) (by rw [nI_clamp (by omega)]) ⟨vp_in_nI (by omega) (by omega), vp_in_nI (by omega) (by omega), ?_⟩⟩⟩
      have ex : upd xx u (nI (G u)) (nI u).toNatClampNeg = nI (G u) := by rw [nI_clamp (by omega), pk_us]
      refine nm_r (e' := upd we (gn_k G u) (nI (G u))) (by rw [nI_clamp (by omega), ex]) ⟨vp_in_nI (by omega) (by omega), ?_⟩
      have hB' := gy_Bu (k := gn_k G u) hB h
      refine pk_le (G u) 0 (fun c => nm_r (nI_1 u) ?_) (fun c => nm_r (e' := nI (gn_k G (u + 1))) (by rw [nI_1, gn_kT (by omega) c]) (nm_r (nI_1 u) (ih (u + 1) _ _ _ (by omega) (by omega) hB' fun v hv => ?_))) ex
      · rw [← gn_kF (show ¬ 0 < G u by omega)]
        refine ih (u + 1) _ _ _ (by omega) (by omega) (by rw [gn_kF (show ¬ 0 < G u by omega)]; exact hB') fun v hv => ?_
        by_cases e : v = u
        · subst e; exact ⟨pk_us, fun z => by omega⟩
        · obtain ⟨i1, i2⟩ := hI v (by omega)
          rw [pk_un e]
          refine ⟨i1, fun z => ?_⟩
          have e2 : gn_k G v ≠ gn_k G (u + 1) := by
            have := gn_kT (u := v) (by omega) z
            have := gn_km (G := G) (show v + 1 ≤ u by omega)
            have := gn_km (G := G) (show u ≤ u + 1 by omega)
            omega
          rw [pk_un e2, pk_un e2]
          exact i2 z
      · by_cases e : v = u
        · subst e; exact ⟨pk_us, fun _ => ⟨pk_us, pk_us⟩⟩
        · obtain ⟨i1, i2⟩ := hI v (by omega)
          rw [pk_un e]
          refine ⟨i1, fun z => ?_⟩
          have e2 : gn_k G v ≠ gn_k G u := by
            have := gn_kT (u := v) (by omega) z
            have := gn_km (G := G) (show v + 1 ≤ u by omega)
            omega
          rw [pk_un e2, pk_un e2]
          exact i2 z
theorem gy_19 {post : Int32 → SY → Prop} {GG : Nat → Nat → Nat} (hT : ∀ i, i < 10 → a_edges i = nI (E i)) (hE : ∀ i, E i ≤ S) (hS : S ≤ 5) (hV : V ≤ 8) (hwb : wb ≤ 3) (hD : D ≤ 4) (hc : cp ≤ 3)
    (hG : ∀ lv, gb_Gr S D V (fun u w => ga_j E w wb (u + 1)) lv (GG lv))
    (H : ∀ lv, 1 ≤ lv → lv ≤ cp → (∀ l, 1 ≤ l → l < lv → gn_k (GG l) 5 = 0) → gn_k (GG lv) 5 ≠ 0 → ∀ xx ba we, gy_B S ba → gy_I (GG lv) S xx ba we → wY_build_112 post (nI S) (nI D) (nI wb) (nI V) (nI cp) f_built f_codes f_made f_encoder f_places (nI (gn_k (GG lv) 5)) a_edges xx ba we a_number a_arrow a_mark a_list a_sum a_outW a_outS a_sent a_own a_chan a_at a_pick)
    (H0 : (∀ l, 1 ≤ l → l ≤ cp → gn_k (GG l) 5 = 0) → ∀ xx ba we, gy_B S ba → wY_build_112 post (nI S) (nI D) (nI wb) (nI V) (nI cp) f_built f_codes f_made f_encoder f_places (nI 0) a_edges xx ba we a_number a_arrow a_mark a_list a_sum a_outW a_outS a_sent a_own a_chan a_at a_pick) :
    ∀ n lv xx ba we, cp + 2 < n + lv → 1 ≤ lv → lv ≤ cp + 1 → gy_B S ba → (∀ l, 1 ≤ l → l < lv → gn_k (GG l) 5 = 0) → wY_build_19 post (nI S) (nI D) (nI wb) (nI V) (nI cp) f_built f_codes f_made f_encoder f_places n (nI lv) (nI 0) a_edges xx ba we a_number a_arrow a_mark a_list a_sum a_outW a_outS a_sent a_own a_chan a_at a_pick := by
  intro n
  induction n with
  | zero => intro lv xx ba we z1 z2; omega
  | succ n ih =>
    intro lv xx ba we z1 z2 z3 hB h0
    refine pk_lt cp lv (fun h => H0 (fun l h1 h2 => h0 l h1 (by omega)) xx ba we hB) (fun h => br_t rfl ⟨S + 1, ?_⟩)
    refine gy_36 (wY_build_19 post (nI S) (nI D) (nI wb) (nI V) (nI cp) f_built f_codes f_made f_encoder f_places n) hT hE hS hV hwb hD z2 (by omega) (hG lv) (fun xx' ba' we' hB' hI' => ?_) (S + 1) 0 xx ba we (by omega) (by omega) hB (fun v h => by omega)
    by_cases c : gn_k (GG lv) 5 = 0
    · rw [c]
      exact ih (lv + 1) xx' ba' we' (by omega) (by omega) (by omega) hB' fun l h1 h2 => by
        by_cases e : l = lv
        · subst e; exact c
        · exact h0 l h1 (by omega)
    · obtain ⟨n, rfl⟩ : ∃ n', n = n' + 1 := ⟨n - 1, by omega⟩
      have h5 := gn_k5 (G := GG lv)
      exact br_c (fun _ => H lv z2 h h0 c xx' ba' we' hB' hI') (fun _ => br_f (nI_ne0 (by omega) (by omega)) (H lv z2 h h0 c xx' ba' we' hB' hI'))
theorem gy_124 {post : Int32 → SY → Prop} (hT : ∀ i, i < 10 → a_edges i = nI (E i)) (hE : ∀ i, E i ≤ S) (hS : S ≤ 5) (hV : V ≤ 8) (hwb : wb ≤ 3) (hB : gy_B S a_base) (hb : ∀ k, k < gn_k G 5 → a_base k = nI (gn_b G k)) (hbS : ∀ k, k < gn_k G 5 → gn_b G k < S)
    (hk : ∀ ar, gy_A (gn_A V (fun u w => ga_j E w wb (u + 1)) G) ar → ∃ n219, wY_build_219 post n219 (nI S) (nI D) (nI wb) (nI V) (nI cp) f_built f_codes 0 f_encoder f_places (nI (gn_k G 5)) a_edges a_x a_base a_weight a_number ar a_mark a_list a_sum a_outW a_outS a_sent a_own a_chan a_at a_pick) :
    ∀ n P ar, 1800 < n + P → P ≤ 1800 → (∀ Q, Q < P → ar Q = gu_i (gn_A V (fun u w => ga_j E w wb (u + 1)) G (Q / 120) (Q % 120))) → wY_build_124 post (nI S) (nI D) (nI wb) (nI V) (nI cp) f_built f_codes f_made f_encoder f_places (nI (gn_k G 5)) n (nI P) a_edges a_x a_base a_weight a_number ar a_mark a_list a_sum a_outW a_outS a_sent a_own a_chan a_at a_pick := by
  have h5 := gn_k5 (G := G)
  intro n
  induction n with
  | zero => intro P ar z1 z2; omega
  | succ n ih =>
    intro P ar z1 z2 hI
    refine pk_le 1800 P (fun h => hk ar fun u p hu hp => ?_) (fun h => ⟨by decide, by decide, ?_⟩)
    · rw [hI (120 * u + p) (by omega), show (120 * u + p) / 120 = u by omega, show (120 * u + p) % 120 = p by omega]
    · have next : ∀ b, gn_A V (fun u w => ga_j E w wb (u + 1)) G (P / 120) (P % 120) = b → wY_build_124 post (nI S) (nI D) (nI wb) (nI V) (nI cp) f_built f_codes f_made f_encoder f_places (nI (gn_k G 5)) n (nI (P + 1)) a_edges a_x a_base a_weight a_number (upd ar P (gu_i b)) a_mark a_list a_sum a_outW a_outS a_sent a_own a_chan a_at a_pick := fun b hb => ih (P + 1) _ (by omega) (by omega) fun Q hQ => by
        by_cases e : Q = P
        · subst e; rw [pk_us, hb]
        · rw [pk_un e]; exact hI Q (by omega)
      have nf := next false
      have nt := next true
      rw [gu_r12 (by omega), gu_r15 (by omega), gu_12 (by omega), gu_15 (by omega), nI_clamp (by omega), nI_clamp (by omega), nI_clamp (by omega)]
      refine nm_e ⟨by decide, vp_in_nI (by omega) (by omega), ?_⟩
      obtain ⟨v0, hv0, ev0⟩ := hB (P / 120) (by omega)
      rw [ev0]
      refine ga_wyj hT hE hS (by omega) hwb hv0 ⟨by decide, pk_le (gn_k G 5) (P / 120) (fun c => ⟨vp_in_nI (by omega) (by omega), nm_e (nm_r (nI_1 P) (nf (decide_eq_false fun z => by omega)))⟩) (fun c => ⟨by decide, pk_le (gn_k G 5) (P % 15) (fun c2 => ⟨vp_in_nI (by omega) (by omega), nm_e (nm_r (nI_1 P) (nf (decide_eq_false fun z => by omega)))⟩) (fun c2 => pk_le V (P % 120 / 15) (fun c3 => ⟨vp_in_nI (by omega) (by omega), nm_e (nm_r (nI_1 P) (nf (decide_eq_false fun z => by omega)))⟩) (fun c3 => ⟨by decide, vp_in_nI (by omega) (by omega), ?_⟩))⟩)⟩
      have e0 : v0 = gn_b G (P / 120) := by
        rw [hb _ c] at ev0
        have b1 := hbS _ c
        exact ((nI_eq (by omega) (by omega)).mp ev0).symm
      have bt := hbS _ c2
      have hj : ga_j E (P % 120 / 15) wb (v0 + 1) ≤ S := ga_jle hE _ _ (by omega)
      have key : gn_A V (fun u w => ga_j E w wb (u + 1)) G (P / 120) (P % 120) = decide (ga_j E (P % 120 / 15) wb (v0 + 1) = gn_b G (P % 15) + 1) := by
        apply decide_eq_decide.mpr
        rw [show P % 120 % 15 = P % 15 by omega, ← e0]
        exact ⟨fun z => z.2.2.2, fun z => ⟨c, c2, c3, z⟩⟩
      rw [hb _ c2]
      by_cases cz : ga_j E (P % 120 / 15) wb (v0 + 1) = gn_b G (P % 15) + 1
      · exact br_t (by rw [cz, gu_es]) ⟨vp_in_nI (by omega) (by omega), nm_e (nm_r (nI_1 P) (nt (by rw [key, decide_eq_true cz])))⟩
      · exact br_f (by rw [← gu_es, gu_einj (by omega) (by omega)]; exact cz) ⟨vp_in_nI (by omega) (by omega), nm_e (nm_r (nI_1 P) (nf (by rw [key, decide_eq_false cz])))⟩
end GNY
section GNZ
variable {S db wb D V cp lv : Nat} {J : Nat → Nat → Nat} {f_nodeCount f_listSize f_built f_codeCount f_splitCount f_encoder f_messageLength : Int32} {a_edgeTarget a_jumpTarget a_good a_nodeBase a_nodeWeight a_arrows a_renumber a_listWord a_listTarget a_seenAt a_seenSum a_alive a_codeBase a_stepWord a_stepTarget a_pairNow a_pairNext a_sentData a_sentWord a_channelWord : Nat → Int32}
theorem gx_16 {post : Int32 → SX → Prop} {GG : Nat → Nat → Nat} (hD : (db = 1 ∧ D = 2) ∨ (db = 2 ∧ D = 4)) (hS : S ≤ 5) (hV : V ≤ 8) (hc : cp ≤ 3) (hJ : ∀ u w, u < S → J u w ≤ S)
    (hT : ∀ u w, u < S → w < V → a_jumpTarget (8 * u + w) = gu_e (J u w)) (hG : ∀ lv, gb_Gr S D V J lv (GG lv))
    (H : ∀ lv, 1 ≤ lv → lv ≤ cp → (∀ l, 1 ≤ l → l < lv → gn_k (GG l) 5 = 0) → gn_k (GG lv) 5 ≠ 0 → ∀ gd, (∀ u, u < 5 → gd u = nI (GG lv u)) → wX_build_40 post 1 (nI S) (nI db) (nI wb) (nI D) (nI V) (nI cp) f_nodeCount f_listSize f_built f_codeCount f_splitCount f_encoder f_messageLength a_edgeTarget a_jumpTarget gd a_nodeBase a_nodeWeight a_arrows a_renumber a_listWord a_listTarget a_seenAt a_seenSum a_alive a_codeBase a_stepWord a_stepTarget a_pairNow a_pairNext a_sentData a_sentWord a_channelWord)
    (H0 : (∀ l, 1 ≤ l → l ≤ cp → gn_k (GG l) 5 = 0) → ∀ gd, wX_build_40 post 0 (nI S) (nI db) (nI wb) (nI D) (nI V) (nI cp) f_nodeCount f_listSize f_built f_codeCount f_splitCount f_encoder f_messageLength a_edgeTarget a_jumpTarget gd a_nodeBase a_nodeWeight a_arrows a_renumber a_listWord a_listTarget a_seenAt a_seenSum a_alive a_codeBase a_stepWord a_stepTarget a_pairNow a_pairNext a_sentData a_sentWord a_channelWord) :
    ∀ n lv gd, cp + 2 < n + lv → 1 ≤ lv → lv ≤ cp + 1 → (∀ l, 1 ≤ l → l < lv → gn_k (GG l) 5 = 0) → wX_build_16 post n 0 (nI lv) (nI S) (nI db) (nI wb) (nI D) (nI V) (nI cp) f_nodeCount f_listSize f_built f_codeCount f_splitCount f_encoder f_messageLength a_edgeTarget a_jumpTarget gd a_nodeBase a_nodeWeight a_arrows a_renumber a_listWord a_listTarget a_seenAt a_seenSum a_alive a_codeBase a_stepWord a_stepTarget a_pairNow a_pairNext a_sentData a_sentWord a_channelWord := by
  intro n
  induction n with
  | zero => intro lv gd z1 z2; omega
  | succ n ih =>
    intro lv gd z1 z2 z3 h0
    refine pk_lt cp lv (fun h => H0 (fun l h1 h2 => h0 l h1 (by omega)) gd) (fun h => br_t rfl ?_)
    refine gb_f hD hS hV (by omega) hJ hT (hG lv) (fun gd' e hz => nm_r (nI_1 lv) (ih (lv + 1) gd' (by omega) (by omega) (by omega) fun l h1 h2 => ?_)) (fun gd' e hz => nm_r (nI_1 lv) ?_)
    · by_cases e : l = lv
      · subst e; exact (gn_k0 hS (hG l).2.2).mpr hz
      · exact h0 l h1 (by omega)
    · obtain ⟨n, rfl⟩ : ∃ n', n = n' + 1 := ⟨n - 1, by omega⟩
      have c : gn_k (GG lv) 5 ≠ 0 := fun z => by
        obtain ⟨u, hu, hp⟩ := hz
        have := (gn_k0 hS (hG lv).2.2).mp z u hu
        omega
      exact br_c (fun _ => H lv z2 h h0 c gd' e) (fun _ => br_f (by decide) (H lv z2 h h0 c gd' e))
end GNZ
end
section
/-! the code: pure -/
def gt_n (B : Nat → Bool) (u : Nat) : Nat := gs_c B 200 u - 1
def gt_d (B : Nat → Bool) (P c : Nat) : Nat := gs_h B 200 P (c + 1)
section GTP
variable {B : Nat → Bool} {P : Nat}
theorem gt_n0 : gt_n B 0 = 0 := rfl
theorem gt_nm {u v : Nat} (h : u ≤ v) : gt_n B u ≤ gt_n B v := by
  have := gs_cm (B := B) (f := 200) h
  unfold gt_n; omega
theorem gt_nT {u : Nat} (hu : u < 200) (h : B u = true) : gt_n B (u + 1) = gt_n B u + 1 := by
  have := gs_cT (B := B) (f := 200) h (show u ≠ 200 by omega)
  have h1 := gs_c1 (B := B) (f := 200) u
  unfold gt_n; omega
theorem gt_nF {u : Nat} (h : B u = false) : gt_n B (u + 1) = gt_n B u := by
  have := gs_cF (B := B) (f := 200) (p := u) (fun z => by rw [h] at z; exact absurd z.1 (by decide))
  unfold gt_n; omega
theorem gt_nk {a b : Nat} (hab : a ≤ b) (h : ∀ q, a ≤ q → q < b → B q = false) : gt_n B b = gt_n B a := by
  unfold gt_n; rw [gs_ck b hab h]
theorem gt_nle (u : Nat) : gt_n B u ≤ u := by
  have := gs_cle (B := B) (f := 200) u
  unfold gt_n; omega
theorem gt_dP {c : Nat} (hc : c < gt_n B P) : gt_d B P c < P ∧ B (gt_d B P c) = true ∧ gt_n B (gt_d B P c) = c := by
  have h1 : c + 1 < gs_c B 200 P := by unfold gt_n at hc; omega
  rcases gs_hb (B := B) (f := 200) P (c + 1) h1 with ⟨r, _⟩ | ⟨_, r2, r3, _, r5⟩
  · omega
  · refine ⟨r2, r3, ?_⟩
    show gs_c B 200 (gs_h B 200 P (c + 1)) - 1 = c
    omega
theorem gt_nd {v : Nat} (hP : P ≤ 200) (hv : v < P) (h : B v = true) : gt_d B P (gt_n B v) = v ∧ gt_n B v < gt_n B P := by
  have h1 := gs_c1 (B := B) (f := 200) v
  have h2 := gs_hi (B := B) (f := 200) (q := v) (p := P) h (by omega) hv
  constructor
  · show gs_h B 200 P (gs_c B 200 v - 1 + 1) = v
    rw [show gs_c B 200 v - 1 + 1 = gs_c B 200 v by omega]
    exact h2
  · have a := gt_nT (u := v) (by omega) h
    have b := gt_nm (B := B) (show v + 1 ≤ P by omega)
    omega
theorem gt_sum {x : Nat → Nat} {m : Nat} : ∀ P, P ≤ 200 → (∀ q, q < P → B q = true → x q ≤ m) → gu_s (fun q => if B q = true then x q else 0) P ≤ gt_n B P * m := by
  intro P
  induction P with
  | zero => intro _ _; exact Nat.zero_le _
  | succ P ih =>
    intro hP h
    have := ih (by omega) fun q hq => h q (by omega)
    rw [gu_s1]
    cases hb : B P
    · rw [gt_nF hb, if_neg (by decide)]; omega
    · rw [gt_nT (by omega) hb, if_pos rfl, Nat.succ_mul]
      have := h P (by omega) hb
      omega
end GTP
def gc_J (D : Nat) (W T : Nat → Nat → Nat) : Nat → Nat → Nat → Prop
  | 0, _, _ => True
  | k + 1, s, t => ∃ d e, d < D ∧ e < D ∧ W s d = W t e ∧ gc_J D W T k (T s d) (T t e)
def gc_R (D : Nat) (W T : Nat → Nat → Nat) : List Nat → Nat → Nat → Prop
  | [], s, z => s = z
  | w :: r, s, z => ∃ d, d < D ∧ W s d = w ∧ gc_R D W T r (T s d) z
def gc_OK (D V C M : Nat) (W T : Nat → Nat → Nat) : Prop :=
  (1 ≤ C ∧ C ≤ 15 ∧ M ≤ 10) ∧ (∀ c d, c < C → d < D → W c d < V ∧ T c d < C) ∧
  (∀ c d e, c < C → d < D → e < D → d ≠ e → W c d = W c e → ¬ gc_J D W T M (T c d) (T c e)) ∧
  (∀ c d e u z, c < C → d < D → e < D → d ≠ e → W c d = W c e → gc_R D W T u (T c d) z → ¬ gc_R D W T u (T c e) z)
/-- heavy nodes, their numbers, the code -/
def gt_H (wt : Nat → Nat) (m u : Nat) : Bool := decide (wt u = m)
def gt_C (N : Nat) (wt : Nat → Nat) : Nat := gt_n (gt_H wt (gs_m wt N)) N
def gt_num (N : Nat) (wt : Nat → Nat) (u : Nat) : Nat := gt_n (gt_H wt (gs_m wt N)) u
def gt_node (N : Nat) (wt : Nat → Nat) (c : Nat) : Nat := gt_d (gt_H wt (gs_m wt N)) N c
def gt_q (A : Nat → Nat → Bool) (u d : Nat) : Nat := gt_d (A u) 120 d
def gt_W (N : Nat) (wt : Nat → Nat) (A : Nat → Nat → Bool) (c d : Nat) : Nat := gt_q A (gt_node N wt c) d / 15
def gt_T (N : Nat) (wt : Nat → Nat) (A : Nat → Nat → Bool) (c d : Nat) : Nat := gt_num N wt (gt_q A (gt_node N wt c) d % 15)
section GTC
variable {S D V N0 k N : Nat} {bs wt : Nat → Nat} {A : Nat → Nat → Bool}
theorem gt_cnt (hI : gs_Inv S D V N0 k N bs wt A) {u : Nat} (hu : u < N) (hw : wt u = gs_m wt N) : D ≤ gt_n (A u) 120 := by
  have a := hI.2.2.1 u hu
  unfold gs_W at a
  have b := gt_sum (B := A u) (x := fun q => wt (q % 15)) (m := gs_m wt N) 120 (by omega) (fun q _ hb => gs_mle (hI.1 _ _ hb).2.2.1)
  rw [hw] at a
  have m1 := (hI.2.1 u hu).1
  exact Nat.le_of_mul_le_mul_right (Nat.le_trans a b) (by omega)
theorem gt_step (hI : gs_Inv S D V N0 k N bs wt A) (hSt : gs_Stop N wt A) (hN : N ≤ 15) {u d : Nat} (hu : u < N) (hw : wt u = gs_m wt N) (hd : d < D) :
    gt_q A u d < 120 ∧ A u (gt_q A u d) = true ∧ gt_n (A u) (gt_q A u d) = d ∧ gt_q A u d % 15 < N ∧ wt (gt_q A u d % 15) = gs_m wt N ∧ gt_q A u d / 15 < V ∧
      gt_num N wt (gt_q A u d % 15) < gt_C N wt ∧ gt_node N wt (gt_num N wt (gt_q A u d % 15)) = gt_q A u d % 15 := by
  obtain ⟨h1, h2, h3⟩ := gt_dP (B := A u) (P := 120) (c := d) (Nat.lt_of_lt_of_le hd (gt_cnt hI hu hw))
  obtain ⟨a1, a2, a3, a4⟩ := hI.1 _ _ h2
  have hm : wt (gt_d (A u) 120 d % 15) = gs_m wt N := Nat.le_antisymm (gs_mle a3) (Nat.not_lt.mp (hSt _ _ h2 hw))
  obtain ⟨n1, n2⟩ := gt_nd (B := gt_H wt (gs_m wt N)) (P := N) (v := gt_d (A u) 120 d % 15) (by omega) a3 (decide_eq_true hm)
  exact ⟨h1, h2, h3, a3, hm, a4, n2, n1⟩
theorem gt_nodeP {c : Nat} (hc : c < gt_C N wt) : gt_node N wt c < N ∧ wt (gt_node N wt c) = gs_m wt N ∧ gt_num N wt (gt_node N wt c) = c := by
  obtain ⟨h1, h2, h3⟩ := gt_dP (B := gt_H wt (gs_m wt N)) (P := N) hc
  exact ⟨h1, of_decide_eq_true h2, h3⟩
theorem gt_numP (hN : N ≤ 15) {u : Nat} (hu : u < N) (hw : wt u = gs_m wt N) : gt_node N wt (gt_num N wt u) = u ∧ gt_num N wt u < gt_C N wt :=
  gt_nd (B := gt_H wt (gs_m wt N)) (P := N) (by omega) hu (decide_eq_true hw)
theorem gt_J (hI : gs_Inv S D V N0 k N bs wt A) (hSt : gs_Stop N wt A) (hN : N ≤ 15) : ∀ j s t, s < gt_C N wt → t < gt_C N wt → gc_J D (gt_W N wt A) (gt_T N wt A) j s t → gs_J A j (gt_node N wt s) (gt_node N wt t) := by
  intro j
  induction j with
  | zero => intro s t _ _ _; trivial
  | succ j ih =>
    intro s t hs ht ⟨d, e, hd, he, hw, hj⟩
    obtain ⟨s1, s2, _⟩ := gt_nodeP hs
    obtain ⟨t1, t2, _⟩ := gt_nodeP ht
    obtain ⟨a1, a2, a3, a4, a5, a6, a7, a8⟩ := gt_step hI hSt hN s1 s2 hd
    obtain ⟨b1, b2, b3, b4, b5, b6, b7, b8⟩ := gt_step hI hSt hN t1 t2 he
    have hj' := ih _ _ a7 b7 hj
    have e1 : gt_node N wt (gt_T N wt A s d) = gt_q A (gt_node N wt s) d % 15 := a8
    have e2 : gt_node N wt (gt_T N wt A t e) = gt_q A (gt_node N wt t) e % 15 := b8
    have hw' : gt_q A (gt_node N wt s) d / 15 = gt_q A (gt_node N wt t) e / 15 := hw
    refine ⟨gt_q A (gt_node N wt s) d / 15, gt_q A (gt_node N wt s) d % 15, gt_q A (gt_node N wt t) e % 15, by omega, by omega, ?_, ?_, ?_⟩
    · rw [show 15 * (gt_q A (gt_node N wt s) d / 15) + gt_q A (gt_node N wt s) d % 15 = gt_q A (gt_node N wt s) d by omega]; exact a2
    · rw [show 15 * (gt_q A (gt_node N wt s) d / 15) + gt_q A (gt_node N wt t) e % 15 = gt_q A (gt_node N wt t) e by omega]; exact b2
    · rw [← e1, ← e2]; exact hj'
theorem gt_R (hI : gs_Inv S D V N0 k N bs wt A) (hSt : gs_Stop N wt A) (hN : N ≤ 15) : ∀ r s z, s < gt_C N wt → gc_R D (gt_W N wt A) (gt_T N wt A) r s z → gs_R A r (gt_node N wt s) (gt_node N wt z) := by
  intro r
  induction r with
  | nil => intro s z _ h; exact congrArg _ h
  | cons w r ih =>
    intro s z hs ⟨d, hd, hw, hr⟩
    obtain ⟨s1, s2, _⟩ := gt_nodeP hs
    obtain ⟨a1, a2, a3, a4, a5, a6, a7, a8⟩ := gt_step hI hSt hN s1 s2 hd
    have hr' := ih _ _ a7 hr
    have e1 : gt_node N wt (gt_T N wt A s d) = gt_q A (gt_node N wt s) d % 15 := a8
    have hw' : gt_q A (gt_node N wt s) d / 15 = w := hw
    refine ⟨gt_q A (gt_node N wt s) d % 15, by omega, ?_, ?_⟩
    · rw [show 15 * w + gt_q A (gt_node N wt s) d % 15 = gt_q A (gt_node N wt s) d by omega]; exact a2
    · rw [← e1]; exact hr'
theorem gt_OK (hI : gs_Inv S D V N0 k N bs wt A) (hSt : gs_Stop N wt A) (hN : N ≤ 15) : gc_OK D V (gt_C N wt) k (gt_W N wt A) (gt_T N wt A) := by
  have ne : ∀ c d e, c < gt_C N wt → d < D → e < D → d ≠ e → gt_W N wt A c d = gt_W N wt A c e →
      ∃ w t t', t < 15 ∧ t' < 15 ∧ A (gt_node N wt c) (15 * w + t) = true ∧ A (gt_node N wt c) (15 * w + t') = true ∧ t ≠ t' ∧ gt_T N wt A c d < gt_C N wt ∧ gt_T N wt A c e < gt_C N wt ∧ gt_node N wt (gt_T N wt A c d) = t ∧ gt_node N wt (gt_T N wt A c e) = t' := by
    intro c d e hc hd he hne hw
    obtain ⟨s1, s2, _⟩ := gt_nodeP hc
    obtain ⟨a1, a2, a3, a4, a5, a6, a7, a8⟩ := gt_step hI hSt hN s1 s2 hd
    obtain ⟨b1, b2, b3, b4, b5, b6, b7, b8⟩ := gt_step hI hSt hN s1 s2 he
    have hw' : gt_q A (gt_node N wt c) d / 15 = gt_q A (gt_node N wt c) e / 15 := hw
    refine ⟨gt_q A (gt_node N wt c) d / 15, gt_q A (gt_node N wt c) d % 15, gt_q A (gt_node N wt c) e % 15, by omega, by omega, ?_, ?_, ?_, a7, b7, a8, b8⟩
    · rw [show 15 * (gt_q A (gt_node N wt c) d / 15) + gt_q A (gt_node N wt c) d % 15 = gt_q A (gt_node N wt c) d by omega]; exact a2
    · rw [show 15 * (gt_q A (gt_node N wt c) d / 15) + gt_q A (gt_node N wt c) e % 15 = gt_q A (gt_node N wt c) e by omega]; exact b2
    · intro z
      have : gt_q A (gt_node N wt c) d = gt_q A (gt_node N wt c) e := by omega
      rw [this, b3] at a3
      exact hne a3.symm
  refine ⟨⟨?_, ?_, gs_k10 hI⟩, fun c d hc hd => ?_, fun c d e hc hd he hne hw hj => ?_, fun c d e u z hc hd he hne hw hr hr' => ?_⟩
  · rcases gs_mex (wt := wt) (N := N) with z | ⟨u, hu, e⟩
    · have h1 := hI.2.2.2.1
      have h2 := (hI.2.1 0 (by omega)).1
      have h3 := gs_mle (wt := wt) (show 0 < N by omega)
      omega
    · have := (gt_numP hN hu e).2; omega
  · have := gt_nle (B := gt_H wt (gs_m wt N)) N
    unfold gt_C; omega
  · obtain ⟨s1, s2, _⟩ := gt_nodeP hc
    obtain ⟨a1, a2, a3, a4, a5, a6, a7, a8⟩ := gt_step hI hSt hN s1 s2 hd
    exact ⟨a6, a7⟩
  · obtain ⟨w, t, t', h1, h2, h3, h4, h5, h6, h7, h8, h9⟩ := ne c d e hc hd he hne hw
    have := gt_J hI hSt hN k _ _ h6 h7 hj
    rw [h8, h9] at this
    exact h5 (hI.2.2.2.2.1 _ w t t' h1 h2 h3 h4 this)
  · obtain ⟨w, t, t', h1, h2, h3, h4, h5, h6, h7, h8, h9⟩ := ne c d e hc hd he hne hw
    have x := gt_R hI hSt hN u _ _ h6 hr
    have x' := gt_R hI hSt hN u _ _ h7 hr'
    rw [h8] at x
    rw [h9] at x'
    exact h5 (hI.2.2.2.2.2 _ w t t' u _ h1 h2 h3 h4 x x')
end GTC
end
section
/-! the code: the component's makeCode -/
/-- the steps of the code states of the nodes below s -/
def gt_St (D N : Nat) (wt : Nat → Nat) (A : Nat → Nat → Bool) (s : Nat) (sw st : Nat → Int32) : Prop :=
  ∀ v d, v < s → v < N → wt v = gs_m wt N → d < D → sw (4 * gt_num N wt v + d) = nI (gt_q A v d / 15) ∧ st (4 * gt_num N wt v + d) = nI (gt_num N wt (gt_q A v d % 15))
/-- .. and those of s, d0 of them -/
def gt_Sd (N : Nat) (wt : Nat → Nat) (A : Nat → Nat → Bool) (s d0 : Nat) (sw st : Nat → Int32) : Prop :=
  ∀ d, d < d0 → sw (4 * gt_num N wt s + d) = nI (gt_q A s d / 15) ∧ st (4 * gt_num N wt s + d) = nI (gt_num N wt (gt_q A s d % 15))
theorem gt_nlt {N : Nat} {wt : Nat → Nat} (hN : N ≤ 15) {u v : Nat} (hu : u < N) (hv : v < N) (hw : wt u = gs_m wt N) (hw' : wt v = gs_m wt N) (ne : u ≠ v) : gt_num N wt u ≠ gt_num N wt v := fun e => by
  have a := (gt_numP hN hu hw).1
  rw [e, (gt_numP hN hv hw').1] at a
  exact ne a.symm
/-- one more step -/
theorem gt_Sup {D N : Nat} {wt : Nat → Nat} {A : Nat → Nat → Bool} {s p : Nat} {sw st : Nat → Int32} (hN : N ≤ 15) (hs : s < N) (hw : wt s = gs_m wt N) (hp : p < 120) (ha : A s p = true) (hD : D ≤ 4) (hd : gt_n (A s) p < D)
    (h1 : gt_St D N wt A s sw st) (h2 : gt_Sd N wt A s (gt_n (A s) p) sw st) :
    gt_St D N wt A s (upd sw (4 * gt_num N wt s + gt_n (A s) p) (nI (p / 15))) (upd st (4 * gt_num N wt s + gt_n (A s) p) (nI (gt_num N wt (p % 15)))) ∧
    gt_Sd N wt A s (gt_n (A s) (p + 1)) (upd sw (4 * gt_num N wt s + gt_n (A s) p) (nI (p / 15))) (upd st (4 * gt_num N wt s + gt_n (A s) p) (nI (gt_num N wt (p % 15)))) := by
  constructor
  · intro v d hv hvN hvw hd'
    have ne := gt_nlt hN hvN hs hvw hw (by omega)
    have ne2 : 4 * gt_num N wt v + d ≠ 4 * gt_num N wt s + gt_n (A s) p := by omega
    rw [pk_un ne2, pk_un ne2]
    exact h1 v d hv hvN hvw hd'
  · intro d hd'
    rw [gt_nT (by omega) ha] at hd'
    by_cases c : d = gt_n (A s) p
    · subst c
      rw [pk_us, pk_us]
      have e : gt_q A s (gt_n (A s) p) = p := (gt_nd (B := A s) (P := 120) (by omega) hp ha).1
      rw [e]
      exact ⟨rfl, rfl⟩
    · have ne2 : 4 * gt_num N wt s + d ≠ 4 * gt_num N wt s + gt_n (A s) p := by omega
      rw [pk_un ne2, pk_un ne2]
      exact h2 d (by omega)
section GTX
variable {S db wb D V cp N N0 k : Nat} {bs wt : Nat → Nat} {A : Nat → Nat → Bool} {f_listSize f_built f_codeCount f_splitCount f_encoder f_messageLength : Int32} {a_edgeTarget a_jumpTarget a_good a_nodeBase a_nodeWeight a_arrows a_renumber a_listWord a_listTarget a_seenAt a_seenSum a_alive a_codeBase a_stepWord a_stepTarget a_pairNow a_pairNext a_sentData a_sentWord a_channelWord : Nat → Int32}
/-- renumber, in the code -/
def gt_rn (N : Nat) (wt : Nat → Nat) (v : Nat) : Int32 := gu_e (if wt v = gs_m wt N then gt_num N wt v + 1 else 0)
theorem gt_31 {post : SX → Prop} (J5 : Int32 → Int32 → (Nat → Int32) → (Nat → Int32) → (Nat → Int32) → (Nat → Int32) → (Nat → Int32) → (Nat → Int32) → (Nat → Int32) → (Nat → Int32) → (Nat → Int32) → (Nat → Int32) → (Nat → Int32) → (Nat → Int32) → (Nat → Int32) → (Nat → Int32) → (Nat → Int32) → (Nat → Int32) → (Nat → Int32) → (Nat → Int32) → (Nat → Int32) → (Nat → Int32) → Prop) {s w : Nat} {tg : Int32} (hI : gs_Inv S D V N0 k N bs wt A) (hSt : gs_Stop N wt A) (hN : N ≤ 15) (hV : V ≤ 8) (hD : D ≤ 4) (hs : s < N) (hw : wt s = gs_m wt N) (hwV : w < V)
    (htg : ∀ i, i < 32 → bt tg i = (decide (i < 15) && A s (15 * w + i))) (hr : ∀ v, v < N → a_renumber v = gt_rn N wt v)
    (hJ : ∀ sw st, gt_St D N wt A s sw st → gt_Sd N wt A s (min D (gt_n (A s) (15 * (w + 1)))) sw st → J5 (nI (min D (gt_n (A s) (15 * (w + 1))))) (nI (w + 1)) a_edgeTarget a_jumpTarget a_good a_nodeBase a_nodeWeight a_arrows a_renumber a_listWord a_listTarget a_seenAt a_seenSum a_alive a_codeBase sw st a_pairNow a_pairNext a_sentData a_sentWord a_channelWord) :
    ∀ n t sw st, N < n + t → t ≤ N → gt_St D N wt A s sw st → gt_Sd N wt A s (min D (gt_n (A s) (15 * w + t))) sw st →
      wX_assignData_31 post J5 (nI s) (nI (gt_num N wt s)) (nI w) tg (nI S) (nI db) (nI wb) (nI D) (nI V) (nI cp) (nI N) f_listSize f_built f_codeCount f_splitCount f_encoder f_messageLength n (nI (min D (gt_n (A s) (15 * w + t)))) (nI t) a_edgeTarget a_jumpTarget a_good a_nodeBase a_nodeWeight a_arrows a_renumber a_listWord a_listTarget a_seenAt a_seenSum a_alive a_codeBase sw st a_pairNow a_pairNext a_sentData a_sentWord a_channelWord := by
  have hC := (gt_numP hN hs hw).2
  have hC2 : gt_C N wt ≤ N := gt_nle (B := gt_H wt (gs_m wt N)) N
  intro n
  induction n with
  | zero => intro t sw st z1 z2; omega
  | succ n ih =>
    intro t sw st z1 z2 h1 h2
    refine pk_le N t (fun h => nm_r (nI_1 w) ?_) (fun h => ?_)
    · have e : gt_n (A s) (15 * (w + 1)) = gt_n (A s) (15 * w + t) := gt_nk (by omega) fun q q1 q2 => gu_nt fun z => by have := (hI.1 _ _ z).2.2.1; omega
      have := hJ sw st h1 (by rw [e]; exact h2)
      rw [e] at this
      exact this
    · have skip : min D (gt_n (A s) (15 * w + (t + 1))) = min D (gt_n (A s) (15 * w + t)) → wX_assignData_31 post J5 (nI s) (nI (gt_num N wt s)) (nI w) tg (nI S) (nI db) (nI wb) (nI D) (nI V) (nI cp) (nI N) f_listSize f_built f_codeCount f_splitCount f_encoder f_messageLength n (nI (min D (gt_n (A s) (15 * w + t)))) (nI (t + 1)) a_edgeTarget a_jumpTarget a_good a_nodeBase a_nodeWeight a_arrows a_renumber a_listWord a_listTarget a_seenAt a_seenSum a_alive a_codeBase sw st a_pairNow a_pairNext a_sentData a_sentWord a_channelWord := fun e => by
        rw [← e] at h2 ⊢
        exact ih (t + 1) sw st (by omega) (by omega) h1 h2
      have hm := gt_nm (B := A s) (show 15 * w + t ≤ 15 * w + (t + 1) by omega)
      have hb : bt tg t = A s (15 * w + t) := by rw [htg t (by omega), decide_eq_true (by omega), Bool.true_and]
      refine pk_le D (min D (gt_n (A s) (15 * w + t))) (fun c => nm_r (nI_1 t) (skip (by omega))) (fun c => ?_)
      cases ha : A s (15 * w + t)
      · rw [ha] at hb
        exact br_t (by rw [gu_t (by omega)]; exact hb) (nm_r (nI_1 t) (skip (by rw [show gt_n (A s) (15 * w + (t + 1)) = gt_n (A s) (15 * w + t) from gt_nF ha])))
      · rw [ha] at hb
        obtain ⟨a1, a2, a3, a4⟩ := hI.1 _ _ ha
        rw [show (15 * w + t) % 15 = t by omega] at a3
        have hwt : wt t = gs_m wt N := by
          have := hSt _ _ ha hw
          rw [show (15 * w + t) % 15 = t by omega] at this
          exact Nat.le_antisymm (gs_mle h) (Nat.not_lt.mp this)
        have er : a_renumber (nI t).toNatClampNeg = nI (gt_num N wt t) := by
          rw [nI_clamp (by omega), hr t h]; unfold gt_rn; rw [if_pos hwt, gu_es]
        have hct := (gt_numP hN h hwt).2
        have e1 : min D (gt_n (A s) (15 * w + t)) = gt_n (A s) (15 * w + t) := by omega
        have e2 : min D (gt_n (A s) (15 * w + (t + 1))) = gt_n (A s) (15 * w + t) + 1 := by
          rw [show gt_n (A s) (15 * w + (t + 1)) = gt_n (A s) (15 * w + t) + 1 from gt_nT (u := 15 * w + t) (by omega) ha]; omega
        rw [e1] at h2 c ⊢
        have up := gt_Sup hN hs hw a2 ha hD c h1 h2
        rw [show (15 * w + t) / 15 = w by omega, show (15 * w + t) % 15 = t by omega] at up
        refine br_f (by rw [gu_t (by omega), hb]; decide) ⟨vp_in_nI (by omega) (by omega), br_f (by rw [er]; exact nI_pos (by omega)) ⟨gu_in4 (by omega) (by omega), nm_r (e' := upd sw (4 * gt_num N wt s + gt_n (A s) (15 * w + t)) (nI w)) (by rw [gu_c4 (by omega)]) ⟨vp_in_nI (by omega) (by omega), gu_in4 (by omega) (by omega), nm_r (e' := upd st (4 * gt_num N wt s + gt_n (A s) (15 * w + t)) (nI (gt_num N wt t))) (by rw [gu_c4 (by omega), er]) (nm_r (e' := nI (min D (gt_n (A s) (15 * w + (t + 1))))) (by rw [nI_1, e2]) (nm_r (nI_1 t) (ih (t + 1) _ _ (by omega) (by omega) up.1 ?_)))⟩⟩⟩
        rw [e2, ← show gt_n (A s) (15 * w + t + 1) = gt_n (A s) (15 * w + t) + 1 from gt_nT (by omega) ha]
        exact up.2
theorem gt_5 {post : SX → Prop} {s : Nat} (hI : gs_Inv S D V N0 k N bs wt A) (hSt : gs_Stop N wt A) (hN : N ≤ 15) (hV : V ≤ 8) (hD : D ≤ 4) (hs : s < N) (hw : wt s = gs_m wt N)
    (hA : gx_A A a_arrows) (hr : ∀ v, v < N → a_renumber v = gt_rn N wt v)
    (hp : ∀ sw st, gt_St D N wt A s sw st → gt_Sd N wt A s D sw st → post ((nI S), (nI db), (nI wb), (nI D), (nI V), (nI cp), (nI N), f_listSize, f_built, f_codeCount, f_splitCount, f_encoder, f_messageLength, a_edgeTarget, a_jumpTarget, a_good, a_nodeBase, a_nodeWeight, a_arrows, a_renumber, a_listWord, a_listTarget, a_seenAt, a_seenSum, a_alive, a_codeBase, sw, st, a_pairNow, a_pairNext, a_sentData, a_sentWord, a_channelWord)) :
    ∀ n w sw st, V < n + w → w ≤ V → gt_St D N wt A s sw st → gt_Sd N wt A s (min D (gt_n (A s) (15 * w))) sw st →
      wX_assignData_5 post (nI s) (nI (gt_num N wt s)) (nI S) (nI db) (nI wb) (nI D) (nI V) (nI cp) (nI N) f_listSize f_built f_codeCount f_splitCount f_encoder f_messageLength n (nI (min D (gt_n (A s) (15 * w)))) (nI w) a_edgeTarget a_jumpTarget a_good a_nodeBase a_nodeWeight a_arrows a_renumber a_listWord a_listTarget a_seenAt a_seenSum a_alive a_codeBase sw st a_pairNow a_pairNext a_sentData a_sentWord a_channelWord := by
  intro n
  induction n with
  | zero => intro w sw st z1 z2; omega
  | succ n ih =>
    intro w sw st z1 z2 h1 h2
    refine pk_le V w (fun h => hp sw st h1 ?_) (fun h => ⟨gu_in8 (by omega) (by omega), nm_e ⟨N + 1, ?_⟩⟩)
    · have e : gt_n (A s) 120 = gt_n (A s) (15 * w) := gt_nk (by omega) fun q q1 q2 => gu_nt fun z => by have := (hI.1 _ _ z).2.2.2; omega
      have := gt_cnt hI hs hw
      rw [show min D (gt_n (A s) (15 * w)) = D by omega] at h2
      exact h2
    · rw [gu_c8 (by omega)]
      exact gt_31 (wX_assignData_5 post (nI s) (nI (gt_num N wt s)) (nI S) (nI db) (nI wb) (nI D) (nI V) (nI cp) (nI N) f_listSize f_built f_codeCount f_splitCount f_encoder f_messageLength n) hI hSt hN hV hD hs hw h (fun i hi => hA s w i (by omega) (by omega) hi) hr (fun sw' st' q1 q2 => ih (w + 1) sw' st' (by omega) (by omega) q1 q2) (N + 1) 0 sw st (by omega) (by omega) h1 h2
theorem gt_ad {post : SX → Prop} {s : Nat} (hI : gs_Inv S D V N0 k N bs wt A) (hSt : gs_Stop N wt A) (hN : N ≤ 15) (hV : V ≤ 8) (hD : D ≤ 4) (hs : s < N) (hw : wt s = gs_m wt N)
    (hA : gx_A A a_arrows) (hr : ∀ v, v < N → a_renumber v = gt_rn N wt v) (h1 : gt_St D N wt A s a_stepWord a_stepTarget)
    (hp : ∀ sw st, gt_St D N wt A (s + 1) sw st → post ((nI S), (nI db), (nI wb), (nI D), (nI V), (nI cp), (nI N), f_listSize, f_built, f_codeCount, f_splitCount, f_encoder, f_messageLength, a_edgeTarget, a_jumpTarget, a_good, a_nodeBase, a_nodeWeight, a_arrows, a_renumber, a_listWord, a_listTarget, a_seenAt, a_seenSum, a_alive, a_codeBase, sw, st, a_pairNow, a_pairNext, a_sentData, a_sentWord, a_channelWord)) : wpX_assignData post ((nI S), (nI db), (nI wb), (nI D), (nI V), (nI cp), (nI N), f_listSize, f_built, f_codeCount, f_splitCount, f_encoder, f_messageLength, a_edgeTarget, a_jumpTarget, a_good, a_nodeBase, a_nodeWeight, a_arrows, a_renumber, a_listWord, a_listTarget, a_seenAt, a_seenSum, a_alive, a_codeBase, a_stepWord, a_stepTarget, a_pairNow, a_pairNext, a_sentData, a_sentWord, a_channelWord) (nI s) (nI (gt_num N wt s)) := by
  have e0 : min D (gt_n (A s) (15 * 0)) = 0 := by rw [show 15 * 0 = 0 from rfl, gt_n0]; omega
  refine ⟨V + 1, ?_⟩
  have := gt_5 (post := post) (S := S) (db := db) (wb := wb) (cp := cp) (f_listSize := f_listSize) (f_built := f_built) (f_codeCount := f_codeCount) (f_splitCount := f_splitCount) (f_encoder := f_encoder) (f_messageLength := f_messageLength) hI hSt hN hV hD hs hw hA hr (fun sw st q1 q2 => hp sw st fun v d hv hvN hvw hd => by
    by_cases e : v = s
    · subst e; exact q2 d hd
    · exact q1 v d (by omega) hvN hvw hd) (V + 1) 0 a_stepWord a_stepTarget (by omega) (by omega) h1 (by rw [e0]; intro d hd; omega)
  rw [e0] at this
  exact this
theorem gt_80 {post : SX → Prop} (hI : gs_Inv S D V N0 k N bs wt A) (hSt : gs_Stop N wt A) (hN : N ≤ 15) (hV : V ≤ 8) (hD : D ≤ 4)
    (hA : gx_A A a_arrows) (hr : ∀ v, v < N → a_renumber v = gt_rn N wt v)
    (hp : ∀ sw st, gt_St D N wt A N sw st → post ((nI S), (nI db), (nI wb), (nI D), (nI V), (nI cp), (nI N), f_listSize, f_built, f_codeCount, f_splitCount, f_encoder, f_messageLength, a_edgeTarget, a_jumpTarget, a_good, a_nodeBase, a_nodeWeight, a_arrows, a_renumber, a_listWord, a_listTarget, a_seenAt, a_seenSum, a_alive, a_codeBase, sw, st, a_pairNow, a_pairNext, a_sentData, a_sentWord, a_channelWord)) :
    ∀ n s sw st, N < n + s → s ≤ N → gt_St D N wt A s sw st → wX_makeCode_80 post n (nI s) (nI S) (nI db) (nI wb) (nI D) (nI V) (nI cp) (nI N) f_listSize f_built f_codeCount f_splitCount f_encoder f_messageLength a_edgeTarget a_jumpTarget a_good a_nodeBase a_nodeWeight a_arrows a_renumber a_listWord a_listTarget a_seenAt a_seenSum a_alive a_codeBase sw st a_pairNow a_pairNext a_sentData a_sentWord a_channelWord := by
  intro n
  induction n with
  | zero => intro s sw st z1 z2; omega
  | succ n ih =>
    intro s sw st z1 z2 h1
    refine pk_le N s (fun h => ?_) (fun h => ⟨vp_in_nI (by omega) (by omega), ?_⟩)
    · have e : s = N := by omega
      subst e; exact hp sw st h1
    · rw [nI_clamp (by omega), hr s h]
      unfold gt_rn
      by_cases c : wt s = gs_m wt N
      · rw [if_pos c, gu_es]
        have hC := (gt_numP hN h c).2
        have hC2 : gt_C N wt ≤ N := gt_nle (B := gt_H wt (gs_m wt N)) N
        exact br_f (nI_pos (by omega)) ⟨vp_in_nI (by omega) (by omega), gt_ad hI hSt hN hV hD h c hA hr h1 fun sw' st' h' => nm_r (nI_1 s) (ih (s + 1) sw' st' (by omega) (by omega) h')⟩
      · rw [if_neg c]
        exact br_t (by decide) (nm_r (nI_1 s) (ih (s + 1) sw st (by omega) (by omega) fun v d hv hvN hvw hd => h1 v d (by
          by_cases e : v = s
          · subst e; exact absurd hvw c
          · omega) hvN hvw hd))
theorem gt_12 {post : SX → Prop} (hN : N ≤ 15) (hb : ∀ u, u < N → wt u ≤ 3) (hnb : ∀ u, u < N → a_nodeBase u = nI (bs u)) (hnw : ∀ u, u < N → a_nodeWeight u = nI (wt u))
    (hk : ∀ rn cb, (∀ v, v < N → rn v = gt_rn N wt v) → (∀ v, v < N → wt v = gs_m wt N → cb (gt_num N wt v) = nI (bs v)) → ∃ n80, wX_makeCode_80 post n80 0 (nI S) (nI db) (nI wb) (nI D) (nI V) (nI cp) (nI N) f_listSize f_built (nI (gt_C N wt)) f_splitCount f_encoder f_messageLength a_edgeTarget a_jumpTarget a_good a_nodeBase a_nodeWeight a_arrows rn a_listWord a_listTarget a_seenAt a_seenSum a_alive cb a_stepWord a_stepTarget a_pairNow a_pairNext a_sentData a_sentWord a_channelWord) :
    ∀ n s rn cb, N < n + s → s ≤ N → (∀ v, v < s → rn v = gt_rn N wt v) → (∀ v, v < s → wt v = gs_m wt N → cb (gt_num N wt v) = nI (bs v)) →
      wX_makeCode_12 post (nI (gs_m wt N)) (nI S) (nI db) (nI wb) (nI D) (nI V) (nI cp) (nI N) f_listSize f_built f_splitCount f_encoder f_messageLength n (nI s) (nI (gt_num N wt s)) a_edgeTarget a_jumpTarget a_good a_nodeBase a_nodeWeight a_arrows rn a_listWord a_listTarget a_seenAt a_seenSum a_alive cb a_stepWord a_stepTarget a_pairNow a_pairNext a_sentData a_sentWord a_channelWord := by
  have hm3 : gs_m wt N ≤ 3 := gs_mb hb
  intro n
  induction n with
  | zero => intro s rn cb z1 z2; omega
  | succ n ih =>
    intro s rn cb z1 z2 h1 h2
    have hns : gt_num N wt s ≤ s := gt_nle (B := gt_H wt (gs_m wt N)) s
    refine pk_le N s (fun h => ?_) (fun h => ⟨vp_in_nI (by omega) (by omega), nm_r (e' := upd rn s (-1)) (by rw [nI_clamp (by omega)]) ⟨vp_in_nI (by omega) (by omega), ?_⟩⟩)
    · have e : s = N := by omega
      subst e; exact hk rn cb h1 h2
    · have b3 := hb s h
      have ew : a_nodeWeight (nI s).toNatClampNeg = nI (wt s) := by rw [nI_clamp (by omega)]; exact hnw s h
      have eb : a_nodeBase (nI s).toNatClampNeg = nI (bs s) := by rw [nI_clamp (by omega)]; exact hnb s h
      refine pk_eq (wt s) (gs_m wt N) (fun c => ?_) (fun c => ?_) ew
      · have e1 : gt_num N wt (s + 1) = gt_num N wt s + 1 := gt_nT (B := gt_H wt (gs_m wt N)) (by omega) (decide_eq_true c)
        refine ⟨vp_in_nI (by omega) (by omega), nm_r (e' := upd (upd rn s (-1)) s (nI (gt_num N wt s))) (by rw [nI_clamp (by omega)]) ⟨vp_in_nI (by omega) (by omega), vp_in_nI (by omega) (by omega), nm_r (e' := upd cb (gt_num N wt s) (nI (bs s))) (by rw [nI_clamp (by omega), eb]) (nm_r (e' := nI (gt_num N wt (s + 1))) (by rw [nI_1, e1]) (nm_r (nI_1 s) (ih (s + 1) _ _ (by omega) (by omega) (fun v hv => ?_) (fun v hv hvw => ?_))))⟩⟩
        · by_cases e : v = s
          · subst e; rw [pk_us]; unfold gt_rn; rw [if_pos c, gu_es]
          · rw [pk_un e, pk_un e]; exact h1 v (by omega)
        · by_cases e : v = s
          · subst e; exact pk_us
          · rw [pk_un (gt_nlt hN (by omega) h hvw c e)]; exact h2 v (by omega) hvw
      · have e1 : gt_num N wt (s + 1) = gt_num N wt s := gt_nF (B := gt_H wt (gs_m wt N)) (decide_eq_false c)
        refine nm_r (nI_1 s) ?_
        rw [← e1]
        refine ih (s + 1) _ _ (by omega) (by omega) (fun v hv => ?_) (fun v hv hvw => h2 v (by
          by_cases e : v = s
          · subst e; exact absurd hvw c
          · omega) hvw)
        by_cases e : v = s
        · subst e; rw [pk_us]; unfold gt_rn; rw [if_neg c, gu_e0]
        · rw [pk_un e]; exact h1 v (by omega)
/-- makeCode -/
theorem gt_mc {post : SX → Prop} (hI : gs_Inv S D V N0 k N bs wt A) (hSt : gs_Stop N wt A) (hN : N ≤ 15) (hV : V ≤ 8) (hD : D ≤ 4) (hR : gx_R N bs wt A a_nodeBase a_nodeWeight a_arrows)
    (hp : ∀ rn cb sw st, (∀ c, c < gt_C N wt → cb c = nI (bs (gt_node N wt c))) → (∀ c d, c < gt_C N wt → d < D → sw (4 * c + d) = nI (gt_W N wt A c d) ∧ st (4 * c + d) = nI (gt_T N wt A c d)) → post ((nI S), (nI db), (nI wb), (nI D), (nI V), (nI cp), (nI N), f_listSize, f_built, (nI (gt_C N wt)), f_splitCount, f_encoder, f_messageLength, a_edgeTarget, a_jumpTarget, a_good, a_nodeBase, a_nodeWeight, a_arrows, rn, a_listWord, a_listTarget, a_seenAt, a_seenSum, a_alive, cb, sw, st, a_pairNow, a_pairNext, a_sentData, a_sentWord, a_channelWord)) :
    wpX_makeCode post ((nI S), (nI db), (nI wb), (nI D), (nI V), (nI cp), (nI N), f_listSize, f_built, f_codeCount, f_splitCount, f_encoder, f_messageLength, a_edgeTarget, a_jumpTarget, a_good, a_nodeBase, a_nodeWeight, a_arrows, a_renumber, a_listWord, a_listTarget, a_seenAt, a_seenSum, a_alive, a_codeBase, a_stepWord, a_stepTarget, a_pairNow, a_pairNext, a_sentData, a_sentWord, a_channelWord) := by
  have hb : ∀ u, u < N → wt u ≤ 3 := fun u hu => (hI.2.1 u hu).2.1
  refine gx_gw hN hR.2.1 hb ⟨N + 1, gt_12 hN hb hR.1 hR.2.1 (fun rn cb h1 h2 => ⟨N + 1, ?_⟩) (N + 1) 0 a_renumber a_codeBase (by omega) (by omega) (fun v h => by omega) (fun v h => by omega)⟩
  refine gt_80 hI hSt hN hV hD hR.2.2 h1 (fun sw st h3 => hp rn cb sw st (fun c hc => ?_) fun c d hc hd => ?_) (N + 1) 0 a_stepWord a_stepTarget (by omega) (by omega) (fun v d h => by omega)
  · obtain ⟨n1, n2, n3⟩ := gt_nodeP hc
    have := h2 _ n1 n2
    rw [n3] at this
    exact this
  · obtain ⟨n1, n2, n3⟩ := gt_nodeP hc
    have := h3 _ d n1 n1 n2 hd
    rw [n3] at this
    exact this
end GTX
end
section
/-! the code: the reference's takeCode -/
section GTY
variable {S wb D V cp N N0 k : Nat} {bs wt : Nat → Nat} {A : Nat → Nat → Bool} {f_built f_codes f_made f_encoder f_places : Int32} {a_edges a_x a_base a_weight a_number a_arrow a_mark a_list a_sum a_outW a_outS a_sent a_own a_chan a_at a_pick : Nat → Int32}
theorem gv_6 {post : SY → Prop} {x2 : Int32} (hN : N ≤ 15) (hw : ∀ u, u < N → a_weight u = nI (wt u)) (hb : ∀ u, u < N → wt u ≤ 3)
    (hp : ∃ n44, wY_takeCode_44 post (nI (gs_m wt N)) x2 (nI S) (nI D) (nI wb) (nI V) (nI cp) f_built f_made f_encoder f_places (nI N) n44 0 0 a_edges a_x a_base a_weight a_number a_arrow a_mark a_list a_sum a_outW a_outS a_sent a_own a_chan a_at a_pick) :
    ∀ n u, N < n + u → u ≤ N → wY_takeCode_6 post x2 (nI S) (nI D) (nI wb) (nI V) (nI cp) f_built f_codes f_made f_encoder f_places (nI N) a_edges a_x a_base a_weight a_number a_arrow a_mark a_list a_sum a_outW a_outS a_sent a_own a_chan a_at a_pick n (nI (gs_m wt u)) (nI u) := by
  intro n
  induction n with
  | zero => intro u z1 z2; omega
  | succ n ih =>
    intro u z1 z2
    refine pk_le N u (fun h => ?_) (fun h => ⟨vp_in_nI (by omega) (by omega), ?_⟩)
    · have e : u = N := by omega
      subst e; exact hp
    · have e1 : a_weight (nI u).toNatClampNeg = nI (wt u) := by rw [nI_clamp (by omega)]; exact hw u h
      have b1 := hb u h
      have b2 := gs_mb (wt := wt) (b := 3) (N := u) (fun v hv => hb v (by omega))
      have e2 : gs_m wt (u + 1) = if wt u ≤ gs_m wt u then gs_m wt u else wt u := rfl
      refine pk_le (wt u) (gs_m wt u) (fun z => nm_r (nI_1 u) ?_) (fun z => ⟨vp_in_nI (by omega) (by omega), nm_r e1 (nm_r (nI_1 u) ?_)⟩) e1
      · rw [if_pos z] at e2
        rw [← e2]
        exact ih (u + 1) (by omega) (by omega)
      · rw [if_neg (by omega)] at e2
        rw [← e2]
        exact ih (u + 1) (by omega) (by omega)
theorem gv_44 {post : SY → Prop} {x2 : Int32} (hN : N ≤ 15) (hw : ∀ u, u < N → a_weight u = nI (wt u)) (hb : ∀ u, u < N → wt u ≤ 3) (hbs : ∀ u, u < N → bs u < S)
    (hk : ∀ nu ba, gy_B S ba → (∀ v, v < N → nu v = nI (gt_num N wt v)) → (∀ v, v < N → wt v = gs_m wt N → ba (gt_num N wt v) = nI (bs v)) → ∃ n105, wY_takeCode_105 post (nI (gs_m wt N)) (nI S) (nI D) (nI wb) (nI V) (nI cp) f_built (nI (gt_C N wt)) f_made f_encoder f_places (nI N) n105 x2 0 a_edges a_x ba a_weight nu a_arrow a_mark a_list a_sum a_outW a_outS a_sent a_own a_chan a_at a_pick) :
    ∀ n s nu ba, N < n + s → s ≤ N → gy_B S ba → (∀ v, v < s → nu v = nI (gt_num N wt v)) → (∀ v, v < s → wt v = gs_m wt N → ba (gt_num N wt v) = nI (bs v)) → (∀ v, s ≤ v → v < N → ba v = nI (bs v)) →
      wY_takeCode_44 post (nI (gs_m wt N)) x2 (nI S) (nI D) (nI wb) (nI V) (nI cp) f_built f_made f_encoder f_places (nI N) n (nI s) (nI (gt_num N wt s)) a_edges a_x ba a_weight nu a_arrow a_mark a_list a_sum a_outW a_outS a_sent a_own a_chan a_at a_pick := by
  have hm3 : gs_m wt N ≤ 3 := gs_mb hb
  intro n
  induction n with
  | zero => intro s nu ba z1 z2; omega
  | succ n ih =>
    intro s nu ba z1 z2 hB h1 h2 h3
    have hns : gt_num N wt s ≤ s := gt_nle (B := gt_H wt (gs_m wt N)) s
    refine pk_le N s (fun h => ?_) (fun h => ?_)
    · have e : s = N := by omega
      subst e; exact hk nu ba hB h1 h2
    · have b3 := hb s h
      have ew : a_weight (nI s).toNatClampNeg = nI (wt s) := by rw [nI_clamp (by omega)]; exact hw s h
      have eb : ba (nI s).toNatClampNeg = nI (bs s) := by rw [nI_clamp (by omega)]; exact h3 s (by omega) h
      have hB' : gy_B S (upd ba (gt_num N wt s) (nI (bs s))) := gy_Bu hB (hbs s h)
      have h1' : ∀ v, v < s + 1 → upd nu s (nI (gt_num N wt s)) v = nI (gt_num N wt v) := fun v hv => by
        by_cases e : v = s
        · subst e; exact pk_us
        · rw [pk_un e]; exact h1 v (by omega)
      have h2' : ∀ v, v < s + 1 → wt v = gs_m wt N → upd ba (gt_num N wt s) (nI (bs s)) (gt_num N wt v) = nI (bs v) := fun v hv hvw => by
        by_cases e : v = s
        · subst e; exact pk_us
        · have e2 : gt_num N wt v ≠ gt_num N wt s := by
            have := gt_nT (B := gt_H wt (gs_m wt N)) (u := v) (by omega) (decide_eq_true hvw)
            have a2 := gt_nm (B := gt_H wt (gs_m wt N)) (show v + 1 ≤ s by omega)
            unfold gt_num; omega
          rw [pk_un e2]; exact h2 v (by omega) hvw
      have h3' : ∀ v, s + 1 ≤ v → v < N → upd ba (gt_num N wt s) (nI (bs s)) v = nI (bs v) := fun v hv hvN => by
        rw [pk_un (by omega)]; exact h3 v (by omega) hvN
      refine ⟨vp_in_nI (by omega) (by omega), nm_r (e' := upd nu s (nI (gt_num N wt s))) (by rw [nI_clamp (by omega)]) ⟨vp_in_nI (by omega) (by omega), vp_in_nI (by omega) (by omega), nm_r (e' := upd ba (gt_num N wt s) (nI (bs s))) (by rw [nI_clamp (by omega), eb]) ⟨vp_in_nI (by omega) (by omega), ?_⟩⟩⟩
      refine pk_eq (wt s) (gs_m wt N) (fun c => ?_) (fun c => ?_) ew
      · have e1 : gt_num N wt (s + 1) = gt_num N wt s + 1 := gt_nT (B := gt_H wt (gs_m wt N)) (by omega) (decide_eq_true c)
        exact nm_r (e' := nI (gt_num N wt (s + 1))) (by rw [nI_1, e1]) (nm_r (nI_1 s) (ih (s + 1) _ _ (by omega) (by omega) hB' h1' h2' h3'))
      · have e1 : gt_num N wt (s + 1) = gt_num N wt s := gt_nF (B := gt_H wt (gs_m wt N)) (decide_eq_false c)
        refine nm_r (nI_1 s) ?_
        have := ih (s + 1) _ _ (by omega) (by omega) hB' h1' h2' h3'
        rw [e1] at this
        exact this
def gv_d (D N : Nat) (wt : Nat → Nat) (A : Nat → Nat → Bool) (u p : Nat) : Nat := if wt u = gs_m wt N then min D (gt_n (A u) p) else 0
theorem gv_105 {post : SY → Prop} (hI : gs_Inv S D V N0 k N bs wt A) (hSt : gs_Stop N wt A) (hN : N ≤ 15) (hV : V ≤ 8) (hD : D ≤ 4) (hw : ∀ u, u < N → a_weight u = nI (wt u)) (hA : gy_A A a_arrow)
    (hn : ∀ v, v < N → a_number v = nI (gt_num N wt v))
    (hp : ∀ ow os, gt_St D N wt A N ow os → post ((nI S), (nI D), (nI wb), (nI V), (nI cp), f_built, f_codes, f_made, f_encoder, f_places, (nI N), a_edges, a_x, a_base, a_weight, a_number, a_arrow, a_mark, a_list, a_sum, ow, os, a_sent, a_own, a_chan, a_at, a_pick)) :
    ∀ n P x2 ow os, N * 120 < n + P → P ≤ N * 120 → (P % 120 ≠ 0 → x2 = nI (gv_d D N wt A (P / 120) (P % 120))) → gt_St D N wt A (P / 120) ow os → (P < N * 120 → wt (P / 120) = gs_m wt N → gt_Sd N wt A (P / 120) (min D (gt_n (A (P / 120)) (P % 120))) ow os) →
      wY_takeCode_105 post (nI (gs_m wt N)) (nI S) (nI D) (nI wb) (nI V) (nI cp) f_built f_codes f_made f_encoder f_places (nI N) n x2 (nI P) a_edges a_x a_base a_weight a_number a_arrow a_mark a_list a_sum ow os a_sent a_own a_chan a_at a_pick := by
  have hb : ∀ u, u < N → wt u ≤ 3 := fun u hu => (hI.2.1 u hu).2.1
  have hm3 : gs_m wt N ≤ 3 := gs_mb hb
  intro n
  induction n with
  | zero => intro P x2 ow os z1 z2; omega
  | succ n ih =>
    intro P x2 ow os z1 z2 hx h1 h2
    refine pk_le (N * 120) P (fun h => ?_) (fun h => ⟨by decide, ?_⟩) (gu_n12 N)
    · have e : P / 120 = N := by omega
      rw [e] at h1
      exact hp ow os h1
    · have hu : P / 120 < N := by omega
      have h2 := h2 h
      -- go on at P + 1
      have next : ∀ ow' os', gt_St D N wt A (P / 120) ow' os' → (wt (P / 120) = gs_m wt N → gt_Sd N wt A (P / 120) (min D (gt_n (A (P / 120)) (P % 120 + 1))) ow' os') →
          wY_takeCode_105 post (nI (gs_m wt N)) (nI S) (nI D) (nI wb) (nI V) (nI cp) f_built f_codes f_made f_encoder f_places (nI N) n (nI (gv_d D N wt A (P / 120) (P % 120 + 1))) (nI (P + 1)) a_edges a_x a_base a_weight a_number a_arrow a_mark a_list a_sum ow' os' a_sent a_own a_chan a_at a_pick := by
        intro ow' os' q1 q2
        by_cases c : P % 120 = 119
        · have e1 : (P + 1) / 120 = P / 120 + 1 := by omega
          have e2 : (P + 1) % 120 = 0 := by omega
          refine ih (P + 1) _ ow' os' (by omega) (by omega) (fun z => absurd e2 z) ?_ ?_
          · rw [e1]
            intro v d hv hvN hvw hd
            by_cases e : v = P / 120
            · subst e
              have := q2 hvw
              have cn := gt_cnt hI hu hvw
              rw [c, show 119 + 1 = 120 from rfl, Nat.min_eq_left cn] at this
              exact this d hd
            · exact q1 v d (by omega) hvN hvw hd
          · intro _ _ d hd
            rw [e2, gt_n0] at hd
            omega
        · have e1 : (P + 1) / 120 = P / 120 := by omega
          have e2 : (P + 1) % 120 = P % 120 + 1 := by omega
          refine ih (P + 1) _ ow' os' (by omega) (by omega) (fun _ => by rw [e1, e2]) ?_ ?_
          · rw [e1]; exact q1
          · rw [e1, e2]; intro _ hw'; exact q2 hw'
      have dval : (P % 120 = 0 → nI (gv_d D N wt A (P / 120) (P % 120)) = 0) := fun z => by
        unfold gv_d; rw [z, gt_n0]; split
        · rw [Nat.min_zero]; rfl
        · rfl
      have hd4 : gv_d D N wt A (P / 120) (P % 120) ≤ 4 := by unfold gv_d; split <;> omega
      have body : wY_takeCode_125 post (wY_takeCode_105 post (nI (gs_m wt N)) (nI S) (nI D) (nI wb) (nI V) (nI cp) f_built f_codes f_made f_encoder f_places (nI N) n) (nI (gs_m wt N)) (nI (gv_d D N wt A (P / 120) (P % 120))) (nI P) (nI S) (nI D) (nI wb) (nI V) (nI cp) f_built f_codes f_made f_encoder f_places (nI N) a_edges a_x a_base a_weight a_number a_arrow a_mark a_list a_sum ow os a_sent a_own a_chan a_at a_pick := by
        refine ⟨vp_in_nI (by omega) (by omega), ?_⟩
        rw [nI_clamp (by omega), gy_AP hA (by omega), gu_i0]
        have keep : gv_d D N wt A (P / 120) (P % 120 + 1) = gv_d D N wt A (P / 120) (P % 120) → (wt (P / 120) = gs_m wt N → min D (gt_n (A (P / 120)) (P % 120 + 1)) = min D (gt_n (A (P / 120)) (P % 120))) →
            wY_takeCode_105 post (nI (gs_m wt N)) (nI S) (nI D) (nI wb) (nI V) (nI cp) f_built f_codes f_made f_encoder f_places (nI N) n (nI (gv_d D N wt A (P / 120) (P % 120))) (nI (P + 1)) a_edges a_x a_base a_weight a_number a_arrow a_mark a_list a_sum ow os a_sent a_own a_chan a_at a_pick := fun e1 e2 => by
          rw [← e1]
          exact next ow os h1 fun hw' => by rw [e2 hw']; exact h2 hw'
        cases ha : A (P / 120) (P % 120)
        · have e := gt_nF (B := A (P / 120)) ha
          exact br_t rfl (nm_r (nI_1 P) (keep (by unfold gv_d; rw [e]) fun _ => by rw [e]))
        · obtain ⟨a1, a2, a3, a4⟩ := hI.1 _ _ ha
          rw [show P % 120 % 15 = P % 15 by omega] at a3
          have e15 : (nI P - nI P / 120 * 120) / 15 = nI (P % 120 / 15) := by rw [gu_r12 (by omega), gu_15 (by omega)]
          rw [e15, gu_12 (by omega), gu_r15 (by omega), nI_clamp (by omega), nI_clamp (by omega)]
          have b3 := hb _ hu
          refine br_f (by decide) ⟨by decide, vp_in_nI (by omega) (by omega), pk_eq (wt (P / 120)) (gs_m wt N) (fun c => ?_) (fun c => nm_r (nI_1 P) (keep (by unfold gv_d; rw [if_neg c, if_neg c]) fun z => absurd z c)) (hw _ hu)⟩
          have ed : gv_d D N wt A (P / 120) (P % 120) = min D (gt_n (A (P / 120)) (P % 120)) := if_pos c
          have ed1 : gv_d D N wt A (P / 120) (P % 120 + 1) = min D (gt_n (A (P / 120)) (P % 120 + 1)) := if_pos c
          have en := gt_nT (B := A (P / 120)) (u := P % 120) (by omega) ha
          refine pk_le D (gv_d D N wt A (P / 120) (P % 120)) (fun c2 => nm_r (nI_1 P) (keep (by omega) fun _ => by omega)) (fun c2 => ?_)
          have e1 : gv_d D N wt A (P / 120) (P % 120) = gt_n (A (P / 120)) (P % 120) := by omega
          have e2 : gv_d D N wt A (P / 120) (P % 120 + 1) = gt_n (A (P / 120)) (P % 120) + 1 := by omega
          have hwt : wt (P % 15) = gs_m wt N := by
            have := hSt _ _ ha c
            rw [show P % 120 % 15 = P % 15 by omega] at this
            exact Nat.le_antisymm (gs_mle a3) (Nat.not_lt.mp this)
          have h2c := h2 c
          rw [show min D (gt_n (A (P / 120)) (P % 120)) = gt_n (A (P / 120)) (P % 120) by omega] at h2c
          have up := gt_Sup hN hu c (by omega) ha hD (by omega) h1 h2c
          rw [show P % 120 % 15 = P % 15 by omega] at up
          have hC := (gt_numP hN hu c).2
          have hC2 : gt_C N wt ≤ N := gt_nle (B := gt_H wt (gs_m wt N)) N
          have nx := next _ _ up.1 (fun _ => by rw [← ed1, e2, ← en]; exact up.2)
          rw [e1, hn _ hu, hn _ a3, gu_c4' (by omega)]
          refine ⟨by decide, vp_in_nI (by omega) (by omega), by decide, by decide, gu_in4' (by omega) (by omega), nm_e ⟨by decide, vp_in_nI (by omega) (by omega), by decide, vp_in_nI (by omega) (by omega), gu_in4' (by omega) (by omega), nm_e (nm_r (e' := nI (gv_d D N wt A (P / 120) (P % 120 + 1))) (by rw [nI_1, e2]) (nm_r (nI_1 P) nx))⟩⟩
      rw [gu_r12 (by omega)]
      refine pk_eq (P % 120) 0 (fun c => ?_) (fun c => ?_)
      · rw [dval c] at body; exact body
      · rw [hx c]; exact body
/-- takeCode -/
theorem gv_tc {post : SY → Prop} (hI : gs_Inv S D V N0 k N bs wt A) (hSt : gs_Stop N wt A) (hN : N ≤ 15) (hV : V ≤ 8) (hD : D ≤ 4) (hw : ∀ u, u < N → a_weight u = nI (wt u)) (hbs : ∀ u, u < N → a_base u = nI (bs u)) (hA : gy_A A a_arrow) (hB : gy_B S a_base)
    (hp : ∀ nu ba ow os, gy_B S ba → (∀ c, c < gt_C N wt → ba c = nI (bs (gt_node N wt c))) → (∀ c d, c < gt_C N wt → d < D → ow (4 * c + d) = nI (gt_W N wt A c d) ∧ os (4 * c + d) = nI (gt_T N wt A c d)) → post ((nI S), (nI D), (nI wb), (nI V), (nI cp), f_built, (nI (gt_C N wt)), f_made, f_encoder, f_places, (nI N), a_edges, a_x, ba, a_weight, nu, a_arrow, a_mark, a_list, a_sum, ow, os, a_sent, a_own, a_chan, a_at, a_pick)) :
    wpY_takeCode post ((nI S), (nI D), (nI wb), (nI V), (nI cp), f_built, f_codes, f_made, f_encoder, f_places, (nI N), a_edges, a_x, a_base, a_weight, a_number, a_arrow, a_mark, a_list, a_sum, a_outW, a_outS, a_sent, a_own, a_chan, a_at, a_pick) := by
  have hb : ∀ u, u < N → wt u ≤ 3 := fun u hu => (hI.2.1 u hu).2.1
  refine ⟨N + 1, gv_6 hN hw hb ⟨N + 1, ?_⟩ (N + 1) 0 (by omega) (by omega)⟩
  refine gv_44 hN hw hb (fun u hu => (hI.2.1 u hu).2.2) (fun nu ba hB' h1 h2 => ⟨N * 120 + 1, ?_⟩) (N + 1) 0 a_number a_base (by omega) (by omega) hB (fun v h => by omega) (fun v h => by omega) (fun v _ hv => hbs v hv)
  refine gv_105 hI hSt hN hV hD hw hA h1 (fun ow os h3 => hp nu ba ow os hB' (fun c hc => ?_) fun c d hc hd => ?_) (N * 120 + 1) 0 0 a_outW a_outS (by omega) (by omega) (fun z => absurd rfl z) (fun v d h => by omega) (fun _ _ d hd => ?_)
  · obtain ⟨n1, n2, n3⟩ := gt_nodeP hc
    have := h2 _ n1 n2
    rw [n3] at this
    exact this
  · obtain ⟨n1, n2, n3⟩ := gt_nodeP hc
    have := h3 _ d n1 n1 n2 hd
    rw [n3] at this
    exact this
  · rw [show 0 % 120 = 0 from rfl, gt_n0] at hd; omega
end GTY
end
section
/-! build -/
def gz_X (S db wb D V cp k N : Nat) (bs wt : Nat → Nat) (A : Nat → Nat → Bool) (k' N' : Nat) (bs' wt' : Nat → Nat) (A' : Nat → Nat → Bool) : Prop :=
  ∀ {post : Int32 → SX → Prop} {f_listSize f_built f_codeCount f_encoder f_messageLength : Int32} {a_edgeTarget a_jumpTarget a_good a_nodeBase a_nodeWeight a_arrows a_renumber a_listWord a_listTarget a_seenAt a_seenSum a_alive a_codeBase a_stepWord a_stepTarget a_pairNow a_pairNext a_sentData a_sentWord a_channelWord : Nat → Int32}, gx_R N bs wt A a_nodeBase a_nodeWeight a_arrows →
    (∀ ls lw lt sa ss nb nw ar, gx_R N' bs' wt' A' nb nw ar → wX_build_95 post (nI S) (nI db) (nI wb) (nI D) (nI V) (nI cp) (nI N') ls f_built f_codeCount (nI k') f_encoder f_messageLength a_edgeTarget a_jumpTarget a_good nb nw ar a_renumber lw lt sa ss a_alive a_codeBase a_stepWord a_stepTarget a_pairNow a_pairNext a_sentData a_sentWord a_channelWord) →
    ∀ n, 13 ≤ n + k → wX_build_60 post n 1 (nI k) (nI S) (nI db) (nI wb) (nI D) (nI V) (nI cp) (nI N) f_listSize f_built f_codeCount (nI k) f_encoder f_messageLength a_edgeTarget a_jumpTarget a_good a_nodeBase a_nodeWeight a_arrows a_renumber a_listWord a_listTarget a_seenAt a_seenSum a_alive a_codeBase a_stepWord a_stepTarget a_pairNow a_pairNext a_sentData a_sentWord a_channelWord
def gz_R (S N : Nat) (bs wt : Nat → Nat) (A : Nat → Nat → Bool) (ba we ar sm : Nat → Int32) : Prop :=
  (∀ u, u < N → we u = nI (wt u)) ∧ (∀ u, u < N → ba u = nI (bs u)) ∧ gy_A A ar ∧ gy_B S ba ∧ sm 0 = 0
def gz_Y (S wb D V cp k N : Nat) (bs wt : Nat → Nat) (A : Nat → Nat → Bool) (k' N' : Nat) (bs' wt' : Nat → Nat) (A' : Nat → Nat → Bool) : Prop :=
  ∀ {post : Int32 → SY → Prop} {f_built f_codes f_encoder f_places : Int32} {a_edges a_x a_base a_weight a_number a_arrow a_mark a_list a_sum a_outW a_outS a_sent a_own a_chan a_at a_pick : Nat → Int32}, gz_R S N bs wt A a_base a_weight a_arrow a_sum →
    (∀ li ba we ar sm, gz_R S N' bs' wt' A' ba we ar sm → wY_build_248 post (nI S) (nI D) (nI wb) (nI V) (nI cp) f_built f_codes (nI k') f_encoder f_places (nI N') a_edges a_x ba we a_number ar a_mark li sm a_outW a_outS a_sent a_own a_chan a_at a_pick) →
    ∀ n, 13 ≤ n + k → wY_build_219 post n (nI S) (nI D) (nI wb) (nI V) (nI cp) f_built f_codes (nI k) f_encoder f_places (nI N) a_edges a_x a_base a_weight a_number a_arrow a_mark a_list a_sum a_outW a_outS a_sent a_own a_chan a_at a_pick
section GZ
variable {S db wb D V cp N0 : Nat}
theorem gz_loop (hD : (db = 1 ∧ D = 2) ∨ (db = 2 ∧ D = 4)) (hV : V ≤ 8) : ∀ q k N bs wt A, 10 < q + k → gs_Inv S D V N0 k N bs wt A →
    ∃ k' N' bs' wt' A', gs_Inv S D V N0 k' N' bs' wt' A' ∧ gs_Stop N' wt' A' ∧ gz_X S db wb D V cp k N bs wt A k' N' bs' wt' A' ∧ gz_Y S wb D V cp k N bs wt A k' N' bs' wt' A' := by
  intro q
  induction q with
  | zero => intro k N bs wt A h hI; have := gs_k10 hI; omega
  | succ q ih =>
    intro k N bs wt A h hI
    have hk := gs_k10 hI
    have hN : N ≤ 15 := by have := hI.2.2.2.1; omega
    rcases gs_or hI (by omega) with hSt | ⟨s, f, i, j, y, hSp⟩
    · refine ⟨k, N, bs, wt, A, hI, hSt, ?_, ?_⟩
      · intro post f_listSize f_built f_codeCount f_encoder f_messageLength a_edgeTarget a_jumpTarget a_good a_nodeBase a_nodeWeight a_arrows a_renumber a_listWord a_listTarget a_seenAt a_seenSum a_alive a_codeBase a_stepWord a_stepTarget a_pairNow a_pairNext a_sentData a_sentWord a_channelWord hR hp n hn
        obtain ⟨n, rfl⟩ : ∃ n', n = n' + 1 := ⟨n - 1, by omega⟩
        obtain ⟨n, rfl⟩ : ∃ n', n = n' + 1 := ⟨n - 1, by omega⟩
        refine pk_le 15 k (fun z => by omega) (fun _ => br_f (by decide) (gx_st hV hN hI hR hSt (br_t rfl (nm_r (nI_1 k) ?_))))
        exact br_c (fun _ => hp _ _ _ _ _ _ _ _ hR) (fun _ => br_t rfl (hp _ _ _ _ _ _ _ _ hR))
      · intro post f_built f_codes f_encoder f_places a_edges a_x a_base a_weight a_number a_arrow a_mark a_list a_sum a_outW a_outS a_sent a_own a_chan a_at a_pick hR hp n hn
        obtain ⟨n, rfl⟩ : ∃ n', n = n' + 1 := ⟨n - 1, by omega⟩
        exact pk_le 15 k (fun z => by omega) (fun _ => gy_st hN hI hR.1 hR.2.2.1 hSt (br_t rfl (hp _ _ _ _ _ hR)))
    · obtain ⟨p1, p2, p3, p4, p5, p6, p7, p8, p9, p10, p11, p12, p13, p14, p15⟩ := id hSp
      have hI' := gs_step hI hV p2 p1 p5 p4 p9 p11 p13 p14 p15
      obtain ⟨k', N', bs', wt', A', i1, i2, i3, i4⟩ := ih (k + 1) (N + 1) _ _ _ (by omega) hI'
      refine ⟨k', N', bs', wt', A', i1, i2, ?_, ?_⟩
      · intro post f_listSize f_built f_codeCount f_encoder f_messageLength a_edgeTarget a_jumpTarget a_good a_nodeBase a_nodeWeight a_arrows a_renumber a_listWord a_listTarget a_seenAt a_seenSum a_alive a_codeBase a_stepWord a_stepTarget a_pairNow a_pairNext a_sentData a_sentWord a_channelWord hR hp n hn
        obtain ⟨n, rfl⟩ : ∃ n', n = n' + 1 := ⟨n - 1, by omega⟩
        refine pk_le 15 k (fun z => by omega) (fun _ => br_f (by decide) (gx_sp hD hV hI hR hSp fun ls lw lt sa ss nb nw ar hR' => br_f (by decide) (nm_r (nI_1 k) (nm_r (nI_1 k) ?_))))
        exact i3 hR' (fun ls' lw' lt' sa' ss' nb' nw' ar' h' => hp ls' lw' lt' sa' ss' nb' nw' ar' h') n (by omega)
      · intro post f_built f_codes f_encoder f_places a_edges a_x a_base a_weight a_number a_arrow a_mark a_list a_sum a_outW a_outS a_sent a_own a_chan a_at a_pick hR hp n hn
        obtain ⟨n, rfl⟩ : ∃ n', n = n' + 1 := ⟨n - 1, by omega⟩
        refine pk_le 15 k (fun z => by omega) (fun _ => gy_sp (by omega) hV hI hR.1 hR.2.1 hR.2.2.1 hR.2.2.2.2 hSp fun li sm ar hs0 har => br_f (by decide) (nm_r (nI_1 k) ?_))
        refine i4 ⟨fun u hu => ?_, fun u hu => ?_, har, gy_Bu hR.2.2.2.1 (hI.2.1 s p1).2.2, hs0⟩ (fun li' ba we ar' sm' h' => hp li' ba we ar' sm' h') n (by omega)
        · unfold gs_w
          by_cases c : u = s
          · subst c; rw [pk_us, if_pos rfl]
          · rw [pk_un c, if_neg c]
            by_cases c2 : u = N
            · subst c2; rw [pk_us, if_pos rfl]
            · rw [pk_un c2, if_neg c2]; exact hR.1 u (by omega)
        · unfold gs_bs
          by_cases c : u = N
          · subst c; rw [pk_us, if_pos rfl]
          · rw [pk_un c, if_neg c]; exact hR.2.1 u (by omega)
end GZ
end
section
/-! build: the two sides together -/
section GZB
variable {S db wb D V cp : Nat} {E : Nat → Nat} {f_nodeCount f_listSize f_built f_codeCount f_splitCount f_encoder f_messageLength : Int32} {a_edgeTarget a_jumpTarget a_good a_nodeBase a_nodeWeight a_arrows a_renumber a_listWord a_listTarget a_seenAt a_seenSum a_alive a_codeBase a_stepWord a_stepTarget a_pairNow a_pairNext a_sentData a_sentWord a_channelWord : Nat → Int32}
variable {y_codes y_made y_encoder y_places y_nodes : Int32} {a_edges a_x a_base a_weight a_number a_arrow a_mark a_list a_sum a_outW a_outS a_sent a_own a_chan a_at a_pick : Nat → Int32}
theorem gz_b {Q : Int32 → SX → Int32 → SY → Prop} (hS1 : 1 ≤ S) (hS : S ≤ 5) (hD : (db = 1 ∧ D = 2) ∨ (db = 2 ∧ D = 4)) (hV : V ≤ 8) (hwb : wb ≤ 3) (hcp : cp ≤ 3) (hE : ∀ i, E i ≤ S)
    (hTX : ∀ u w, u < S → w < V → a_jumpTarget (8 * u + w) = gu_e (ga_j E w wb (u + 1))) (hTY : ∀ i, i < 10 → a_edges i = nI (E i)) (hB : gy_B S a_base) (hs0 : a_sum 0 = 0)
    (hno : ∀ gd xx ba we, gy_B S ba → Q (-6) ((nI S), (nI db), (nI wb), (nI D), (nI V), (nI cp), f_nodeCount, f_listSize, 0, f_codeCount, f_splitCount, f_encoder, f_messageLength, a_edgeTarget, a_jumpTarget, gd, a_nodeBase, a_nodeWeight, a_arrows, a_renumber, a_listWord, a_listTarget, a_seenAt, a_seenSum, a_alive, a_codeBase, a_stepWord, a_stepTarget, a_pairNow, a_pairNext, a_sentData, a_sentWord, a_channelWord) (-6) ((nI S), (nI D), (nI wb), (nI V), (nI cp), 0, y_codes, y_made, y_encoder, y_places, 0, a_edges, xx, ba, we, a_number, a_arrow, a_mark, a_list, a_sum, a_outW, a_outS, a_sent, a_own, a_chan, a_at, a_pick))
    (hyes : ∀ (C M : Nat) (W T : Nat → Nat → Nat) (G : Nat → Nat) nc ls gd nb nw ar rn lw lt sa ss al cb sw st nn xx ba we nu yr li sm ow os, gc_OK D V C M W T → (∀ u, u < 5 → al u = gu_i (gn_B G u)) → (∀ u, u < S → xx u = nI (G u) ∧ G u ≤ 3) → (∀ c, c < C → cb c = ba c) →
      (∀ c d, c < C → d < D → sw (4 * c + d) = nI (W c d) ∧ st (4 * c + d) = nI (T c d)) → (∀ c d, c < C → d < D → ow (4 * c + d) = nI (W c d) ∧ os (4 * c + d) = nI (T c d)) → gy_B S ba → sm 0 = 0 →
      Q (nI C) ((nI S), (nI db), (nI wb), (nI D), (nI V), (nI cp), nc, ls, 1, (nI C), (nI M), 0, 0, a_edgeTarget, a_jumpTarget, gd, nb, nw, ar, rn, lw, lt, sa, ss, al, cb, sw, st, a_pairNow, a_pairNext, a_sentData, a_sentWord, a_channelWord)
        (nI C) ((nI S), (nI D), (nI wb), (nI V), (nI cp), 1, (nI C), (nI M), 0, 0, nn, a_edges, xx, ba, we, nu, yr, a_mark, li, sm, ow, os, a_sent, a_own, a_chan, a_at, a_pick)) :
    wpX_build (fun r u' => wpY_build (fun r' v' => Q r u' r' v') ((nI S), (nI D), (nI wb), (nI V), (nI cp), 0, y_codes, y_made, y_encoder, y_places, y_nodes, a_edges, a_x, a_base, a_weight, a_number, a_arrow, a_mark, a_list, a_sum, a_outW, a_outS, a_sent, a_own, a_chan, a_at, a_pick)) ((nI S), (nI db), (nI wb), (nI D), (nI V), (nI cp), f_nodeCount, f_listSize, 0, f_codeCount, f_splitCount, f_encoder, f_messageLength, a_edgeTarget, a_jumpTarget, a_good, a_nodeBase, a_nodeWeight, a_arrows, a_renumber, a_listWord, a_listTarget, a_seenAt, a_seenSum, a_alive, a_codeBase, a_stepWord, a_stepTarget, a_pairNow, a_pairNext, a_sentData, a_sentWord, a_channelWord) := by
  have hJ : ∀ u w, u < S → (fun u w => ga_j E w wb (u + 1)) u w ≤ S := fun u w hu => ga_jle hE _ _ (by omega)
  obtain ⟨GG, hG⟩ := Classical.axiomOfChoice (fun lv => gb_ex (D := D) (V := V) (lv := lv) hJ)
  refine br_t rfl ⟨cp + 3, gx_16 hD hS hV hcp hJ hTX hG (fun lv l1 l2 l3 l4 gd hgd => ?_) (fun h0 gd => ?_) (cp + 3) 1 a_good (by omega) (by omega) (by omega) (fun l h1 h2 => by omega)⟩
  · have hGl := hG lv
    have hx : ∃ u, u < S ∧ 0 < GG lv u := by
      refine Classical.byContradiction fun c => l4 ((gn_k0 hS hGl.2.2).mpr fun u hu => ?_)
      rcases Nat.eq_zero_or_pos (GG lv u) with z | z
      · exact z
      · exact absurd ⟨u, hu, z⟩ c
    have hG3 : ∀ u, GG lv u ≤ 3 := fun u => by
      rcases Nat.lt_or_ge u S with z | z
      · exact Nat.le_trans (hGl.1 u z).1 (by omega)
      · rw [hGl.2.2 u z]; omega
    have hInv := gn_inv hS hV (by omega) hJ hGl hx
    obtain ⟨k', N', bs', wt', A', hI', hSt', hX, hY⟩ := gz_loop (wb := wb) (cp := cp) hD hV 11 0 _ _ _ _ (by omega) hInv
    have hN' : N' ≤ 15 := by have := hI'.2.2.2.1; have := gs_k10 hI'; omega
    refine br_f (by decide) (gn_mn hS hV hJ hTX hGl.2.2 (fun u _ => hG3 u) hgd fun nb nw ar rn al hR hal => ⟨13, hX hR (fun ls lw lt sa ss nb' nw' ar' hR' => ?_) 13 (by omega)⟩)
    refine gt_mc hI' hSt' hN' hV (by omega) hR' fun rn' cb sw st hcb hst => ?_
    refine br_t rfl ⟨cp + 3, gy_19 hTY hE hS hV hwb (by omega) hcp hG (fun lv' m1 m2 m3 m4 xx ba we hB' hyI => ?_) (fun h0 => absurd (h0 lv l1 l2) l4) (cp + 3) 1 a_x a_base a_weight (by omega) (by omega) (by omega) hB (fun l h1 h2 => by omega)⟩
    have el : lv' = lv := by
      rcases Nat.lt_trichotomy lv' lv with c | c | c
      · exact absurd (l3 lv' m1 c) m4
      · exact c
      · exact absurd (m3 lv l1 c) l4
    subst el
    have h5 := gn_k5 (G := GG lv')
    have hbS : ∀ k, k < gn_k (GG lv') 5 → gn_b (GG lv') k < S := fun k hk => (hInv.2.1 k hk).2.2
    have hba : ∀ k, k < gn_k (GG lv') 5 → ba k = nI (gn_b (GG lv') k) ∧ we k = nI (gn_w (GG lv') k) := fun k hk => by
      obtain ⟨b1, b2, b3⟩ := gn_bP hk
      have := (hyI _ (hbS k hk)).2 b2
      rw [b3] at this
      exact this
    refine br_f (nI_ne0 (by omega) (by omega)) ⟨1801, gy_124 hTY hE hS hV hwb hB' (fun k hk => (hba k hk).1) hbS (fun yr hyr => ⟨13, ?_⟩) 1801 0 a_arrow (by omega) (by omega) (fun Q h => by omega)⟩
    refine hY ⟨fun u hu => (hba u hu).2, fun u hu => (hba u hu).1, hyr, hB', hs0⟩ (fun li ba' we' yr' sm hR'' => ?_) 13 (by omega)
    refine gv_tc hI' hSt' hN' hV (by omega) hR''.1 hR''.2.1 hR''.2.2.1 hR''.2.2.2.1 fun nu ba'' ow os hB'' hcb' host => ?_
    exact hyes (gt_C N' wt') k' (gt_W N' wt' A') (gt_T N' wt' A') (GG lv') _ _ _ _ _ _ _ _ _ _ _ _ _ _ _ _ _ _ _ _ _ _ _ _ _ (gt_OK hI' hSt' hN') hal (fun u hu => ⟨(hyI u hu).1, hG3 u⟩) (fun c hc => by rw [hcb c hc, hcb' c hc]) hst host hB'' hR''.2.2.2.2
  · refine br_t rfl (br_t rfl ⟨cp + 3, gy_19 hTY hE hS hV hwb (by omega) hcp hG (fun lv' m1 m2 m3 m4 => absurd (h0 lv' m1 m2) m4) (fun _ xx ba we hB' => br_t rfl (hno gd xx ba we hB')) (cp + 3) 1 a_x a_base a_weight (by omega) (by omega) (by omega) hB (fun l h1 h2 => by omega)⟩)
end GZB
end
section
/-! memory: pure -/
def gm_P (S V : Nat) (J : Nat → Nat → Nat) (al : Nat → Bool) : Nat → Nat → Nat → Prop
  | 0, u, v => u < S ∧ v < S ∧ u ≠ v ∧ al u = true ∧ al v = true
  | b + 1, a, c => ∃ u v w, gm_P S V J al b u v ∧ w < V ∧ J u w = a + 1 ∧ J v w = c + 1 ∧ a ≠ c ∧ al a = true ∧ al c = true
def gm_im (J : Nat → Nat → Nat) (al : Nat → Bool) (w s : Nat) : Nat → Nat
  | 0 => 0
  | u + 1 => if s.testBit u = true ∧ J u w ≠ 0 ∧ al (J u w - 1) = true then gm_im J al w s u ||| 2 ^ (J u w - 1) else gm_im J al w s u
def gm_am (al : Nat → Bool) : Nat → Nat
  | 0 => 0
  | u + 1 => if al u = true then gm_am al u ||| 2 ^ u else gm_am al u
def gm_S (S V : Nat) (J : Nat → Nat → Nat) (al : Nat → Bool) : Nat → Nat → Prop
  | 0, s => s = gm_am al S
  | b + 1, s => ∃ t w, gm_S S V J al b t ∧ w < V ∧ s = gm_im J al w t S
def gm_2 (s : Nat) : Prop := ∃ u v, u < 5 ∧ v < 5 ∧ u ≠ v ∧ s.testBit u = true ∧ s.testBit v = true
theorem gm_or : ∀ n, n < 32 → ∀ v, v < 5 → nI n ||| ((1 : Int32) <<< (nI v &&& 31)) = nI (n ||| 2 ^ v) := by decide +kernel
theorem gm_o32 : ∀ n, n < 32 → ∀ v, v < 5 → n ||| 2 ^ v < 32 := by decide +kernel
theorem gm_ob : ∀ n, n < 32 → ∀ v, v < 5 → ∀ i, i < 5 → (n ||| 2 ^ v).testBit i = (n.testBit i || decide (i = v)) := by decide +kernel
theorem gm_two : ∀ s, s < 32 → ((nI s &&& (nI s - 1)) = 0 ↔ ∀ u, u < 5 → ∀ v, v < 5 → (u = v ∨ s.testBit u = false ∨ s.testBit v = false)) := by decide +kernel
theorem gm_tw {s : Nat} (hs : s < 32) : (nI s &&& (nI s - 1)) = 0 ↔ ¬ gm_2 s := by
  rw [gm_two s hs]
  constructor
  · intro h ⟨u, v, hu, hv, ne, a, b⟩
    rcases h u hu v hv with z | z | z
    · exact ne z
    · rw [z] at a; exact absurd a (by decide)
    · rw [z] at b; exact absurd b (by decide)
  · intro h u hu v hv
    by_cases e : u = v
    · exact Or.inl e
    · cases a : s.testBit u
      · exact Or.inr (Or.inl rfl)
      · cases b : s.testBit v
        · exact Or.inr (Or.inr rfl)
        · exact absurd ⟨u, v, hu, hv, e, a, b⟩ h
section GMP
variable {S V : Nat} {J : Nat → Nat → Nat} {al : Nat → Bool}
theorem gm_im32 (hS : S ≤ 5) (hJ : ∀ u w, u < S → J u w ≤ S) {w s : Nat} : ∀ u, u ≤ S → gm_im J al w s u < 32 := by
  intro u
  induction u with
  | zero => intro _; show 0 < 32; omega
  | succ u ih =>
    intro hu
    show (if s.testBit u = true ∧ J u w ≠ 0 ∧ al (J u w - 1) = true then gm_im J al w s u ||| 2 ^ (J u w - 1) else gm_im J al w s u) < 32
    have := hJ u w (by omega)
    split
    · exact gm_o32 _ (ih (by omega)) _ (by omega)
    · exact ih (by omega)
theorem gm_imb (hS : S ≤ 5) (hJ : ∀ u w, u < S → J u w ≤ S) {w s a : Nat} (ha : a < 5) : ∀ u, u ≤ S → ((gm_im J al w s u).testBit a = true ↔ ∃ u', u' < u ∧ s.testBit u' = true ∧ J u' w = a + 1 ∧ al a = true) := by
  intro u
  induction u with
  | zero =>
    intro _
    show (0 : Nat).testBit a = true ↔ _
    rw [Nat.zero_testBit]
    constructor
    · intro z; exact absurd z (by decide)
    · intro ⟨u', h, _⟩; omega
  | succ u ih =>
    intro hu
    have i := ih (by omega)
    have hj := hJ u w (by omega)
    show (if s.testBit u = true ∧ J u w ≠ 0 ∧ al (J u w - 1) = true then gm_im J al w s u ||| 2 ^ (J u w - 1) else gm_im J al w s u).testBit a = true ↔ _
    by_cases c : s.testBit u = true ∧ J u w ≠ 0 ∧ al (J u w - 1) = true
    · rw [if_pos c, gm_ob _ (gm_im32 hS hJ u (by omega)) _ (by omega) a ha, Bool.or_eq_true, i, decide_eq_true_eq]
      constructor
      · rintro (⟨u', h1, h2⟩ | h)
        · exact ⟨u', by omega, h2⟩
        · exact ⟨u, by omega, c.1, by omega, by rw [h]; exact c.2.2⟩
      · intro ⟨u', h1, h2, h3, h4⟩
        by_cases e : u' = u
        · subst e; right; omega
        · left; exact ⟨u', by omega, h2, h3, h4⟩
    · rw [if_neg c, i]
      constructor
      · intro ⟨u', h1, h2⟩; exact ⟨u', by omega, h2⟩
      · intro ⟨u', h1, h2, h3, h4⟩
        by_cases e : u' = u
        · subst e
          exact absurd ⟨h2, by omega, by rw [h3]; exact h4⟩ c
        · exact ⟨u', by omega, h2, h3, h4⟩
theorem gm_am32 : ∀ u, u ≤ 5 → gm_am al u < 32 := by
  intro u
  induction u with
  | zero => intro _; show 0 < 32; omega
  | succ u ih =>
    intro hu
    show (if al u = true then gm_am al u ||| 2 ^ u else gm_am al u) < 32
    split
    · exact gm_o32 _ (ih (by omega)) _ (by omega)
    · exact ih (by omega)
theorem gm_amb {a : Nat} (ha : a < 5) : ∀ u, u ≤ 5 → ((gm_am al u).testBit a = true ↔ a < u ∧ al a = true) := by
  intro u
  induction u with
  | zero =>
    intro _
    show (0 : Nat).testBit a = true ↔ _
    rw [Nat.zero_testBit]
    constructor
    · intro z; exact absurd z (by decide)
    · intro ⟨h, _⟩; omega
  | succ u ih =>
    intro hu
    have i := ih (by omega)
    show (if al u = true then gm_am al u ||| 2 ^ u else gm_am al u).testBit a = true ↔ _
    by_cases c : al u = true
    · rw [if_pos c, gm_ob _ (gm_am32 u (by omega)) _ (by omega) a ha, Bool.or_eq_true, i, decide_eq_true_eq]
      constructor
      · rintro (⟨h1, h2⟩ | h)
        · exact ⟨by omega, h2⟩
        · exact ⟨by omega, by rw [h]; exact c⟩
      · intro ⟨h1, h2⟩
        by_cases e : a = u
        · right; exact e
        · left; exact ⟨by omega, h2⟩
    · rw [if_neg c, i]
      constructor
      · intro ⟨h1, h2⟩; exact ⟨by omega, h2⟩
      · intro ⟨h1, h2⟩
        by_cases e : a = u
        · subst e; exact absurd h2 c
        · exact ⟨by omega, h2⟩
theorem gm_S32 (hS : S ≤ 5) (hJ : ∀ u w, u < S → J u w ≤ S) : ∀ b s, gm_S S V J al b s → s < 32 := by
  intro b
  cases b with
  | zero => intro s h; rw [show s = gm_am al S from h]; exact gm_am32 S hS
  | succ b => intro s ⟨t, w, _, _, h⟩; rw [h]; exact gm_im32 hS hJ S (Nat.le_refl _)
theorem gm_SS (hS : S ≤ 5) (hJ : ∀ u w, u < S → J u w ≤ S) : ∀ b s u, gm_S S V J al b s → u < 5 → s.testBit u = true → u < S := by
  intro b
  cases b with
  | zero => intro s u h hu hb; rw [show s = gm_am al S from h] at hb; exact ((gm_amb hu S hS).mp hb).1
  | succ b =>
    intro s u ⟨t, w, _, _, h⟩ hu hb
    rw [h] at hb
    obtain ⟨u', h1, h2, h3, _⟩ := (gm_imb hS hJ hu S (Nat.le_refl _)).mp hb
    have := hJ u' w h1
    omega
theorem gm_PS (hS : S ≤ 5) (hJ : ∀ u w, u < S → J u w ≤ S) : ∀ b u v, gm_P S V J al b u v → u < S ∧ v < S ∧ u ≠ v ∧ al u = true ∧ al v = true := by
  intro b
  induction b with
  | zero => intro u v h; exact h
  | succ b ih =>
    intro a c ⟨u, v, w, h, _, h1, h2, h3⟩
    obtain ⟨q1, q2, _⟩ := ih u v h
    have := hJ u w q1
    have := hJ v w q2
    exact ⟨by omega, by omega, h3⟩
theorem gm_eq (hS : S ≤ 5) (hJ : ∀ u w, u < S → J u w ≤ S) : ∀ b u v, gm_P S V J al b u v ↔ ∃ s, gm_S S V J al b s ∧ u < 5 ∧ v < 5 ∧ u ≠ v ∧ s.testBit u = true ∧ s.testBit v = true := by
  intro b
  induction b with
  | zero =>
    intro u v
    constructor
    · intro ⟨h1, h2, h3, h4, h5⟩
      exact ⟨_, rfl, by omega, by omega, h3, (gm_amb (by omega) S hS).mpr ⟨h1, h4⟩, (gm_amb (by omega) S hS).mpr ⟨h2, h5⟩⟩
    · intro ⟨s, hs, hu, hv, ne, a, b⟩
      rw [show s = gm_am al S from hs] at a b
      obtain ⟨a1, a2⟩ := (gm_amb hu S hS).mp a
      obtain ⟨b1, b2⟩ := (gm_amb hv S hS).mp b
      exact ⟨a1, b1, ne, a2, b2⟩
  | succ b ih =>
    intro a c
    constructor
    · intro ⟨u, v, w, h, hw, h1, h2, h3, h4, h5⟩
      obtain ⟨q1, q2, _⟩ := gm_PS hS hJ b u v h
      obtain ⟨s, hs, hu, hv, ne, su, sv⟩ := (ih u v).mp h
      have := hJ u w q1
      have := hJ v w q2
      exact ⟨_, ⟨s, w, hs, hw, rfl⟩, by omega, by omega, h3, (gm_imb hS hJ (by omega) S (Nat.le_refl _)).mpr ⟨u, q1, su, h1, h4⟩, (gm_imb hS hJ (by omega) S (Nat.le_refl _)).mpr ⟨v, q2, sv, h2, h5⟩⟩
    · intro ⟨s', ⟨s, w, hs, hw, e⟩, ha, hc, ne, sa, sc⟩
      rw [e] at sa sc
      obtain ⟨u, u1, u2, u3, u4⟩ := (gm_imb hS hJ ha S (Nat.le_refl _)).mp sa
      obtain ⟨v, v1, v2, v3, v4⟩ := (gm_imb hS hJ hc S (Nat.le_refl _)).mp sc
      refine ⟨u, v, w, (ih u v).mpr ⟨s, hs, by omega, by omega, fun z => ?_, u2, v2⟩, hw, u3, v3, ne, u4, v4⟩
      rw [z, v3] at u3
      omega
def gm_NE (S V : Nat) (J : Nat → Nat → Nat) (al : Nat → Bool) (b : Nat) : Prop := ∃ u v, gm_P S V J al b u v
theorem gm_NE2 (hS : S ≤ 5) (hJ : ∀ u w, u < S → J u w ≤ S) (b : Nat) : gm_NE S V J al b ↔ ∃ s, gm_S S V J al b s ∧ gm_2 s := by
  constructor
  · intro ⟨u, v, h⟩
    obtain ⟨s, hs, hu, hv, ne, su, sv⟩ := (gm_eq hS hJ b u v).mp h
    exact ⟨s, hs, u, v, hu, hv, ne, su, sv⟩
  · intro ⟨s, hs, u, v, h⟩
    exact ⟨u, v, (gm_eq hS hJ b u v).mpr ⟨s, hs, h⟩⟩
/-- the answer -/
def gm_Ans (S V : Nat) (J : Nat → Nat → Nat) (al : Nat → Bool) (a : Nat) : Prop := (∀ b, b < a → gm_NE S V J al b) ∧ a ≤ 11 ∧ (a < 11 → ¬ gm_NE S V J al a)
theorem gm_un {a a' : Nat} (h : gm_Ans S V J al a) (h' : gm_Ans S V J al a') : a = a' := by
  rcases Nat.lt_trichotomy a a' with c | c | c
  · exact absurd (h'.1 a c) (h.2.2 (by have := h'.2.1; omega))
  · exact c
  · exact absurd (h.1 a' c) (h'.2.2 (by have := h.2.1; omega))
theorem gm_ex : ∃ a, gm_Ans S V J al a := by
  by_cases c : ∃ b, b < 11 ∧ ¬ gm_NE S V J al b
  · obtain ⟨a, ⟨a1, a2⟩, a3⟩ := pk_least _ c
    exact ⟨a, fun b hb => Classical.byContradiction fun z => a3 b hb ⟨by omega, z⟩, by omega, fun _ => a2⟩
  · exact ⟨11, fun b hb => Classical.byContradiction fun z => c ⟨b, hb, z⟩, by omega, fun z => by omega⟩
def gm_v (a : Nat) : Int32 := if a ≤ 10 then nI a else -11
end GMP
end
section
/-! memory: the component's walk -/
def gm_M (Q : Nat → Nat → Prop) (M : Int32) : Prop := ∀ i, i < 32 → (bt M i = true ↔ i < 25 ∧ Q (i / 5) (i % 5))
theorem gm_Mc {Q Q' : Nat → Nat → Prop} {M : Int32} (h : gm_M Q M) (e : ∀ a c, a < 5 → c < 5 → (Q a c ↔ Q' a c)) : gm_M Q' M := by
  intro i hi
  rw [h i hi]
  constructor
  · intro ⟨h1, h2⟩; exact ⟨h1, (e _ _ (by omega) (by omega)).mp h2⟩
  · intro ⟨h1, h2⟩; exact ⟨h1, (e _ _ (by omega) (by omega)).mpr h2⟩
theorem gm_Mo {Q : Nat → Nat → Prop} {M : Int32} {u v : Nat} (h : gm_M Q M) (hu : u < 5) (hv : v < 5) : gm_M (fun a c => Q a c ∨ (a = u ∧ c = v)) (M ||| ((1 : Int32) <<< (((5 * nI u) + nI v) &&& 31))) := by
  intro i hi
  rw [gu_5, gu_or (by omega) hi, Bool.or_eq_true, h i hi, decide_eq_true_eq]
  constructor
  · rintro (⟨h1, h2⟩ | e)
    · exact ⟨h1, Or.inl h2⟩
    · exact ⟨by omega, Or.inr ⟨by omega, by omega⟩⟩
  · rintro ⟨h1, h2 | ⟨e1, e2⟩⟩
    · exact Or.inl ⟨h1, h2⟩
    · exact Or.inr (by omega)
theorem gm_Mu {Q Q' : Nat → Nat → Prop} {M M' : Int32} (h : gm_M Q M) (h' : gm_M Q' M') : gm_M (fun a c => Q a c ∨ Q' a c) (M ||| M') := by
  intro i hi
  rw [b_or, Bool.or_eq_true, h i hi, h' i hi]
  constructor
  · rintro (⟨h1, h2⟩ | ⟨h1, h2⟩)
    · exact ⟨h1, Or.inl h2⟩
    · exact ⟨h1, Or.inr h2⟩
  · rintro ⟨h1, h2 | h2⟩
    · exact Or.inl ⟨h1, h2⟩
    · exact Or.inr ⟨h1, h2⟩
theorem gm_M0 {Q : Nat → Nat → Prop} (h : ∀ a c, ¬ Q a c) : gm_M Q 0 := by
  intro i hi
  rw [b_0]
  exact ⟨fun z => absurd z (by decide), fun z => absurd z.2 (h _ _)⟩
theorem gm_Mz {Q : Nat → Nat → Prop} {M : Int32} (h : gm_M Q M) : M = 0 ↔ ∀ a c, a < 5 → c < 5 → ¬ Q a c := by
  rw [gu_z]
  constructor
  · intro z a c ha hc q
    have := (h (5 * a + c) (by omega)).mpr ⟨by omega, by rw [show (5 * a + c) / 5 = a by omega, show (5 * a + c) % 5 = c by omega]; exact q⟩
    rw [z _ (by omega)] at this
    exact absurd this (by decide)
  · intro z i hi
    apply gu_nt
    intro c
    obtain ⟨h1, h2⟩ := (h i hi).mp c
    exact z _ _ (by omega) (by omega) h2
theorem gm_Mt {Q : Nat → Nat → Prop} {M : Int32} (h : gm_M Q M) {u v : Nat} (hu : u < 5) (hv : v < 5) : (M &&& ((1 : Int32) <<< (((5 * nI u) + nI v) &&& 31))) = 0 ↔ ¬ Q u v := by
  rw [gu_5, gu_t (by omega)]
  have := h (5 * u + v) (by omega)
  rw [show (5 * u + v) / 5 = u by omega, show (5 * u + v) % 5 = v by omega] at this
  constructor
  · intro z q
    have := this.mpr ⟨by omega, q⟩
    rw [z] at this
    exact absurd this (by decide)
  · intro z
    apply gu_nt
    intro c
    exact z (this.mp c).2
section GMX
variable {S db wb D V cp : Nat} {J : Nat → Nat → Nat} {al : Nat → Bool} {f_nodeCount f_listSize f_built f_codeCount f_splitCount f_encoder f_messageLength : Int32} {a_edgeTarget a_jumpTarget a_good a_nodeBase a_nodeWeight a_arrows a_renumber a_listWord a_listTarget a_seenAt a_seenSum a_alive a_codeBase a_stepWord a_stepTarget a_pairNow a_pairNext a_sentData a_sentWord a_channelWord : Nat → Int32}
theorem gm_14 {post : Int32 → Prop} (J4 : Int32 → Int32 → Prop) {u : Nat} (hS : S ≤ 5) (hu : u < S) (hal : ∀ u, u < 5 → a_alive u = gu_i (al u))
    (hJ : ∀ M, gm_M (fun a c => gm_P S V J al 0 a c ∧ a < u + 1) M → J4 M (nI (u + 1))) :
    ∀ n v M, S < n + v → v ≤ S → gm_M (fun a c => gm_P S V J al 0 a c ∧ (a < u ∨ (a = u ∧ c < v))) M → wX_allAlivePairs_14 post J4 (nI u) (nI S) (nI db) (nI wb) (nI D) (nI V) (nI cp) f_nodeCount f_listSize f_built f_codeCount f_splitCount f_encoder f_messageLength a_edgeTarget a_jumpTarget a_good a_nodeBase a_nodeWeight a_arrows a_renumber a_listWord a_listTarget a_seenAt a_seenSum a_alive a_codeBase a_stepWord a_stepTarget a_pairNow a_pairNext a_sentData a_sentWord a_channelWord n M (nI v) := by
  intro n
  induction n with
  | zero => intro v M z1 z2; omega
  | succ n ih =>
    intro v M z1 z2 hM
    refine pk_le S v (fun h => nm_r (nI_1 u) (hJ M (gm_Mc hM fun a c ha hc => ?_))) (fun h => ?_)
    · constructor
      · intro ⟨q1, q2⟩; exact ⟨q1, by omega⟩
      · intro ⟨q1, q2⟩
        have : c < S := q1.2.1
        exact ⟨q1, by omega⟩
    · have skip : ¬ gm_P S V J al 0 u v → wX_allAlivePairs_14 post J4 (nI u) (nI S) (nI db) (nI wb) (nI D) (nI V) (nI cp) f_nodeCount f_listSize f_built f_codeCount f_splitCount f_encoder f_messageLength a_edgeTarget a_jumpTarget a_good a_nodeBase a_nodeWeight a_arrows a_renumber a_listWord a_listTarget a_seenAt a_seenSum a_alive a_codeBase a_stepWord a_stepTarget a_pairNow a_pairNext a_sentData a_sentWord a_channelWord n M (nI (v + 1)) := fun hn => ih (v + 1) M (by omega) (by omega) (gm_Mc hM fun a c ha hc => by
        constructor
        · intro ⟨q1, q2⟩; exact ⟨q1, by omega⟩
        · intro ⟨q1, q2⟩
          refine ⟨q1, ?_⟩
          by_cases e : a = u ∧ c = v
          · rw [e.1, e.2] at q1; exact absurd q1 hn
          · omega)
      refine pk_eq u v (fun e => nm_r (nI_1 v) (skip fun z => z.2.2.1 e)) (fun e => ⟨vp_in_nI (by omega) (by omega), ?_⟩)
      rw [nI_clamp (by omega), hal u (by omega), gu_i0]
      refine br_c (fun c => nm_r (nI_1 v) (skip fun z => absurd (c.symm.trans z.2.2.2.1) (by decide))) (fun c => ⟨vp_in_nI (by omega) (by omega), ?_⟩)
      rw [nI_clamp (by omega), hal v (by omega), gu_i0]
      refine br_c (fun c2 => nm_r (nI_1 v) (skip fun z => absurd (c2.symm.trans z.2.2.2.2) (by decide))) (fun c2 => nm_e (nm_r (nI_1 v) (ih (v + 1) _ (by omega) (by omega) (gm_Mc (gm_Mo hM (by omega) (by omega)) fun a c ha hc => ?_))))
      constructor
      · rintro (⟨q1, q2⟩ | ⟨rfl, rfl⟩)
        · exact ⟨q1, by omega⟩
        · exact ⟨⟨hu, h, e, gu_nf ‹_›, gu_nf c2⟩, by omega⟩
      · intro ⟨q1, q2⟩
        by_cases e : a = u ∧ c = v
        · exact Or.inr e
        · exact Or.inl ⟨q1, by omega⟩
theorem gm_4 {post : Int32 → Prop} (hS : S ≤ 5) (hal : ∀ u, u < 5 → a_alive u = gu_i (al u)) (hp : ∀ M, gm_M (gm_P S V J al 0) M → post M) :
    ∀ n u M, S < n + u → u ≤ S → gm_M (fun a c => gm_P S V J al 0 a c ∧ a < u) M → wX_allAlivePairs_4 post (nI S) (nI db) (nI wb) (nI D) (nI V) (nI cp) f_nodeCount f_listSize f_built f_codeCount f_splitCount f_encoder f_messageLength a_edgeTarget a_jumpTarget a_good a_nodeBase a_nodeWeight a_arrows a_renumber a_listWord a_listTarget a_seenAt a_seenSum a_alive a_codeBase a_stepWord a_stepTarget a_pairNow a_pairNext a_sentData a_sentWord a_channelWord n M (nI u) := by
  intro n
  induction n with
  | zero => intro u M z1 z2; omega
  | succ n ih =>
    intro u M z1 z2 hM
    refine pk_le S u (fun h => hp M (gm_Mc hM fun a c ha hc => ⟨fun q => q.1, fun q => ⟨q, by have : a < S := q.1; omega⟩⟩)) (fun h => ⟨S + 1, ?_⟩)
    exact gm_14 (V := V) (J := J) (wX_allAlivePairs_4 post (nI S) (nI db) (nI wb) (nI D) (nI V) (nI cp) f_nodeCount f_listSize f_built f_codeCount f_splitCount f_encoder f_messageLength a_edgeTarget a_jumpTarget a_good a_nodeBase a_nodeWeight a_arrows a_renumber a_listWord a_listTarget a_seenAt a_seenSum a_alive a_codeBase a_stepWord a_stepTarget a_pairNow a_pairNext a_sentData a_sentWord a_channelWord n) hS h hal (fun M' h' => ih (u + 1) M' (by omega) (by omega) h') (S + 1) 0 M (by omega) (by omega) (gm_Mc hM fun a c ha hc => ⟨fun q => ⟨q.1, Or.inl q.2⟩, fun q => ⟨q.1, by have := q.2; omega⟩⟩)
theorem gm_5 {post : Int32 → Prop} {u v : Nat} (hS : S ≤ 5) (hV : V ≤ 8) (hu : u < S) (hv : v < S) (hJ : ∀ u w, u < S → J u w ≤ S) (hT : ∀ u w, u < S → w < V → a_jumpTarget (8 * u + w) = gu_e (J u w)) (hal : ∀ u, u < 5 → a_alive u = gu_i (al u))
    (hp : ∀ M, gm_M (fun a c => ∃ w, w < V ∧ J u w = a + 1 ∧ J v w = c + 1 ∧ a ≠ c ∧ al a = true ∧ al c = true) M → post M) :
    ∀ n w M, V < n + w → w ≤ V → gm_M (fun a c => ∃ w', w' < w ∧ J u w' = a + 1 ∧ J v w' = c + 1 ∧ a ≠ c ∧ al a = true ∧ al c = true) M → wX_pairImages_5 post (nI u) (nI v) (nI S) (nI db) (nI wb) (nI D) (nI V) (nI cp) f_nodeCount f_listSize f_built f_codeCount f_splitCount f_encoder f_messageLength a_edgeTarget a_jumpTarget a_good a_nodeBase a_nodeWeight a_arrows a_renumber a_listWord a_listTarget a_seenAt a_seenSum a_alive a_codeBase a_stepWord a_stepTarget a_pairNow a_pairNext a_sentData a_sentWord a_channelWord n M (nI w) := by
  intro n
  induction n with
  | zero => intro w M z1 z2; omega
  | succ n ih =>
    intro w M z1 z2 hM
    refine pk_le V w (fun h => ?_) (fun h => ?_)
    · have e : w = V := by omega
      subst e; exact hp M hM
    · have j1 := hJ u w hu
      have j2 := hJ v w hv
      rw [gu_c8 (by omega), gu_c8 (by omega), hT u w hu h, hT v w hv h]
      refine ⟨gu_in8 (by omega) (by omega), nm_e ⟨gu_in8 (by omega) (by omega), nm_e ?_⟩⟩
      have skip : (∀ a c, ¬ (J u w = a + 1 ∧ J v w = c + 1 ∧ a ≠ c ∧ al a = true ∧ al c = true)) → wX_pairImages_5 post (nI u) (nI v) (nI S) (nI db) (nI wb) (nI D) (nI V) (nI cp) f_nodeCount f_listSize f_built f_codeCount f_splitCount f_encoder f_messageLength a_edgeTarget a_jumpTarget a_good a_nodeBase a_nodeWeight a_arrows a_renumber a_listWord a_listTarget a_seenAt a_seenSum a_alive a_codeBase a_stepWord a_stepTarget a_pairNow a_pairNext a_sentData a_sentWord a_channelWord n M (nI (w + 1)) := fun hn => ih (w + 1) M (by omega) (by omega) (gm_Mc hM fun a c ha hc => by
        constructor
        · intro ⟨w', q1, q2⟩; exact ⟨w', by omega, q2⟩
        · intro ⟨w', q1, q2⟩
          by_cases e : w' = w
          · subst e; exact absurd q2 (hn a c)
          · exact ⟨w', by omega, q2⟩)
      by_cases c1 : J u w = 0
      · exact br_t ((gu_elt (by omega)).mpr c1) (nm_r (nI_1 w) (skip fun a c z => by omega))
      · refine br_f (by rw [gu_elt (by omega)]; exact c1) ?_
        by_cases c2 : J v w = 0
        · exact br_t ((gu_elt (by omega)).mpr c2) (nm_r (nI_1 w) (skip fun a c z => by omega))
        · refine br_f (by rw [gu_elt (by omega)]; exact c2) ?_
          obtain ⟨a, ha⟩ : ∃ a, J u w = a + 1 := ⟨J u w - 1, by omega⟩
          obtain ⟨c, hc⟩ : ∃ c, J v w = c + 1 := ⟨J v w - 1, by omega⟩
          rw [ha, hc, gu_es, gu_es]
          have uq : ∀ a' c', J u w = a' + 1 ∧ J v w = c' + 1 ∧ a' ≠ c' ∧ al a' = true ∧ al c' = true → a' = a ∧ c' = c := fun a' c' z => ⟨by omega, by omega⟩
          refine pk_eq a c (fun e => nm_r (nI_1 w) (skip fun a' c' z => by have := uq a' c' z; omega)) (fun e => ⟨vp_in_nI (by omega) (by omega), ?_⟩)
          rw [nI_clamp (by omega), hal a (by omega), gu_i0]
          refine br_c (fun c3 => nm_r (nI_1 w) (skip fun a' c' z => ?_)) (fun c3 => ⟨vp_in_nI (by omega) (by omega), ?_⟩)
          · have := z.2.2.2.1
            rw [(uq a' c' z).1, c3] at this
            exact absurd this (by decide)
          · rw [nI_clamp (by omega), hal c (by omega), gu_i0]
            refine br_c (fun c4 => nm_r (nI_1 w) (skip fun a' c' z => ?_)) (fun c4 => nm_e (nm_r (nI_1 w) (ih (w + 1) _ (by omega) (by omega) (gm_Mc (gm_Mo hM (by omega) (by omega)) fun a' c' ha' hc' => ?_))))
            · have := z.2.2.2.2
              rw [(uq a' c' z).2, c4] at this
              exact absurd this (by decide)
            · constructor
              · rintro (⟨w', q1, q2⟩ | ⟨rfl, rfl⟩)
                · exact ⟨w', by omega, q2⟩
                · exact ⟨w, by omega, ha, hc, e, gu_nf c3, gu_nf c4⟩
              · intro ⟨w', q1, q2⟩
                by_cases e2 : w' = w
                · subst e2; exact Or.inr (uq a' c' q2)
                · exact Or.inl ⟨w', by omega, q2⟩
theorem gm_15 {post : Int32 → Prop} (J4 : Int32 → Int32 → Prop) {u b : Nat} {M0 : Int32} (hS : S ≤ 5) (hV : V ≤ 8) (hu : u < S) (hJ : ∀ u w, u < S → J u w ≤ S) (hT : ∀ u w, u < S → w < V → a_jumpTarget (8 * u + w) = gu_e (J u w)) (hal : ∀ u, u < 5 → a_alive u = gu_i (al u))
    (hM0 : gm_M (gm_P S V J al b) M0)
    (hk : ∀ M, gm_M (fun a c => ∃ u' v' w, gm_P S V J al b u' v' ∧ u' < u + 1 ∧ w < V ∧ J u' w = a + 1 ∧ J v' w = c + 1 ∧ a ≠ c ∧ al a = true ∧ al c = true) M → J4 M (nI (u + 1))) :
    ∀ n v M, S < n + v → v ≤ S → gm_M (fun a c => ∃ u' v' w, gm_P S V J al b u' v' ∧ (u' < u ∨ (u' = u ∧ v' < v)) ∧ w < V ∧ J u' w = a + 1 ∧ J v' w = c + 1 ∧ a ≠ c ∧ al a = true ∧ al c = true) M → wX_nextAlivePairs_15 post J4 M0 (nI u) (nI S) (nI db) (nI wb) (nI D) (nI V) (nI cp) f_nodeCount f_listSize f_built f_codeCount f_splitCount f_encoder f_messageLength a_edgeTarget a_jumpTarget a_good a_nodeBase a_nodeWeight a_arrows a_renumber a_listWord a_listTarget a_seenAt a_seenSum a_alive a_codeBase a_stepWord a_stepTarget a_pairNow a_pairNext a_sentData a_sentWord a_channelWord n M (nI v) := by
  intro n
  induction n with
  | zero => intro v M z1 z2; omega
  | succ n ih =>
    intro v M z1 z2 hM
    refine pk_le S v (fun h => nm_r (nI_1 u) (hk M (gm_Mc hM fun a c ha hc => ?_))) (fun h => ?_)
    · constructor
      · intro ⟨u', v', w, q1, q2, q3⟩; exact ⟨u', v', w, q1, by omega, q3⟩
      · intro ⟨u', v', w, q1, q2, q3⟩
        have := (gm_PS hS hJ b u' v' q1).2.1
        exact ⟨u', v', w, q1, by omega, q3⟩
    · by_cases c : gm_P S V J al b u v
      · refine br_f (by rw [gm_Mt hM0 (by omega) (by omega)]; exact fun z => z c) ⟨V + 1, ?_⟩
        refine gm_5 hS hV hu h hJ hT hal (fun M' hM' => nm_e (nm_r (nI_1 v) (ih (v + 1) _ (by omega) (by omega) (gm_Mc (gm_Mu hM hM') fun a c ha hc => ?_)))) (V + 1) 0 0 (by omega) (by omega) (gm_M0 fun a c ⟨w', q, _⟩ => by omega)
        constructor
        · rintro (⟨u', v', w, q1, q2, q3⟩ | ⟨w, q⟩)
          · exact ⟨u', v', w, q1, by omega, q3⟩
          · exact ⟨u, v, w, ‹_›, by omega, q⟩
        · intro ⟨u', v', w, q1, q2, q3⟩
          by_cases e : u' = u ∧ v' = v
          · rw [e.1, e.2] at q3; exact Or.inr ⟨w, q3⟩
          · exact Or.inl ⟨u', v', w, q1, by omega, q3⟩
      · refine br_t (by rw [gm_Mt hM0 (by omega) (by omega)]; exact c) (nm_r (nI_1 v) (ih (v + 1) M (by omega) (by omega) (gm_Mc hM fun a c ha hc => ?_)))
        constructor
        · intro ⟨u', v', w, q1, q2, q3⟩; exact ⟨u', v', w, q1, by omega, q3⟩
        · intro ⟨u', v', w, q1, q2, q3⟩
          by_cases e : u' = u ∧ v' = v
          · rw [e.1, e.2] at q1; exact absurd q1 ‹_›
          · exact ⟨u', v', w, q1, by omega, q3⟩
theorem gm_na {post : Int32 → Prop} {b : Nat} {M0 : Int32} (hS : S ≤ 5) (hV : V ≤ 8) (hJ : ∀ u w, u < S → J u w ≤ S) (hT : ∀ u w, u < S → w < V → a_jumpTarget (8 * u + w) = gu_e (J u w)) (hal : ∀ u, u < 5 → a_alive u = gu_i (al u))
    (hM0 : gm_M (gm_P S V J al b) M0) (hp : ∀ M, gm_M (gm_P S V J al (b + 1)) M → post M) :
    ∀ n u M, S < n + u → u ≤ S → gm_M (fun a c => ∃ u' v' w, gm_P S V J al b u' v' ∧ u' < u ∧ w < V ∧ J u' w = a + 1 ∧ J v' w = c + 1 ∧ a ≠ c ∧ al a = true ∧ al c = true) M → wX_nextAlivePairs_4 post M0 (nI S) (nI db) (nI wb) (nI D) (nI V) (nI cp) f_nodeCount f_listSize f_built f_codeCount f_splitCount f_encoder f_messageLength a_edgeTarget a_jumpTarget a_good a_nodeBase a_nodeWeight a_arrows a_renumber a_listWord a_listTarget a_seenAt a_seenSum a_alive a_codeBase a_stepWord a_stepTarget a_pairNow a_pairNext a_sentData a_sentWord a_channelWord n M (nI u) := by
  intro n
  induction n with
  | zero => intro u M z1 z2; omega
  | succ n ih =>
    intro u M z1 z2 hM
    refine pk_le S u (fun h => hp M (gm_Mc hM fun a c ha hc => ?_)) (fun h => ⟨S + 1, ?_⟩)
    · constructor
      · intro ⟨u', v', w, q1, q2, q3⟩; exact ⟨u', v', w, q1, q3⟩
      · intro ⟨u', v', w, q1, q3⟩
        have := (gm_PS hS hJ b u' v' q1).1
        exact ⟨u', v', w, q1, by omega, q3⟩
    · refine gm_15 (wX_nextAlivePairs_4 post M0 (nI S) (nI db) (nI wb) (nI D) (nI V) (nI cp) f_nodeCount f_listSize f_built f_codeCount f_splitCount f_encoder f_messageLength a_edgeTarget a_jumpTarget a_good a_nodeBase a_nodeWeight a_arrows a_renumber a_listWord a_listTarget a_seenAt a_seenSum a_alive a_codeBase a_stepWord a_stepTarget a_pairNow a_pairNext a_sentData a_sentWord a_channelWord n) hS hV h hJ hT hal hM0 (fun M' h' => ih (u + 1) M' (by omega) (by omega) h') (S + 1) 0 M (by omega) (by omega) (gm_Mc hM fun a c ha hc => ?_)
      constructor
      · intro ⟨u', v', w, q1, q2, q3⟩; exact ⟨u', v', w, q1, Or.inl q2, q3⟩
      · intro ⟨u', v', w, q1, q2, q3⟩; exact ⟨u', v', w, q1, by omega, q3⟩
theorem gm_17 {post : Int32 → Prop} {a : Nat} (hS : S ≤ 5) (hV : V ≤ 8) (hJ : ∀ u w, u < S → J u w ≤ S) (hT : ∀ u w, u < S → w < V → a_jumpTarget (8 * u + w) = gu_e (J u w)) (hal : ∀ u, u < 5 → a_alive u = gu_i (al u))
    (hA : gm_Ans S V J al a) (hp : post (gm_v a)) :
    ∀ n b M, 12 < n + b → b ≤ a → gm_M (gm_P S V J al b) M → wX_memory_17 post (nI S) (nI db) (nI wb) (nI D) (nI V) (nI cp) f_nodeCount f_listSize f_built f_codeCount f_splitCount f_encoder f_messageLength a_edgeTarget a_jumpTarget a_good a_nodeBase a_nodeWeight a_arrows a_renumber a_listWord a_listTarget a_seenAt a_seenSum a_alive a_codeBase a_stepWord a_stepTarget a_pairNow a_pairNext a_sentData a_sentWord a_channelWord n M (nI b) := by
  have h11 := hA.2.1
  intro n
  induction n with
  | zero => intro b M z1 z2; omega
  | succ n ih =>
    intro b M z1 z2 hM
    refine pk_lt 10 b (fun h => ?_) (fun h => ?_)
    · have e : a = 11 := by omega
      subst e; exact hp
    · by_cases c : b = a
      · subst c
        have : gm_v b = nI b := if_pos h
        rw [this] at hp
        refine br_t ((gm_Mz hM).mpr fun x y _ _ q => hA.2.2 (by omega) ⟨x, y, q⟩) hp
      · obtain ⟨x, y, q⟩ := hA.1 b (by omega)
        have q' := gm_PS hS hJ b x y q
        refine br_f (fun z => (gm_Mz hM).mp z x y (by omega) (by omega) q) ⟨S + 1, ?_⟩
        exact gm_na hS hV hJ hT hal hM (fun M' hM' => nm_r (nI_1 b) (ih (b + 1) M' (by omega) (by omega) hM')) (S + 1) 0 0 (by omega) (by omega) (gm_M0 fun a c ⟨u', v', w, _, q, _⟩ => by omega)
/-- memory of the component, when built -/
theorem gm_x {post : Int32 → Prop} {a : Nat} (hb : ¬ f_built = 0) (hS : S ≤ 5) (hV : V ≤ 8) (hJ : ∀ u w, u < S → J u w ≤ S) (hT : ∀ u w, u < S → w < V → a_jumpTarget (8 * u + w) = gu_e (J u w)) (hal : ∀ u, u < 5 → a_alive u = gu_i (al u))
    (hA : gm_Ans S V J al a) (hp : post (gm_v a)) : wpX_memory post ((nI S), (nI db), (nI wb), (nI D), (nI V), (nI cp), f_nodeCount, f_listSize, f_built, f_codeCount, f_splitCount, f_encoder, f_messageLength, a_edgeTarget, a_jumpTarget, a_good, a_nodeBase, a_nodeWeight, a_arrows, a_renumber, a_listWord, a_listTarget, a_seenAt, a_seenSum, a_alive, a_codeBase, a_stepWord, a_stepTarget, a_pairNow, a_pairNext, a_sentData, a_sentWord, a_channelWord) :=
  br_f hb ⟨S + 1, gm_4 hS hal (fun M hM => ⟨13, gm_17 hS hV hJ hT hal hA hp 13 0 M (by omega) (by omega) hM⟩) (S + 1) 0 0 (by omega) (by omega) (gm_M0 fun a c q => by have := q.2; omega)⟩
end GMX
end
section
/-! memory: the reference's walk -/
theorem gu_32 {P : Nat} (h : P < 2 ^ 31) : nI P / 32 = nI (P / 32) := pk_div h (by decide) (by decide)
theorem gu_r32 {P : Nat} (h : P < 2 ^ 31) : nI P - nI P / 32 * 32 = nI (P % 32) := pk_rem h (by decide) (by decide)
/-- what is marked: index i = 32 b + k is being worked on, its words below w0 are done -/
def gm_R (S V : Nat) (J : Nat → Nat → Nat) (al : Nat → Bool) (i w0 j : Nat) : Prop :=
  (j / 32 ≤ i / 32 ∧ gm_S S V J al (j / 32) (j % 32)) ∨ (j / 32 = i / 32 + 1 ∧ ∃ t w, ((t < i % 32 ∧ w < V) ∨ (t = i % 32 ∧ w < w0)) ∧ gm_S S V J al (i / 32) t ∧ j % 32 = gm_im J al w t S)
def gm_K (S V : Nat) (J : Nat → Nat → Nat) (al : Nat → Bool) (i w0 : Nat) (mk : Nat → Int32) : Prop := ∀ j, j < 384 → (mk j = 0 ↔ ¬ gm_R S V J al i w0 j)
def gm_IA (S V : Nat) (J : Nat → Nat → Nat) (al : Nat → Bool) (i a : Nat) : Prop := (∀ b, b < a → gm_NE S V J al b) ∧ 32 * a ≤ i + 31 ∧ ∀ s, s < 32 → 32 * a + s < i → gm_S S V J al a s → ¬ gm_2 s
section GMQ
variable {S V : Nat} {J : Nat → Nat → Nat} {al : Nat → Bool}
theorem gm_Rn (hS : S ≤ 5) (hJ : ∀ u w, u < S → J u w ≤ S) {i w0 : Nat} (hw : gm_S S V J al (i / 32) (i % 32) → w0 = V) (j : Nat) : gm_R S V J al i w0 j ↔ gm_R S V J al (i + 1) 0 j := by
  have key : ∀ t w, gm_S S V J al (i / 32) t → ((t < i % 32 ∧ w < V) ∨ (t = i % 32 ∧ w < w0) ↔ t < i % 32 + 1 ∧ w < V) := by
    intro t w ht
    by_cases e : t = i % 32
    · rw [e] at ht
      have := hw ht
      omega
    · omega
  unfold gm_R
  by_cases c : i % 32 = 31
  · have e1 : (i + 1) / 32 = i / 32 + 1 := by omega
    have e2 : (i + 1) % 32 = 0 := by omega
    rw [e1, e2]
    constructor
    · rintro (⟨h1, h2⟩ | ⟨h1, t, w, h2, h3, h4⟩)
      · exact Or.inl ⟨by omega, h2⟩
      · refine Or.inl ⟨by omega, ?_⟩
        rw [h1]
        exact ⟨t, w, h3, ((key t w h3).mp h2).2, h4⟩
    · rintro (⟨h1, h2⟩ | ⟨_, t, w, h2, _⟩)
      · by_cases d : j / 32 = i / 32 + 1
        · rw [d] at h2
          obtain ⟨t, w, h3, h4, h5⟩ := h2
          have := gm_S32 hS hJ _ _ h3
          exact Or.inr ⟨d, t, w, (key t w h3).mpr ⟨by omega, h4⟩, h3, h5⟩
        · exact Or.inl ⟨by omega, h2⟩
      · omega
  · have e1 : (i + 1) / 32 = i / 32 := by omega
    have e2 : (i + 1) % 32 = i % 32 + 1 := by omega
    rw [e1, e2]
    constructor
    · rintro (h | ⟨h1, t, w, h2, h3, h4⟩)
      · exact Or.inl h
      · exact Or.inr ⟨h1, t, w, Or.inl ((key t w h3).mp h2), h3, h4⟩
    · rintro (h | ⟨h1, t, w, h2, h3, h4⟩)
      · exact Or.inl h
      · exact Or.inr ⟨h1, t, w, (key t w h3).mpr (by omega), h3, h4⟩
theorem gm_Rs {i w0 : Nat} (hk : gm_S S V J al (i / 32) (i % 32)) (j : Nat) : gm_R S V J al i (w0 + 1) j ↔ gm_R S V J al i w0 j ∨ (j / 32 = i / 32 + 1 ∧ j % 32 = gm_im J al w0 (i % 32) S) := by
  unfold gm_R
  constructor
  · rintro (h | ⟨h1, t, w, h2, h3, h4⟩)
    · exact Or.inl (Or.inl h)
    · by_cases e : t = i % 32 ∧ w = w0
      · rw [e.1, e.2] at h4; exact Or.inr ⟨h1, h4⟩
      · exact Or.inl (Or.inr ⟨h1, t, w, by omega, h3, h4⟩)
  · rintro ((h | ⟨h1, t, w, h2, h3, h4⟩) | ⟨h1, h2⟩)
    · exact Or.inl h
    · exact Or.inr ⟨h1, t, w, by omega, h3, h4⟩
    · exact Or.inr ⟨h1, i % 32, w0, by omega, hk, h2⟩
theorem gm_fin (hS : S ≤ 5) (hJ : ∀ u w, u < S → J u w ≤ S) {a : Nat} (h : gm_IA S V J al 352 a) : gm_Ans S V J al a := by
  obtain ⟨h1, h2, h3⟩ := h
  refine ⟨h1, by omega, fun c z => ?_⟩
  obtain ⟨s, hs, h4⟩ := (gm_NE2 hS hJ a).mp z
  have := gm_S32 hS hJ _ _ hs
  exact h3 s this (by omega) hs h4
end GMQ
section GMY
variable {S wb D V cp : Nat} {E G : Nat → Nat} {f_built f_codes f_made f_encoder f_places f_nodes : Int32} {a_edges a_x a_base a_weight a_number a_arrow a_mark a_list a_sum a_outW a_outS a_sent a_own a_chan a_at a_pick : Nat → Int32}
theorem gm_y148 {post : Int32 → SY → Prop} (J78 : Int32 → Int32 → (Nat → Int32) → (Nat → Int32) → (Nat → Int32) → (Nat → Int32) → (Nat → Int32) → (Nat → Int32) → (Nat → Int32) → (Nat → Int32) → (Nat → Int32) → (Nat → Int32) → (Nat → Int32) → (Nat → Int32) → (Nat → Int32) → (Nat → Int32) → (Nat → Int32) → (Nat → Int32) → Prop) (J124 : Int32 → (Nat → Int32) → (Nat → Int32) → (Nat → Int32) → (Nat → Int32) → (Nat → Int32) → (Nat → Int32) → (Nat → Int32) → (Nat → Int32) → (Nat → Int32) → (Nat → Int32) → (Nat → Int32) → (Nat → Int32) → (Nat → Int32) → (Nat → Int32) → (Nat → Int32) → (Nat → Int32) → Prop) {x2 : Int32} {i w : Nat} (hT : ∀ i, i < 10 → a_edges i = nI (E i)) (hE : ∀ i, E i ≤ S) (hS : S ≤ 5) (hwb : wb ≤ 3) (hx : ∀ u, u < S → a_x u = nI (G u) ∧ G u ≤ 3) (hi : i < 352) (hw : w < 8)
    (hk : J124 (nI (w + 1)) a_edges a_x a_base a_weight a_number a_arrow (upd a_mark (32 * (i / 32 + 1) + gm_im (fun u w => ga_j E w wb (u + 1)) (gn_B G) w (i % 32) S) 1) a_list a_sum a_outW a_outS a_sent a_own a_chan a_at a_pick) :
    ∀ n u, S < n + u → u ≤ S → wY_memory_148 post J78 J124 x2 (nI i) (nI (i % 32)) (nI w) (nI S) (nI D) (nI wb) (nI V) (nI cp) f_built f_codes f_made f_encoder f_places f_nodes a_edges a_x a_base a_weight a_number a_arrow a_mark a_list a_sum a_outW a_outS a_sent a_own a_chan a_at a_pick n (nI (gm_im (fun u w => ga_j E w wb (u + 1)) (gn_B G) w (i % 32) u)) (nI u) := by
  have hJ : ∀ u w, u < S → (fun u w => ga_j E w wb (u + 1)) u w ≤ S := fun u w hu => ga_jle hE _ _ (by omega)
  have h32 : ∀ u, u ≤ S → gm_im (fun u w => ga_j E w wb (u + 1)) (gn_B G) w (i % 32) u < 32 := gm_im32 hS hJ
  intro n
  induction n with
  | zero => intro u z1 z2; omega
  | succ n ih =>
    intro u z1 z2
    have hi32 := h32 u z2
    refine pk_le S u (fun h => ?_) (fun h => ?_)
    · have e : u = S := by omega
      subst e
      have ex : nI i - nI (i % 32) + 32 + nI (gm_im (fun u w => ga_j E w wb (u + 1)) (gn_B G) w (i % 32) u) = nI (32 * (i / 32 + 1) + gm_im (fun u w => ga_j E w wb (u + 1)) (gn_B G) w (i % 32) u) := by
        rw [pk_sub (by omega), show (32 : Int32) = nI 32 from rfl, nI_add, nI_add]; congr 1; omega
      rw [ex, nI_clamp (by omega)]
      exact ⟨vp_in_nI (by omega) (by omega), nm_r (by rw [gu_nb1]) (nm_r (nI_1 w) hk)⟩
    · refine ga_wyj hT hE hS hw hwb h ?_
      have hj := hJ u w h
      have step : gm_im (fun u w => ga_j E w wb (u + 1)) (gn_B G) w (i % 32) (u + 1) = if (i % 32).testBit u = true ∧ ga_j E w wb (u + 1) ≠ 0 ∧ gn_B G (ga_j E w wb (u + 1) - 1) = true then gm_im (fun u w => ga_j E w wb (u + 1)) (gn_B G) w (i % 32) u ||| 2 ^ (ga_j E w wb (u + 1) - 1) else gm_im (fun u w => ga_j E w wb (u + 1)) (gn_B G) w (i % 32) u := rfl
      have skip : ¬ ((i % 32).testBit u = true ∧ ga_j E w wb (u + 1) ≠ 0 ∧ gn_B G (ga_j E w wb (u + 1) - 1) = true) → wY_memory_148 post J78 J124 x2 (nI i) (nI (i % 32)) (nI w) (nI S) (nI D) (nI wb) (nI V) (nI cp) f_built f_codes f_made f_encoder f_places f_nodes a_edges a_x a_base a_weight a_number a_arrow a_mark a_list a_sum a_outW a_outS a_sent a_own a_chan a_at a_pick n (nI (gm_im (fun u w => ga_j E w wb (u + 1)) (gn_B G) w (i % 32) u)) (nI (u + 1)) := fun c => by
        rw [if_neg c] at step
        rw [← step]
        exact ih (u + 1) (by omega) (by omega)
      rw [gu_shr (by omega) (by omega), gu_a1 (Nat.lt_of_le_of_lt (Nat.div_le_self _ _) (by omega))]
      have tb : (i % 32).testBit u = decide (i % 32 / 2 ^ u % 2 = 1) := Nat.testBit_eq_decide_div_mod_eq
      have m2 := Nat.mod_lt (i % 32 / 2 ^ u) (show 0 < 2 by decide)
      refine pk_eq (i % 32 / 2 ^ u % 2) 1 (fun c => ?_) (fun c => nm_r (nI_1 u) (skip fun z => by rw [tb, decide_eq_false c] at z; exact absurd z.1 (by decide)))
      rw [decide_eq_true c] at tb
      by_cases c2 : ga_j E w wb (u + 1) = 0
      · exact br_t ((gu_elt (by omega)).mpr c2) (nm_r (nI_1 u) (skip fun z => z.2.1 c2))
      · obtain ⟨v, hv⟩ : ∃ v, ga_j E w wb (u + 1) = v + 1 := ⟨ga_j E w wb (u + 1) - 1, by omega⟩
        have hv5 : v < S := by have : ga_j E w wb (u + 1) ≤ S := hj; omega
        rw [hv, Nat.add_sub_cancel] at step skip
        have ex := hx v hv5
        rw [hv, gu_es]
        refine br_f (nI_pos (by omega)) ⟨vp_in_nI (by omega) (by omega), pk_le (G v) 0 (fun c3 => nm_r (nI_1 u) (skip fun z => ?_)) (fun c3 => ?_) (by rw [nI_clamp (by omega)]; exact ex.1)⟩
        · have := of_decide_eq_true z.2.2; omega
        · have cc : (i % 32).testBit u = true ∧ v + 1 ≠ 0 ∧ gn_B G v = true := ⟨tb, by omega, decide_eq_true c3⟩
          rw [if_pos cc] at step
          exact nm_r (e' := nI (gm_im (fun u w => ga_j E w wb (u + 1)) (gn_B G) w (i % 32) (u + 1))) (by rw [gm_or _ hi32 _ (by omega), step]) (nm_r (nI_1 u) (ih (u + 1) (by omega) (by omega)))
theorem gm_y124 {post : Int32 → SY → Prop} (J78 : Int32 → Int32 → (Nat → Int32) → (Nat → Int32) → (Nat → Int32) → (Nat → Int32) → (Nat → Int32) → (Nat → Int32) → (Nat → Int32) → (Nat → Int32) → (Nat → Int32) → (Nat → Int32) → (Nat → Int32) → (Nat → Int32) → (Nat → Int32) → (Nat → Int32) → (Nat → Int32) → (Nat → Int32) → Prop) {x2 : Int32} {i : Nat} (hT : ∀ i, i < 10 → a_edges i = nI (E i)) (hE : ∀ i, E i ≤ S) (hS : S ≤ 5) (hV : V ≤ 8) (hwb : wb ≤ 3) (hx : ∀ u, u < S → a_x u = nI (G u) ∧ G u ≤ 3) (hi : i < 352)
    (hk : ∀ mk, gm_K S V (fun u w => ga_j E w wb (u + 1)) (gn_B G) (i + 1) 0 mk → J78 x2 (nI (i + 1)) a_edges a_x a_base a_weight a_number a_arrow mk a_list a_sum a_outW a_outS a_sent a_own a_chan a_at a_pick) :
    ∀ n w mk, V < n + w → w ≤ V → gm_K S V (fun u w => ga_j E w wb (u + 1)) (gn_B G) i w mk → wY_memory_124 post J78 x2 (nI i) (nI (i % 32)) (nI S) (nI D) (nI wb) (nI V) (nI cp) f_built f_codes f_made f_encoder f_places f_nodes n (nI w) a_edges a_x a_base a_weight a_number a_arrow mk a_list a_sum a_outW a_outS a_sent a_own a_chan a_at a_pick := by
  have hJ : ∀ u w, u < S → (fun u w => ga_j E w wb (u + 1)) u w ≤ S := fun u w hu => ga_jle hE _ _ (by omega)
  intro n
  induction n with
  | zero => intro w mk z1 z2; omega
  | succ n ih =>
    intro w mk z1 z2 hK
    have hself : mk i = 0 ↔ ¬ gm_S S V (fun u w => ga_j E w wb (u + 1)) (gn_B G) (i / 32) (i % 32) := by
      rw [hK i (by omega)]
      constructor
      · intro h z; exact h (Or.inl ⟨Nat.le_refl _, z⟩)
      · rintro h (⟨_, z⟩ | ⟨z, _⟩)
        · exact h z
        · omega
    have fin : (gm_S S V (fun u w => ga_j E w wb (u + 1)) (gn_B G) (i / 32) (i % 32) → w = V) → J78 x2 (nI (i + 1)) a_edges a_x a_base a_weight a_number a_arrow mk a_list a_sum a_outW a_outS a_sent a_own a_chan a_at a_pick := fun h => hk mk fun j hj => by
      rw [hK j hj, gm_Rn hS hJ h j]
    refine pk_le V w (fun h => nm_r (nI_1 i) (fin fun _ => by omega)) (fun h => ⟨vp_in_nI (by omega) (by omega), ?_⟩)
    rw [nI_clamp (by omega)]
    refine br_c (fun c => nm_r (nI_1 i) (fin fun z => absurd z (hself.mp c))) (fun c => ⟨S + 1, ?_⟩)
    have hs : gm_S S V (fun u w => ga_j E w wb (u + 1)) (gn_B G) (i / 32) (i % 32) := Classical.byContradiction fun z => c (hself.mpr z)
    have h32 : gm_im (fun u w => ga_j E w wb (u + 1)) (gn_B G) w (i % 32) S < 32 := gm_im32 hS hJ S (Nat.le_refl _)
    refine gm_y148 J78 (wY_memory_124 post J78 x2 (nI i) (nI (i % 32)) (nI S) (nI D) (nI wb) (nI V) (nI cp) f_built f_codes f_made f_encoder f_places f_nodes n) hT hE hS hwb hx hi (by omega) (ih (w + 1) _ (by omega) (by omega) fun j hj => ?_) (S + 1) 0 (by omega) (by omega)
    rw [gm_Rs hs]
    by_cases e : j = 32 * (i / 32 + 1) + gm_im (fun u w => ga_j E w wb (u + 1)) (gn_B G) w (i % 32) S
    · rw [e, pk_us]
      constructor
      · intro z; exact absurd z (by decide)
      · intro z; exact absurd (Or.inr ⟨by omega, by omega⟩) z
    · rw [pk_un e, hK j hj]
      constructor
      · rintro h1 (h2 | ⟨h2, h3⟩)
        · exact h1 h2
        · omega
      · intro h1 h2; exact h1 (Or.inl h2)
theorem gm_y78 {post : Int32 → SY → Prop} (hT : ∀ i, i < 10 → a_edges i = nI (E i)) (hE : ∀ i, E i ≤ S) (hS : S ≤ 5) (hV : V ≤ 8) (hwb : wb ≤ 3) (hx : ∀ u, u < S → a_x u = nI (G u) ∧ G u ≤ 3)
    (hp : ∀ a mk, gm_Ans S V (fun u w => ga_j E w wb (u + 1)) (gn_B G) a → post (gm_v a) ((nI S), (nI D), (nI wb), (nI V), (nI cp), f_built, f_codes, f_made, f_encoder, f_places, f_nodes, a_edges, a_x, a_base, a_weight, a_number, a_arrow, mk, a_list, a_sum, a_outW, a_outS, a_sent, a_own, a_chan, a_at, a_pick)) :
    ∀ n i a mk, 352 < n + i → i ≤ 352 → gm_K S V (fun u w => ga_j E w wb (u + 1)) (gn_B G) i 0 mk → gm_IA S V (fun u w => ga_j E w wb (u + 1)) (gn_B G) i a → wY_memory_78 post (nI S) (nI D) (nI wb) (nI V) (nI cp) f_built f_codes f_made f_encoder f_places f_nodes n (nI a) (nI i) a_edges a_x a_base a_weight a_number a_arrow mk a_list a_sum a_outW a_outS a_sent a_own a_chan a_at a_pick := by
  have hJ : ∀ u w, u < S → (fun u w => ga_j E w wb (u + 1)) u w ≤ S := fun u w hu => ga_jle hE _ _ (by omega)
  intro n
  induction n with
  | zero => intro i a mk z1 z2; omega
  | succ n ih =>
    intro i a mk z1 z2 hK hA
    have ha := hA.2.1
    refine pk_le 352 i (fun h => ?_) (fun h => ⟨by decide, nm_r (gu_r32 (by omega)) ⟨vp_in_nI (by omega) (by omega), ?_⟩⟩)
    · have e : i = 352 := by omega
      subst e
      have an := gm_fin hS hJ hA
      have := hp a mk an
      have eg : gm_v a = if a ≤ 10 then nI a else -11 := rfl
      refine pk_le a 10 (fun c => ?_) (fun c => ?_)
      · rw [eg, if_pos c] at this; exact this
      · rw [eg, if_neg (by omega)] at this; exact this
    · have hself : mk i = 0 ↔ ¬ gm_S S V (fun u w => ga_j E w wb (u + 1)) (gn_B G) (i / 32) (i % 32) := by
        rw [hK i (by omega)]
        constructor
        · intro h z; exact h (Or.inl ⟨Nat.le_refl _, z⟩)
        · rintro h (⟨_, z⟩ | ⟨z, _⟩)
          · exact h z
          · omega
      have go : ∀ a', gm_IA S V (fun u w => ga_j E w wb (u + 1)) (gn_B G) (i + 1) a' → ∃ n124, wY_memory_124 post (wY_memory_78 post (nI S) (nI D) (nI wb) (nI V) (nI cp) f_built f_codes f_made f_encoder f_places f_nodes n) (nI a') (nI i) (nI (i % 32)) (nI S) (nI D) (nI wb) (nI V) (nI cp) f_built f_codes f_made f_encoder f_places f_nodes n124 0 a_edges a_x a_base a_weight a_number a_arrow mk a_list a_sum a_outW a_outS a_sent a_own a_chan a_at a_pick := fun a' hA' =>
        ⟨V + 1, gm_y124 (wY_memory_78 post (nI S) (nI D) (nI wb) (nI V) (nI cp) f_built f_codes f_made f_encoder f_places f_nodes n) hT hE hS hV hwb hx h (fun mk' hK' => ih (i + 1) a' mk' (by omega) (by omega) hK' hA') (V + 1) 0 mk (by omega) (by omega) hK⟩
      have keep : (i / 32 = a → ¬ (gm_S S V (fun u w => ga_j E w wb (u + 1)) (gn_B G) (i / 32) (i % 32) ∧ gm_2 (i % 32))) → gm_IA S V (fun u w => ga_j E w wb (u + 1)) (gn_B G) (i + 1) a := fun hn => by
        refine ⟨hA.1, by omega, fun s hs hlt hS' h2 => ?_⟩
        by_cases e : 32 * a + s = i
        · have e1 : i / 32 = a := by omega
          have e2 : i % 32 = s := by omega
          have := hn e1
          rw [e1, e2] at this
          exact this ⟨hS', h2⟩
        · exact hA.2.2 s hs (by omega) hS' h2
      rw [nI_clamp (by omega)]
      refine br_c (fun c => go a (keep fun _ z => (hself.mp c) z.1)) (fun c => ?_)
      have hs : gm_S S V (fun u w => ga_j E w wb (u + 1)) (gn_B G) (i / 32) (i % 32) := Classical.byContradiction fun z => c (hself.mpr z)
      refine br_c (fun c2 => go a (keep fun _ z => (gm_tw (by omega)).mp c2 z.2)) (fun c2 => ⟨by decide, ?_⟩)
      have h2 : gm_2 (i % 32) := Classical.byContradiction fun z => c2 ((gm_tw (by omega)).mpr z)
      rw [gu_32 (by omega)]
      refine pk_eq (i / 32) a (fun c3 => nm_r (nI_1 a) (go (a + 1) ⟨fun b hb => ?_, by omega, fun s hs' hlt => by omega⟩)) (fun c3 => go a (keep fun z => absurd z c3))
      by_cases e : b = a
      · subst e
        rw [c3] at hs
        exact (gm_NE2 hS hJ b).mpr ⟨_, hs, h2⟩
      · exact hA.1 b (by omega)
theorem gm_y47 {post : Int32 → SY → Prop} {s0 : Nat} {x2 : Int32} (hk : ∀ mk, (∀ j, j < 384 → (mk j = 0 ↔ ¬ j = s0)) → ∃ n78, wY_memory_78 post (nI S) (nI D) (nI wb) (nI V) (nI cp) f_built f_codes f_made f_encoder f_places f_nodes n78 x2 0 a_edges a_x a_base a_weight a_number a_arrow mk a_list a_sum a_outW a_outS a_sent a_own a_chan a_at a_pick) (h0 : s0 < 32) :
    ∀ n j mk, 384 < n + j → j ≤ 384 → (∀ j', j' < j → (mk j' = 0 ↔ ¬ j' = s0)) → wY_memory_47 post (nI s0) x2 (nI S) (nI D) (nI wb) (nI V) (nI cp) f_built f_codes f_made f_encoder f_places f_nodes n (nI j) a_edges a_x a_base a_weight a_number a_arrow mk a_list a_sum a_outW a_outS a_sent a_own a_chan a_at a_pick := by
  intro n
  induction n with
  | zero => intro j mk z1 z2; omega
  | succ n ih =>
    intro j mk z1 z2 hI
    refine pk_le 384 j (fun h => hk mk fun j' hj' => hI j' (by omega)) (fun h => pk_eq j s0 (fun c => ⟨vp_in_nI (by omega) (by omega), nm_r (e' := upd mk j 1) (by rw [nI_clamp (by omega), gu_nb1]) (nm_r (nI_1 j) (ih (j + 1) _ (by omega) (by omega) fun j' hj' => ?_))⟩) (fun c => ⟨vp_in_nI (by omega) (by omega), nm_r (e' := upd mk j 0) (by rw [nI_clamp (by omega), gu_nb0]) (nm_r (nI_1 j) (ih (j + 1) _ (by omega) (by omega) fun j' hj' => ?_))⟩))
    · by_cases e : j' = j
      · subst e; rw [pk_us]; exact ⟨fun z => absurd z (by decide), fun z => absurd c z⟩
      · rw [pk_un e]; exact hI j' (by omega)
    · by_cases e : j' = j
      · subst e; rw [pk_us]; exact ⟨fun _ => c, fun _ => rfl⟩
      · rw [pk_un e]; exact hI j' (by omega)
theorem gm_y16 {post : Int32 → SY → Prop} {x2 : Int32} (hS : S ≤ 5) (hx : ∀ u, u < S → a_x u = nI (G u) ∧ G u ≤ 3)
    (hk : ∃ n47, wY_memory_47 post (nI (gm_am (gn_B G) S)) x2 (nI S) (nI D) (nI wb) (nI V) (nI cp) f_built f_codes f_made f_encoder f_places f_nodes n47 0 a_edges a_x a_base a_weight a_number a_arrow a_mark a_list a_sum a_outW a_outS a_sent a_own a_chan a_at a_pick) :
    ∀ n u, S < n + u → u ≤ S → wY_memory_16 post x2 (nI S) (nI D) (nI wb) (nI V) (nI cp) f_built f_codes f_made f_encoder f_places f_nodes a_edges a_x a_base a_weight a_number a_arrow a_mark a_list a_sum a_outW a_outS a_sent a_own a_chan a_at a_pick n (nI (gm_am (gn_B G) u)) (nI u) := by
  intro n
  induction n with
  | zero => intro u z1 z2; omega
  | succ n ih =>
    intro u z1 z2
    refine pk_le S u (fun h => ?_) (fun h => ⟨vp_in_nI (by omega) (by omega), ?_⟩)
    · have e : u = S := by omega
      subst e; exact hk
    · have step : gm_am (gn_B G) (u + 1) = if gn_B G u = true then gm_am (gn_B G) u ||| 2 ^ u else gm_am (gn_B G) u := rfl
      have hx' := hx u h
      refine pk_le (G u) 0 (fun c => nm_r (nI_1 u) ?_) (fun c => nm_r (e' := nI (gm_am (gn_B G) (u + 1))) ?_ (nm_r (nI_1 u) (ih (u + 1) (by omega) (by omega)))) (by rw [nI_clamp (by omega)]; exact hx'.1)
      · rw [if_neg (fun z => by have := of_decide_eq_true z; omega)] at step
        rw [← step]
        exact ih (u + 1) (by omega) (by omega)
      · rw [gm_or _ (gm_am32 u (by omega)) _ (by omega), step, if_pos (show gn_B G u = true from decide_eq_true c)]
/-- memory of the reference, when built -/
theorem gm_y {post : Int32 → SY → Prop} (hb : ¬ f_built = 0) (hT : ∀ i, i < 10 → a_edges i = nI (E i)) (hE : ∀ i, E i ≤ S) (hS : S ≤ 5) (hV : V ≤ 8) (hwb : wb ≤ 3) (hx : ∀ u, u < S → a_x u = nI (G u) ∧ G u ≤ 3)
    (hp : ∀ a mk, gm_Ans S V (fun u w => ga_j E w wb (u + 1)) (gn_B G) a → post (gm_v a) ((nI S), (nI D), (nI wb), (nI V), (nI cp), f_built, f_codes, f_made, f_encoder, f_places, f_nodes, a_edges, a_x, a_base, a_weight, a_number, a_arrow, mk, a_list, a_sum, a_outW, a_outS, a_sent, a_own, a_chan, a_at, a_pick)) : wpY_memory post ((nI S), (nI D), (nI wb), (nI V), (nI cp), f_built, f_codes, f_made, f_encoder, f_places, f_nodes, a_edges, a_x, a_base, a_weight, a_number, a_arrow, a_mark, a_list, a_sum, a_outW, a_outS, a_sent, a_own, a_chan, a_at, a_pick) := by
  have h32 := gm_am32 (al := gn_B G) S hS
  refine br_f hb ⟨S + 1, gm_y16 hS hx ⟨385, gm_y47 (fun mk hmk => ⟨353, gm_y78 hT hE hS hV hwb hx hp 353 0 0 mk (by omega) (by omega) (fun j hj => ?_) ⟨fun b h => by omega, by omega, fun s h1 h2 => by omega⟩⟩) h32 385 0 a_mark (by omega) (by omega) (fun j h => by omega)⟩ (S + 1) 0 (by omega) (by omega)⟩
  rw [hmk j hj]
  unfold gm_R
  constructor
  · rintro h1 (⟨h2, h3⟩ | ⟨_, t, w, h2, _⟩)
    · have e : j / 32 = 0 := by omega
      rw [e] at h3
      have : j % 32 = gm_am (gn_B G) S := h3
      omega
    · omega
  · intro h1 h2
    refine h1 (Or.inl ⟨by omega, ?_⟩)
    rw [show j / 32 = 0 by omega]
    show j % 32 = gm_am (gn_B G) S
    omega
end GMY
end
section
/-! anticipation: pure, and the component's walk -/
def gp_L (C D : Nat) (W T : Nat → Nat → Nat) : Nat → Nat → Nat → Prop
  | 0, s, t => s = t ∧ s < C
  | a + 1, x, y => ∃ s t d e, gp_L C D W T a s t ∧ d < D ∧ e < D ∧ W s d = W t e ∧ (a = 0 → d ≠ e) ∧ x = T s d ∧ y = T t e
def gp_NE (C D : Nat) (W T : Nat → Nat → Nat) (a : Nat) : Prop := ∃ x y, gp_L C D W T a x y
def gp_Ans (C D : Nat) (W T : Nat → Nat → Nat) (a : Nat) : Prop := (∀ b, b < a → gp_NE C D W T (b + 1)) ∧ ¬ gp_NE C D W T (a + 1)
section GPP
variable {C D V M : Nat} {W T : Nat → Nat → Nat}
theorem gp_Lb (hOK : gc_OK D V C M W T) : ∀ a s t, gp_L C D W T a s t → s < C ∧ t < C := by
  intro a
  induction a with
  | zero => intro s t ⟨h1, h2⟩; omega
  | succ a ih =>
    intro x y ⟨s, t, d, e, h, hd, he, _, _, hx, hy⟩
    obtain ⟨h1, h2⟩ := ih s t h
    rw [hx, hy]
    exact ⟨(hOK.2.1 s d h1 hd).2, (hOK.2.1 t e h2 he).2⟩
theorem gp_J : ∀ k j x y, gp_L C D W T (k + 1) x y → gc_J D W T j x y → ∃ c d e, c < C ∧ d < D ∧ e < D ∧ d ≠ e ∧ W c d = W c e ∧ gc_J D W T (k + j) (T c d) (T c e) := by
  intro k
  induction k with
  | zero =>
    intro j x y ⟨s, t, d, e, ⟨h1, h2⟩, hd, he, hw, hne, hx, hy⟩ hj
    subst h1
    rw [hx, hy] at hj
    exact ⟨s, d, e, h2, hd, he, hne rfl, hw, by rw [Nat.zero_add]; exact hj⟩
  | succ k ih =>
    intro j x y ⟨s, t, d, e, h, hd, he, hw, _, hx, hy⟩ hj
    rw [hx, hy] at hj
    obtain ⟨c, d', e', h1⟩ := ih (j + 1) s t h ⟨d, e, hd, he, hw, hj⟩
    refine ⟨c, d', e', ?_⟩
    rw [show k + 1 + j = k + (j + 1) by omega]
    exact h1
theorem gp_M1 (hOK : gc_OK D V C M W T) : ¬ gp_NE C D W T (M + 1) := by
  intro ⟨x, y, h⟩
  obtain ⟨c, d, e, h1, h2, h3, h4, h5, h6⟩ := gp_J M 0 x y h trivial
  exact hOK.2.2.1 c d e h1 h2 h3 h4 h5 h6
theorem gp_le (hOK : gc_OK D V C M W T) {a : Nat} (h : ∀ b, b < a → gp_NE C D W T (b + 1)) : a ≤ M := by
  rcases Nat.lt_or_ge M a with z | z
  · exact absurd (h M z) (gp_M1 hOK)
  · exact z
theorem gp_ex (hOK : gc_OK D V C M W T) : ∃ a, gp_Ans C D W T a := by
  obtain ⟨a, h1, h2⟩ := pk_least (fun a => ¬ gp_NE C D W T (a + 1)) ⟨M, gp_M1 hOK⟩
  exact ⟨a, fun b hb => Classical.byContradiction fun z => h2 b hb z, h1⟩
theorem gp_un {a a' : Nat} (h : gp_Ans C D W T a) (h' : gp_Ans C D W T a') : a = a' := by
  rcases Nat.lt_trichotomy a a' with c | c | c
  · exact absurd (h'.1 a c) h.2
  · exact c
  · exact absurd (h.1 a' c) h'.2
end GPP
def gp_M (Q : Nat → Nat → Prop) (pn : Nat → Int32) : Prop := ∀ c i, c < 15 → i < 32 → (bt (pn c) i = true ↔ Q c i)
theorem gp_Mc {Q Q' : Nat → Nat → Prop} {pn : Nat → Int32} (h : gp_M Q pn) (e : ∀ a c, Q a c ↔ Q' a c) : gp_M Q' pn := fun c i hc hi => by rw [h c i hc hi]; exact e c i
theorem gp_Mo {Q : Nat → Nat → Prop} {pn : Nat → Int32} {x y : Nat} (h : gp_M Q pn) (hx : x < 15) (hy : y < 15) : gp_M (fun a c => Q a c ∨ (a = x ∧ c = y)) (upd pn x (pn x ||| ((1 : Int32) <<< (nI y &&& 31)))) := by
  intro c i hc hi
  by_cases e : c = x
  · subst e
    rw [pk_us, gu_or (by omega) hi, Bool.or_eq_true, h c i hc hi, decide_eq_true_eq]
    constructor
    · rintro (q | q)
      · exact Or.inl q
      · exact Or.inr ⟨rfl, q⟩
    · rintro (q | q)
      · exact Or.inl q
      · exact Or.inr q.2
  · rw [pk_un e, h c i hc hi]
    constructor
    · intro q; exact Or.inl q
    · rintro (q | q)
      · exact q
      · exact absurd q.1 e
theorem gp_M0 {Q : Nat → Nat → Prop} {pn : Nat → Int32} (h : ∀ c, c < 15 → pn c = 0) (hq : ∀ a c, ¬ Q a c) : gp_M Q pn := by
  intro c i hc hi
  rw [h c hc, b_0]
  exact ⟨fun z => absurd z (by decide), fun z => absurd z (hq _ _)⟩
def gp_F (Q : Nat → Nat → Prop) (x1 : Int32) : Prop := (x1 = 0 ∧ ∀ x y, ¬ Q x y) ∨ (x1 = 1 ∧ ∃ x y, Q x y)
theorem gp_Fc {Q Q' : Nat → Nat → Prop} {x1 : Int32} (h : gp_F Q x1) (e : ∀ a c, Q a c ↔ Q' a c) : gp_F Q' x1 := by
  rcases h with ⟨h1, h2⟩ | ⟨h1, x, y, h2⟩
  · exact Or.inl ⟨h1, fun x y z => h2 x y ((e x y).mpr z)⟩
  · exact Or.inr ⟨h1, x, y, (e x y).mp h2⟩
theorem gp_Fn {Q : Nat → Nat → Prop} {x1 : Int32} (h : gp_F Q x1) : narrow .boolean (.int x1) = .int x1 := by
  rcases h with ⟨h1, _⟩ | ⟨h1, _⟩ <;> rw [h1] <;> rfl
section GPX
variable {S db wb D V cp C M : Nat} {W T : Nat → Nat → Nat} {f_nodeCount f_listSize f_built f_splitCount f_encoder f_messageLength : Int32} {a_edgeTarget a_jumpTarget a_good a_nodeBase a_nodeWeight a_arrows a_renumber a_listWord a_listTarget a_seenAt a_seenSum a_alive a_codeBase a_stepWord a_stepTarget a_pairNow a_pairNext a_sentData a_sentWord a_channelWord : Nat → Int32}
/-- first pairs from what has been gone through -/
def gp_1 (D : Nat) (W T : Nat → Nat → Nat) (R : Nat → Nat → Nat → Prop) (x y : Nat) : Prop := ∃ c d e, R c d e ∧ d < D ∧ e < D ∧ d ≠ e ∧ W c d = W c e ∧ x = T c d ∧ y = T c e
theorem gp_46 {post : Int32 → SX → Prop} (J25 : Int32 → Int32 → (Nat → Int32) → (Nat → Int32) → (Nat → Int32) → (Nat → Int32) → (Nat → Int32) → (Nat → Int32) → (Nat → Int32) → (Nat → Int32) → (Nat → Int32) → (Nat → Int32) → (Nat → Int32) → (Nat → Int32) → (Nat → Int32) → (Nat → Int32) → (Nat → Int32) → (Nat → Int32) → (Nat → Int32) → (Nat → Int32) → (Nat → Int32) → (Nat → Int32) → Prop) (J35 : Int32 → Int32 → (Nat → Int32) → (Nat → Int32) → (Nat → Int32) → (Nat → Int32) → (Nat → Int32) → (Nat → Int32) → (Nat → Int32) → (Nat → Int32) → (Nat → Int32) → (Nat → Int32) → (Nat → Int32) → (Nat → Int32) → (Nat → Int32) → (Nat → Int32) → (Nat → Int32) → (Nat → Int32) → (Nat → Int32) → (Nat → Int32) → (Nat → Int32) → (Nat → Int32) → Prop) {c d : Nat} (hOK : gc_OK D V C M W T) (hD : D ≤ 4) (hc : c < C) (hd : d < D)
    (hst : ∀ c d, c < C → d < D → a_stepWord (4 * c + d) = nI (W c d) ∧ a_stepTarget (4 * c + d) = nI (T c d)) (hV : V ≤ 8)
    (hJ : ∀ x1 pn, gp_M (gp_1 D W T fun c' d' e' => c' < c ∨ (c' = c ∧ d' < d + 1)) pn → gp_F (gp_1 D W T fun c' d' e' => c' < c ∨ (c' = c ∧ d' < d + 1)) x1 → J35 x1 (nI (d + 1)) a_edgeTarget a_jumpTarget a_good a_nodeBase a_nodeWeight a_arrows a_renumber a_listWord a_listTarget a_seenAt a_seenSum a_alive a_codeBase a_stepWord a_stepTarget pn a_pairNext a_sentData a_sentWord a_channelWord) :
    ∀ n e x1 pn, D < n + e → e ≤ D → gp_M (gp_1 D W T fun c' d' e' => c' < c ∨ (c' = c ∧ (d' < d ∨ (d' = d ∧ e' < e)))) pn → gp_F (gp_1 D W T fun c' d' e' => c' < c ∨ (c' = c ∧ (d' < d ∨ (d' = d ∧ e' < e)))) x1 →
      wX_firstCodePairs_46 post J25 J35 (nI c) (nI d) (nI S) (nI db) (nI wb) (nI D) (nI V) (nI cp) f_nodeCount f_listSize f_built (nI C) f_splitCount f_encoder f_messageLength n x1 (nI e) a_edgeTarget a_jumpTarget a_good a_nodeBase a_nodeWeight a_arrows a_renumber a_listWord a_listTarget a_seenAt a_seenSum a_alive a_codeBase a_stepWord a_stepTarget pn a_pairNext a_sentData a_sentWord a_channelWord := by
  have hC := hOK.1
  intro n
  induction n with
  | zero => intro e x1 pn z1 z2; omega
  | succ n ih =>
    intro e x1 pn z1 z2 hM hF
    refine pk_le D e (fun h => nm_r (nI_1 d) ?_) (fun h => nm_r (gu_4 c d) (nm_r (gu_4 c e) ?_))
    · have q : ∀ x y, gp_1 D W T (fun c' d' e' => c' < c ∨ (c' = c ∧ (d' < d ∨ (d' = d ∧ e' < e)))) x y ↔ gp_1 D W T (fun c' d' e' => c' < c ∨ (c' = c ∧ d' < d + 1)) x y := fun x y => by
        constructor
        · intro ⟨c', d', e', q1, q2⟩; exact ⟨c', d', e', by omega, q2⟩
        · intro ⟨c', d', e', q1, q2, q3, q4⟩; exact ⟨c', d', e', by omega, q2, q3, q4⟩
      exact hJ x1 pn (gp_Mc hM q) (gp_Fc hF q)
    · have skip : ¬ (d ≠ e ∧ W c d = W c e) → wX_firstCodePairs_46 post J25 J35 (nI c) (nI d) (nI S) (nI db) (nI wb) (nI D) (nI V) (nI cp) f_nodeCount f_listSize f_built (nI C) f_splitCount f_encoder f_messageLength n x1 (nI (e + 1)) a_edgeTarget a_jumpTarget a_good a_nodeBase a_nodeWeight a_arrows a_renumber a_listWord a_listTarget a_seenAt a_seenSum a_alive a_codeBase a_stepWord a_stepTarget pn a_pairNext a_sentData a_sentWord a_channelWord := fun hn => by
        have q : ∀ x y, gp_1 D W T (fun c' d' e' => c' < c ∨ (c' = c ∧ (d' < d ∨ (d' = d ∧ e' < e)))) x y ↔ gp_1 D W T (fun c' d' e' => c' < c ∨ (c' = c ∧ (d' < d ∨ (d' = d ∧ e' < e + 1)))) x y := fun x y => by
          constructor
          · intro ⟨c', d', e', q1, q2⟩; exact ⟨c', d', e', by omega, q2⟩
          · intro ⟨c', d', e', q1, q2, q3, q4, q5, q6⟩
            by_cases z : c' = c ∧ d' = d ∧ e' = e
            · obtain ⟨rfl, rfl, rfl⟩ := z
              exact absurd ⟨q4, q5⟩ hn
            · exact ⟨c', d', e', by omega, q2, q3, q4, q5, q6⟩
        exact ih (e + 1) x1 pn (by omega) (by omega) (gp_Mc hM q) (gp_Fc hF q)
      refine pk_eq d e (fun c1 => nm_r (nI_1 e) (skip fun z => z.1 c1)) (fun c1 => ⟨vp_in_nI (by omega) (by omega), vp_in_nI (by omega) (by omega), ?_⟩)
      obtain ⟨s1, s2⟩ := hst c d hc hd
      obtain ⟨s3, s4⟩ := hst c e hc h
      obtain ⟨o1, o2⟩ := hOK.2.1 c d hc hd
      obtain ⟨o3, o4⟩ := hOK.2.1 c e hc h
      rw [nI_clamp (by omega), nI_clamp (by omega), s1, s2, s3, s4]
      refine pk_eq (W c d) (W c e) (fun c2 => ⟨vp_in_nI (by omega) (by omega), vp_in_nI (by omega) (by omega), vp_in_nI (by omega) (by omega), vp_in_nI (by omega) (by omega), ?_⟩) (fun c2 => nm_r (nI_1 e) (skip fun z => c2 z.2))
      rw [nI_clamp (by omega)]
      refine nm_e (nm_r (nI_1 e) ?_)
      have q : ∀ x y, (gp_1 D W T (fun c' d' e' => c' < c ∨ (c' = c ∧ (d' < d ∨ (d' = d ∧ e' < e)))) x y ∨ (x = T c d ∧ y = T c e)) ↔ gp_1 D W T (fun c' d' e' => c' < c ∨ (c' = c ∧ (d' < d ∨ (d' = d ∧ e' < e + 1)))) x y := fun x y => by
        constructor
        · rintro (⟨c', d', e', q1, q2⟩ | ⟨q1, q2⟩)
          · exact ⟨c', d', e', by omega, q2⟩
          · exact ⟨c, d, e, by omega, hd, h, c1, c2, q1, q2⟩
        · intro ⟨c', d', e', q1, q2, q3, q4, q5, q6⟩
          by_cases z : c' = c ∧ d' = d ∧ e' = e
          · obtain ⟨rfl, rfl, rfl⟩ := z
            exact Or.inr q6
          · exact Or.inl ⟨c', d', e', by omega, q2, q3, q4, q5, q6⟩
      exact ih (e + 1) 1 _ (by omega) (by omega) (gp_Mc (gp_Mo hM (by omega) (by omega)) q) (Or.inr ⟨rfl, T c d, T c e, c, d, e, by omega, hd, h, c1, c2, rfl, rfl⟩)
theorem gp_35 {post : Int32 → SX → Prop} (J25 : Int32 → Int32 → (Nat → Int32) → (Nat → Int32) → (Nat → Int32) → (Nat → Int32) → (Nat → Int32) → (Nat → Int32) → (Nat → Int32) → (Nat → Int32) → (Nat → Int32) → (Nat → Int32) → (Nat → Int32) → (Nat → Int32) → (Nat → Int32) → (Nat → Int32) → (Nat → Int32) → (Nat → Int32) → (Nat → Int32) → (Nat → Int32) → (Nat → Int32) → (Nat → Int32) → Prop) {c : Nat} (hOK : gc_OK D V C M W T) (hD : D ≤ 4) (hc : c < C)
    (hst : ∀ c d, c < C → d < D → a_stepWord (4 * c + d) = nI (W c d) ∧ a_stepTarget (4 * c + d) = nI (T c d)) (hV : V ≤ 8)
    (hJ : ∀ x1 pn, gp_M (gp_1 D W T fun c' _ _ => c' < c + 1) pn → gp_F (gp_1 D W T fun c' _ _ => c' < c + 1) x1 → J25 x1 (nI (c + 1)) a_edgeTarget a_jumpTarget a_good a_nodeBase a_nodeWeight a_arrows a_renumber a_listWord a_listTarget a_seenAt a_seenSum a_alive a_codeBase a_stepWord a_stepTarget pn a_pairNext a_sentData a_sentWord a_channelWord) :
    ∀ n d x1 pn, D < n + d → d ≤ D → gp_M (gp_1 D W T fun c' d' e' => c' < c ∨ (c' = c ∧ d' < d)) pn → gp_F (gp_1 D W T fun c' d' e' => c' < c ∨ (c' = c ∧ d' < d)) x1 →
      wX_firstCodePairs_35 post J25 (nI c) (nI S) (nI db) (nI wb) (nI D) (nI V) (nI cp) f_nodeCount f_listSize f_built (nI C) f_splitCount f_encoder f_messageLength n x1 (nI d) a_edgeTarget a_jumpTarget a_good a_nodeBase a_nodeWeight a_arrows a_renumber a_listWord a_listTarget a_seenAt a_seenSum a_alive a_codeBase a_stepWord a_stepTarget pn a_pairNext a_sentData a_sentWord a_channelWord := by
  intro n
  induction n with
  | zero => intro d x1 pn z1 z2; omega
  | succ n ih =>
    intro d x1 pn z1 z2 hM hF
    have hC := hOK.1
    refine pk_le D d (fun h => nm_r (nI_1 c) ?_) (fun h => ⟨D + 1, ?_⟩)
    · have q : ∀ x y, gp_1 D W T (fun c' d' e' => c' < c ∨ (c' = c ∧ d' < d)) x y ↔ gp_1 D W T (fun c' _ _ => c' < c + 1) x y := fun x y => by
        constructor
        · intro ⟨c', d', e', q1, q2⟩; exact ⟨c', d', e', by omega, q2⟩
        · intro ⟨c', d', e', q1, q2, q3⟩; exact ⟨c', d', e', by omega, q2, q3⟩
      exact hJ x1 pn (gp_Mc hM q) (gp_Fc hF q)
    · have q : ∀ x y, gp_1 D W T (fun c' d' e' => c' < c ∨ (c' = c ∧ d' < d)) x y ↔ gp_1 D W T (fun c' d' e' => c' < c ∨ (c' = c ∧ (d' < d ∨ (d' = d ∧ e' < 0)))) x y := fun x y => by
        constructor
        · intro ⟨c', d', e', q1, q2⟩; exact ⟨c', d', e', by omega, q2⟩
        · intro ⟨c', d', e', q1, q2⟩; exact ⟨c', d', e', by omega, q2⟩
      exact gp_46 J25 (wX_firstCodePairs_35 post J25 (nI c) (nI S) (nI db) (nI wb) (nI D) (nI V) (nI cp) f_nodeCount f_listSize f_built (nI C) f_splitCount f_encoder f_messageLength n) hOK hD hc h hst hV (fun x1' pn' h1 h2 => ih (d + 1) x1' pn' (by omega) (by omega) h1 h2) (D + 1) 0 x1 pn (by omega) (by omega) (gp_Mc hM q) (gp_Fc hF q)
theorem gp_25 {post : Int32 → SX → Prop} (hOK : gc_OK D V C M W T) (hD : D ≤ 4)
    (hst : ∀ c d, c < C → d < D → a_stepWord (4 * c + d) = nI (W c d) ∧ a_stepTarget (4 * c + d) = nI (T c d)) (hV : V ≤ 8)
    (hp : ∀ x1 pn, gp_M (gp_L C D W T 1) pn → gp_F (gp_L C D W T 1) x1 → post x1 ((nI S), (nI db), (nI wb), (nI D), (nI V), (nI cp), f_nodeCount, f_listSize, f_built, (nI C), f_splitCount, f_encoder, f_messageLength, a_edgeTarget, a_jumpTarget, a_good, a_nodeBase, a_nodeWeight, a_arrows, a_renumber, a_listWord, a_listTarget, a_seenAt, a_seenSum, a_alive, a_codeBase, a_stepWord, a_stepTarget, pn, a_pairNext, a_sentData, a_sentWord, a_channelWord)) :
    ∀ n c x1 pn, C < n + c → c ≤ C → gp_M (gp_1 D W T fun c' _ _ => c' < c) pn → gp_F (gp_1 D W T fun c' _ _ => c' < c) x1 →
      wX_firstCodePairs_25 post (nI S) (nI db) (nI wb) (nI D) (nI V) (nI cp) f_nodeCount f_listSize f_built (nI C) f_splitCount f_encoder f_messageLength n x1 (nI c) a_edgeTarget a_jumpTarget a_good a_nodeBase a_nodeWeight a_arrows a_renumber a_listWord a_listTarget a_seenAt a_seenSum a_alive a_codeBase a_stepWord a_stepTarget pn a_pairNext a_sentData a_sentWord a_channelWord := by
  have hC := hOK.1
  intro n
  induction n with
  | zero => intro c x1 pn z1 z2; omega
  | succ n ih =>
    intro c x1 pn z1 z2 hM hF
    refine pk_le C c (fun h => ⟨gp_Fn hF, ?_⟩) (fun h => ⟨D + 1, ?_⟩)
    · have q : ∀ x y, gp_1 D W T (fun c' _ _ => c' < c) x y ↔ gp_L C D W T 1 x y := fun x y => by
        constructor
        · intro ⟨c', d', e', q1, q2, q3, q4, q5, q6⟩; exact ⟨c', c', d', e', ⟨rfl, by omega⟩, q2, q3, q5, fun _ => q4, q6⟩
        · intro ⟨s, t, d', e', ⟨q0, q1⟩, q2, q3, q5, q4, q6⟩
          subst q0
          exact ⟨s, d', e', by omega, q2, q3, q4 rfl, q5, q6⟩
      exact hp x1 pn (gp_Mc hM q) (gp_Fc hF q)
    · have q : ∀ x y, gp_1 D W T (fun c' _ _ => c' < c) x y ↔ gp_1 D W T (fun c' d' e' => c' < c ∨ (c' = c ∧ d' < 0)) x y := fun x y => by
        constructor
        · intro ⟨c', d', e', q1, q2⟩; exact ⟨c', d', e', by omega, q2⟩
        · intro ⟨c', d', e', q1, q2⟩; exact ⟨c', d', e', by omega, q2⟩
      exact gp_35 (wX_firstCodePairs_25 post (nI S) (nI db) (nI wb) (nI D) (nI V) (nI cp) f_nodeCount f_listSize f_built (nI C) f_splitCount f_encoder f_messageLength n) hOK hD h hst hV (fun x1' pn' h1 h2 => ih (c + 1) x1' pn' (by omega) (by omega) h1 h2) (D + 1) 0 x1 pn (by omega) (by omega) (gp_Mc hM q) (gp_Fc hF q)
theorem gp_4 {post : Int32 → SX → Prop} {x1 : Int32} (hk : ∀ pn, (∀ c, c < 15 → pn c = 0) → ∃ n25, wX_firstCodePairs_25 post (nI S) (nI db) (nI wb) (nI D) (nI V) (nI cp) f_nodeCount f_listSize f_built (nI C) f_splitCount f_encoder f_messageLength n25 x1 0 a_edgeTarget a_jumpTarget a_good a_nodeBase a_nodeWeight a_arrows a_renumber a_listWord a_listTarget a_seenAt a_seenSum a_alive a_codeBase a_stepWord a_stepTarget pn a_pairNext a_sentData a_sentWord a_channelWord) :
    ∀ n c pn, 15 < n + c → c ≤ 15 → (∀ c', c' < c → pn c' = 0) → wX_firstCodePairs_4 post x1 (nI S) (nI db) (nI wb) (nI D) (nI V) (nI cp) f_nodeCount f_listSize f_built (nI C) f_splitCount f_encoder f_messageLength n (nI c) a_edgeTarget a_jumpTarget a_good a_nodeBase a_nodeWeight a_arrows a_renumber a_listWord a_listTarget a_seenAt a_seenSum a_alive a_codeBase a_stepWord a_stepTarget pn a_pairNext a_sentData a_sentWord a_channelWord := by
  intro n
  induction n with
  | zero => intro c pn z1 z2; omega
  | succ n ih =>
    intro c pn z1 z2 hI
    refine pk_le 15 c (fun h => hk pn fun c' hc' => hI c' (by omega)) (fun h => ⟨vp_in_nI (by omega) (by omega), nm_r (e' := upd pn c 0) (by rw [nI_clamp (by omega)]) (nm_r (nI_1 c) (ih (c + 1) _ (by omega) (by omega) fun c' hc' => ?_))⟩)
    by_cases e : c' = c
    · subst e; exact pk_us
    · rw [pk_un e]; exact hI c' (by omega)
theorem gp_fc {post : Int32 → SX → Prop} (hOK : gc_OK D V C M W T) (hD : D ≤ 4)
    (hst : ∀ c d, c < C → d < D → a_stepWord (4 * c + d) = nI (W c d) ∧ a_stepTarget (4 * c + d) = nI (T c d)) (hV : V ≤ 8)
    (hp : ∀ x1 pn, gp_M (gp_L C D W T 1) pn → gp_F (gp_L C D W T 1) x1 → post x1 ((nI S), (nI db), (nI wb), (nI D), (nI V), (nI cp), f_nodeCount, f_listSize, f_built, (nI C), f_splitCount, f_encoder, f_messageLength, a_edgeTarget, a_jumpTarget, a_good, a_nodeBase, a_nodeWeight, a_arrows, a_renumber, a_listWord, a_listTarget, a_seenAt, a_seenSum, a_alive, a_codeBase, a_stepWord, a_stepTarget, pn, a_pairNext, a_sentData, a_sentWord, a_channelWord)) : wpX_firstCodePairs post ((nI S), (nI db), (nI wb), (nI D), (nI V), (nI cp), f_nodeCount, f_listSize, f_built, (nI C), f_splitCount, f_encoder, f_messageLength, a_edgeTarget, a_jumpTarget, a_good, a_nodeBase, a_nodeWeight, a_arrows, a_renumber, a_listWord, a_listTarget, a_seenAt, a_seenSum, a_alive, a_codeBase, a_stepWord, a_stepTarget, a_pairNow, a_pairNext, a_sentData, a_sentWord, a_channelWord) :=
  have no : ∀ x y, ¬ gp_1 D W T (fun c' _ _ => c' < 0) x y := fun x y ⟨c', _, _, q, _⟩ => by omega
  ⟨16, gp_4 (fun pn hpn => ⟨C + 1, gp_25 hOK hD hst hV hp (C + 1) 0 0 pn (by omega) (by omega) (gp_M0 hpn no) (Or.inl ⟨rfl, no⟩)⟩) 16 0 a_pairNow (by omega) (by omega) (fun c h => by omega)⟩
end GPX
end
section
/-! anticipation: the component's walk, second half -/
section GPU
variable {S db wb D V cp C M : Nat} {W T : Nat → Nat → Nat} {f_nodeCount f_listSize f_built f_splitCount f_encoder f_messageLength : Int32} {a_edgeTarget a_jumpTarget a_good a_nodeBase a_nodeWeight a_arrows a_renumber a_listWord a_listTarget a_seenAt a_seenSum a_alive a_codeBase a_stepWord a_stepTarget a_pairNow a_pairNext a_sentData a_sentWord a_channelWord : Nat → Int32}
def gp_2 (D : Nat) (W T : Nat → Nat → Nat) (a b : Nat) (R : Nat → Nat → Prop) (x y : Nat) : Prop := ∃ d e, R d e ∧ d < D ∧ e < D ∧ W a d = W b e ∧ x = T a d ∧ y = T b e
theorem gp_13 {post : SX → Prop} (J2 : Int32 → (Nat → Int32) → (Nat → Int32) → (Nat → Int32) → (Nat → Int32) → (Nat → Int32) → (Nat → Int32) → (Nat → Int32) → (Nat → Int32) → (Nat → Int32) → (Nat → Int32) → (Nat → Int32) → (Nat → Int32) → (Nat → Int32) → (Nat → Int32) → (Nat → Int32) → (Nat → Int32) → (Nat → Int32) → (Nat → Int32) → (Nat → Int32) → (Nat → Int32) → Prop) {a b d : Nat} {Q0 : Nat → Nat → Prop} (hOK : gc_OK D V C M W T) (hD : D ≤ 4) (hV : V ≤ 8) (ha : a < C) (hb : b < C) (hd : d < D)
    (hst : ∀ c d, c < C → d < D → a_stepWord (4 * c + d) = nI (W c d) ∧ a_stepTarget (4 * c + d) = nI (T c d))
    (hJ : ∀ px, gp_M (fun x y => Q0 x y ∨ gp_2 D W T a b (fun d' _ => d' < d + 1) x y) px → J2 (nI (d + 1)) a_edgeTarget a_jumpTarget a_good a_nodeBase a_nodeWeight a_arrows a_renumber a_listWord a_listTarget a_seenAt a_seenSum a_alive a_codeBase a_stepWord a_stepTarget a_pairNow px a_sentData a_sentWord a_channelWord) :
    ∀ n e px, D < n + e → e ≤ D → gp_M (fun x y => Q0 x y ∨ gp_2 D W T a b (fun d' e' => d' < d ∨ (d' = d ∧ e' < e)) x y) px → wX_addCodePairs_13 post J2 (nI a) (nI b) (nI d) (nI S) (nI db) (nI wb) (nI D) (nI V) (nI cp) f_nodeCount f_listSize f_built (nI C) f_splitCount f_encoder f_messageLength n (nI e) a_edgeTarget a_jumpTarget a_good a_nodeBase a_nodeWeight a_arrows a_renumber a_listWord a_listTarget a_seenAt a_seenSum a_alive a_codeBase a_stepWord a_stepTarget a_pairNow px a_sentData a_sentWord a_channelWord := by
  have hC := hOK.1
  intro n
  induction n with
  | zero => intro e px z1 z2; omega
  | succ n ih =>
    intro e px z1 z2 hM
    refine pk_le D e (fun h => nm_r (nI_1 d) (hJ px (gp_Mc hM fun x y => ?_))) (fun h => nm_r (gu_4 a d) (nm_r (gu_4 b e) ⟨vp_in_nI (by omega) (by omega), vp_in_nI (by omega) (by omega), ?_⟩))
    · constructor
      · rintro (q | ⟨d', e', q1, q2⟩)
        · exact Or.inl q
        · exact Or.inr ⟨d', e', by omega, q2⟩
      · rintro (q | ⟨d', e', q1, q2, q3, q4⟩)
        · exact Or.inl q
        · exact Or.inr ⟨d', e', by omega, q2, q3, q4⟩
    · obtain ⟨s1, s2⟩ := hst a d ha hd
      obtain ⟨s3, s4⟩ := hst b e hb h
      obtain ⟨o1, o2⟩ := hOK.2.1 a d ha hd
      obtain ⟨o3, o4⟩ := hOK.2.1 b e hb h
      rw [nI_clamp (by omega), nI_clamp (by omega), s1, s2, s3, s4]
      refine pk_eq (W a d) (W b e) (fun c2 => ⟨vp_in_nI (by omega) (by omega), vp_in_nI (by omega) (by omega), vp_in_nI (by omega) (by omega), vp_in_nI (by omega) (by omega), ?_⟩) (fun c2 => nm_r (nI_1 e) (ih (e + 1) px (by omega) (by omega) (gp_Mc hM fun x y => ?_)))
      · rw [nI_clamp (by omega)]
        refine nm_e (nm_r (nI_1 e) (ih (e + 1) _ (by omega) (by omega) (gp_Mc (gp_Mo hM (by omega) (by omega)) fun x y => ?_)))
        constructor
        · rintro ((q | ⟨d', e', q1, q2⟩) | ⟨q1, q2⟩)
          · exact Or.inl q
          · exact Or.inr ⟨d', e', by omega, q2⟩
          · exact Or.inr ⟨d, e, by omega, hd, h, c2, q1, q2⟩
        · rintro (q | ⟨d', e', q1, q2, q3, q4, q5⟩)
          · exact Or.inl (Or.inl q)
          · by_cases z : d' = d ∧ e' = e
            · obtain ⟨rfl, rfl⟩ := z
              exact Or.inr q5
            · exact Or.inl (Or.inr ⟨d', e', by omega, q2, q3, q4, q5⟩)
      · constructor
        · rintro (q | ⟨d', e', q1, q2⟩)
          · exact Or.inl q
          · exact Or.inr ⟨d', e', by omega, q2⟩
        · rintro (q | ⟨d', e', q1, q2, q3, q4, q5⟩)
          · exact Or.inl q
          · by_cases z : d' = d ∧ e' = e
            · obtain ⟨rfl, rfl⟩ := z
              exact absurd q4 c2
            · exact Or.inr ⟨d', e', by omega, q2, q3, q4, q5⟩
theorem gp_a2 {post : SX → Prop} {a b : Nat} {Q0 : Nat → Nat → Prop} (hOK : gc_OK D V C M W T) (hD : D ≤ 4) (hV : V ≤ 8) (ha : a < C) (hb : b < C)
    (hst : ∀ c d, c < C → d < D → a_stepWord (4 * c + d) = nI (W c d) ∧ a_stepTarget (4 * c + d) = nI (T c d))
    (hp : ∀ px, gp_M (fun x y => Q0 x y ∨ gp_2 D W T a b (fun _ _ => True) x y) px → post ((nI S), (nI db), (nI wb), (nI D), (nI V), (nI cp), f_nodeCount, f_listSize, f_built, (nI C), f_splitCount, f_encoder, f_messageLength, a_edgeTarget, a_jumpTarget, a_good, a_nodeBase, a_nodeWeight, a_arrows, a_renumber, a_listWord, a_listTarget, a_seenAt, a_seenSum, a_alive, a_codeBase, a_stepWord, a_stepTarget, a_pairNow, px, a_sentData, a_sentWord, a_channelWord)) :
    ∀ n d px, D < n + d → d ≤ D → gp_M (fun x y => Q0 x y ∨ gp_2 D W T a b (fun d' _ => d' < d) x y) px → wX_addCodePairs_2 post (nI a) (nI b) (nI S) (nI db) (nI wb) (nI D) (nI V) (nI cp) f_nodeCount f_listSize f_built (nI C) f_splitCount f_encoder f_messageLength n (nI d) a_edgeTarget a_jumpTarget a_good a_nodeBase a_nodeWeight a_arrows a_renumber a_listWord a_listTarget a_seenAt a_seenSum a_alive a_codeBase a_stepWord a_stepTarget a_pairNow px a_sentData a_sentWord a_channelWord := by
  intro n
  induction n with
  | zero => intro d px z1 z2; omega
  | succ n ih =>
    intro d px z1 z2 hM
    refine pk_le D d (fun h => hp px (gp_Mc hM fun x y => ?_)) (fun h => ⟨D + 1, ?_⟩)
    · constructor
      · rintro (q | ⟨d', e', q1, q2⟩)
        · exact Or.inl q
        · exact Or.inr ⟨d', e', trivial, q2⟩
      · rintro (q | ⟨d', e', q1, q2, q3⟩)
        · exact Or.inl q
        · exact Or.inr ⟨d', e', by omega, q2, q3⟩
    · refine gp_13 (Q0 := Q0) (wX_addCodePairs_2 post (nI a) (nI b) (nI S) (nI db) (nI wb) (nI D) (nI V) (nI cp) f_nodeCount f_listSize f_built (nI C) f_splitCount f_encoder f_messageLength n) hOK hD hV ha hb h hst (fun px' h' => ih (d + 1) px' (by omega) (by omega) h') (D + 1) 0 px (by omega) (by omega) (gp_Mc hM fun x y => ?_)
      constructor
      · rintro (q | ⟨d', e', q1, q2⟩)
        · exact Or.inl q
        · exact Or.inr ⟨d', e', by omega, q2⟩
      · rintro (q | ⟨d', e', q1, q2⟩)
        · exact Or.inl q
        · exact Or.inr ⟨d', e', by omega, q2⟩
theorem gp_ac {post : SX → Prop} {a b : Nat} {Q0 : Nat → Nat → Prop} (hOK : gc_OK D V C M W T) (hD : D ≤ 4) (hV : V ≤ 8) (ha : a < C) (hb : b < C)
    (hst : ∀ c d, c < C → d < D → a_stepWord (4 * c + d) = nI (W c d) ∧ a_stepTarget (4 * c + d) = nI (T c d)) (hM : gp_M Q0 a_pairNext)
    (hp : ∀ px, gp_M (fun x y => Q0 x y ∨ gp_2 D W T a b (fun _ _ => True) x y) px → post ((nI S), (nI db), (nI wb), (nI D), (nI V), (nI cp), f_nodeCount, f_listSize, f_built, (nI C), f_splitCount, f_encoder, f_messageLength, a_edgeTarget, a_jumpTarget, a_good, a_nodeBase, a_nodeWeight, a_arrows, a_renumber, a_listWord, a_listTarget, a_seenAt, a_seenSum, a_alive, a_codeBase, a_stepWord, a_stepTarget, a_pairNow, px, a_sentData, a_sentWord, a_channelWord)) : wpX_addCodePairs post ((nI S), (nI db), (nI wb), (nI D), (nI V), (nI cp), f_nodeCount, f_listSize, f_built, (nI C), f_splitCount, f_encoder, f_messageLength, a_edgeTarget, a_jumpTarget, a_good, a_nodeBase, a_nodeWeight, a_arrows, a_renumber, a_listWord, a_listTarget, a_seenAt, a_seenSum, a_alive, a_codeBase, a_stepWord, a_stepTarget, a_pairNow, a_pairNext, a_sentData, a_sentWord, a_channelWord) (nI a) (nI b) := by
  refine ⟨D + 1, gp_a2 (Q0 := Q0) hOK hD hV ha hb hst hp (D + 1) 0 a_pairNext (by omega) (by omega) (gp_Mc hM fun x y => ?_)⟩
  constructor
  · intro q; exact Or.inl q
  · rintro (q | ⟨d', e', q1, q2⟩)
    · exact q
    · omega
def gp_3 (D : Nat) (W T : Nat → Nat → Nat) (L : Nat → Nat → Prop) (R : Nat → Nat → Prop) (x y : Nat) : Prop := ∃ s t, L s t ∧ R s t ∧ gp_2 D W T s t (fun _ _ => True) x y
theorem gp_33 {post : Int32 → SX → Prop} (J23 : Int32 → Int32 → Int32 → Int32 → Int32 → Int32 → Int32 → Int32 → Int32 → Int32 → Int32 → Int32 → Int32 → Int32 → (Nat → Int32) → (Nat → Int32) → (Nat → Int32) → (Nat → Int32) → (Nat → Int32) → (Nat → Int32) → (Nat → Int32) → (Nat → Int32) → (Nat → Int32) → (Nat → Int32) → (Nat → Int32) → (Nat → Int32) → (Nat → Int32) → (Nat → Int32) → (Nat → Int32) → (Nat → Int32) → (Nat → Int32) → (Nat → Int32) → (Nat → Int32) → (Nat → Int32) → Prop) {a : Nat} {L : Nat → Nat → Prop} (hOK : gc_OK D V C M W T) (hD : D ≤ 4) (hV : V ≤ 8) (ha : a < C) (hL : ∀ s t, L s t → s < C ∧ t < C)
    (hst : ∀ c d, c < C → d < D → a_stepWord (4 * c + d) = nI (W c d) ∧ a_stepTarget (4 * c + d) = nI (T c d)) (hN : gp_M L a_pairNow)
    (hJ : ∀ px, gp_M (gp_3 D W T L fun s _ => s < a + 1) px → J23 (nI (a + 1)) (nI S) (nI db) (nI wb) (nI D) (nI V) (nI cp) f_nodeCount f_listSize f_built (nI C) f_splitCount f_encoder f_messageLength a_edgeTarget a_jumpTarget a_good a_nodeBase a_nodeWeight a_arrows a_renumber a_listWord a_listTarget a_seenAt a_seenSum a_alive a_codeBase a_stepWord a_stepTarget a_pairNow px a_sentData a_sentWord a_channelWord) :
    ∀ n b px, C < n + b → b ≤ C → gp_M (gp_3 D W T L fun s t => s < a ∨ (s = a ∧ t < b)) px → wX_nextCodePairs_33 post J23 (nI a) n (nI b) (nI S) (nI db) (nI wb) (nI D) (nI V) (nI cp) f_nodeCount f_listSize f_built (nI C) f_splitCount f_encoder f_messageLength a_edgeTarget a_jumpTarget a_good a_nodeBase a_nodeWeight a_arrows a_renumber a_listWord a_listTarget a_seenAt a_seenSum a_alive a_codeBase a_stepWord a_stepTarget a_pairNow px a_sentData a_sentWord a_channelWord := by
  have hC := hOK.1
  intro n
  induction n with
  | zero => intro b px z1 z2; omega
  | succ n ih =>
    intro b px z1 z2 hM
    refine pk_le C b (fun h => nm_r (nI_1 a) (hJ px (gp_Mc hM fun x y => ?_))) (fun h => ⟨vp_in_nI (by omega) (by omega), ?_⟩)
    · constructor
      · intro ⟨s, t, q1, q2, q3⟩; exact ⟨s, t, q1, by omega, q3⟩
      · intro ⟨s, t, q1, q2, q3⟩
        have := hL s t q1
        exact ⟨s, t, q1, by omega, q3⟩
    · rw [nI_clamp (by omega)]
      have hbit := hN a b (by omega) (by omega)
      by_cases c : L a b
      · refine br_f (by rw [gu_t (by omega), hbit.mpr c]; decide) (gp_ac hOK hD hV ha h hst hM fun px' h' => nm_r (nI_1 b) (ih (b + 1) px' (by omega) (by omega) (gp_Mc h' fun x y => ?_)))
        constructor
        · rintro (⟨s, t, q1, q2, q3⟩ | q)
          · exact ⟨s, t, q1, by omega, q3⟩
          · exact ⟨a, b, c, by omega, q⟩
        · intro ⟨s, t, q1, q2, q3⟩
          by_cases z : s = a ∧ t = b
          · obtain ⟨rfl, rfl⟩ := z
            exact Or.inr q3
          · exact Or.inl ⟨s, t, q1, by omega, q3⟩
      · refine br_t (by rw [gu_t (by omega)]; exact gu_nt fun z => c (hbit.mp z)) (nm_r (nI_1 b) (ih (b + 1) px (by omega) (by omega) (gp_Mc hM fun x y => ?_)))
        constructor
        · intro ⟨s, t, q1, q2, q3⟩; exact ⟨s, t, q1, by omega, q3⟩
        · intro ⟨s, t, q1, q2, q3⟩
          by_cases z : s = a ∧ t = b
          · obtain ⟨rfl, rfl⟩ := z
            exact absurd q1 c
          · exact ⟨s, t, q1, by omega, q3⟩
theorem gp_76 {post : Int32 → SX → Prop} {Q : Nat → Nat → Prop} (hM : gp_M Q a_pairNext) (hQ : ∀ x y, Q x y → x < 15 ∧ y < 15)
    (hp : ∀ x1 pn, gp_M Q pn → gp_F Q x1 → post x1 ((nI S), (nI db), (nI wb), (nI D), (nI V), (nI cp), f_nodeCount, f_listSize, f_built, (nI C), f_splitCount, f_encoder, f_messageLength, a_edgeTarget, a_jumpTarget, a_good, a_nodeBase, a_nodeWeight, a_arrows, a_renumber, a_listWord, a_listTarget, a_seenAt, a_seenSum, a_alive, a_codeBase, a_stepWord, a_stepTarget, pn, a_pairNext, a_sentData, a_sentWord, a_channelWord)) :
    ∀ n c x1 pn, 15 < n + c → c ≤ 15 → (∀ c', c' < c → pn c' = a_pairNext c') → ((x1 = 0 ∧ ∀ c', c' < c → a_pairNext c' = 0) ∨ (x1 = 1 ∧ ∃ c', c' < 15 ∧ a_pairNext c' ≠ 0)) → wX_nextCodePairs_76 post (nI S) (nI db) (nI wb) (nI D) (nI V) (nI cp) f_nodeCount f_listSize f_built (nI C) f_splitCount f_encoder f_messageLength n x1 (nI c) a_edgeTarget a_jumpTarget a_good a_nodeBase a_nodeWeight a_arrows a_renumber a_listWord a_listTarget a_seenAt a_seenSum a_alive a_codeBase a_stepWord a_stepTarget pn a_pairNext a_sentData a_sentWord a_channelWord := by
  intro n
  induction n with
  | zero => intro c x1 pn z1 z2; omega
  | succ n ih =>
    intro c x1 pn z1 z2 hI hF
    refine pk_le 15 c (fun h => ?_) (fun h => ⟨vp_in_nI (by omega) (by omega), vp_in_nI (by omega) (by omega), nm_r (e' := upd pn c (a_pairNext c)) (by rw [nI_clamp (by omega)]) ⟨vp_in_nI (by omega) (by omega), ?_⟩⟩)
    · have hF' : gp_F Q x1 := by
        rcases hF with ⟨e, q⟩ | ⟨e, c', q1, q2⟩
        · refine Or.inl ⟨e, fun x y z => ?_⟩
          obtain ⟨h1, h2⟩ := hQ x y z
          have := (hM x y h1 (by omega)).mpr z
          rw [q x (by omega), b_0] at this
          exact absurd this (by decide)
        · refine Or.inr ⟨e, Classical.byContradiction fun z => q2 ?_⟩
          rw [gu_z]
          intro i hi
          exact gu_nt fun b => z ⟨c', i, (hM c' i q1 hi).mp b⟩
      exact ⟨gp_Fn hF', hp x1 pn (fun c' i hc' hi => by rw [hI c' (by omega)]; exact hM c' i hc' hi) hF'⟩
    · rw [nI_clamp (by omega), pk_us]
      have hI' : ∀ c', c' < c + 1 → upd pn c (a_pairNext c) c' = a_pairNext c' := fun c' hc' => by
        by_cases e : c' = c
        · subst e; exact pk_us
        · rw [pk_un e]; exact hI c' (by omega)
      refine br_c (fun z => nm_r (nI_1 c) (ih (c + 1) x1 _ (by omega) (by omega) hI' ?_)) (fun z => nm_r (nI_1 c) (ih (c + 1) 1 _ (by omega) (by omega) hI' (Or.inr ⟨rfl, c, h, z⟩)))
      rcases hF with ⟨e, q⟩ | q
      · refine Or.inl ⟨e, fun c' hc' => ?_⟩
        by_cases e2 : c' = c
        · subst e2; exact z
        · exact q c' (by omega)
      · exact Or.inr q
theorem gp_23 {post : Int32 → SX → Prop} {L : Nat → Nat → Prop} (hOK : gc_OK D V C M W T) (hD : D ≤ 4) (hV : V ≤ 8) (hL : ∀ s t, L s t → s < C ∧ t < C)
    (hst : ∀ c d, c < C → d < D → a_stepWord (4 * c + d) = nI (W c d) ∧ a_stepTarget (4 * c + d) = nI (T c d)) (hN : gp_M L a_pairNow)
    (hp : ∀ x1 pn px, gp_M (gp_3 D W T L fun _ _ => True) pn → gp_F (gp_3 D W T L fun _ _ => True) x1 → post x1 ((nI S), (nI db), (nI wb), (nI D), (nI V), (nI cp), f_nodeCount, f_listSize, f_built, (nI C), f_splitCount, f_encoder, f_messageLength, a_edgeTarget, a_jumpTarget, a_good, a_nodeBase, a_nodeWeight, a_arrows, a_renumber, a_listWord, a_listTarget, a_seenAt, a_seenSum, a_alive, a_codeBase, a_stepWord, a_stepTarget, pn, px, a_sentData, a_sentWord, a_channelWord)) :
    ∀ n a px, C < n + a → a ≤ C → gp_M (gp_3 D W T L fun s _ => s < a) px → wX_nextCodePairs_23 post n (nI a) (nI S) (nI db) (nI wb) (nI D) (nI V) (nI cp) f_nodeCount f_listSize f_built (nI C) f_splitCount f_encoder f_messageLength a_edgeTarget a_jumpTarget a_good a_nodeBase a_nodeWeight a_arrows a_renumber a_listWord a_listTarget a_seenAt a_seenSum a_alive a_codeBase a_stepWord a_stepTarget a_pairNow px a_sentData a_sentWord a_channelWord := by
  have hC := hOK.1
  intro n
  induction n with
  | zero => intro a px z1 z2; omega
  | succ n ih =>
    intro a px z1 z2 hM
    refine pk_le C a (fun h => ⟨16, ?_⟩) (fun h => ⟨C + 1, ?_⟩)
    · refine gp_76 (Q := gp_3 D W T L fun _ _ => True) (gp_Mc hM fun x y => ?_) (fun x y ⟨s, t, q1, _, d, e, _, q2, q3, _, q4, q5⟩ => ?_) (fun x1 pn h1 h2 => hp x1 pn px h1 h2) 16 0 0 a_pairNow (by omega) (by omega) (fun c h => by omega) (Or.inl ⟨rfl, fun c h => by omega⟩)
      · constructor
        · intro ⟨s, t, q1, q2, q3⟩; exact ⟨s, t, q1, trivial, q3⟩
        · intro ⟨s, t, q1, q2, q3⟩
          have := hL s t q1
          exact ⟨s, t, q1, by omega, q3⟩
      · obtain ⟨l1, l2⟩ := hL s t q1
        have := (hOK.2.1 s d l1 q2).2
        have := (hOK.2.1 t e l2 q3).2
        omega
    · refine gp_33 (wX_nextCodePairs_23 post n) hOK hD hV h hL hst hN (fun px' h' => ih (a + 1) px' (by omega) (by omega) h') (C + 1) 0 px (by omega) (by omega) (gp_Mc hM fun x y => ?_)
      constructor
      · intro ⟨s, t, q1, q2, q3⟩; exact ⟨s, t, q1, by omega, q3⟩
      · intro ⟨s, t, q1, q2, q3⟩; exact ⟨s, t, q1, by omega, q3⟩
theorem gp_n2 {post : Int32 → SX → Prop} (hk : ∀ px, (∀ c, c < 15 → px c = 0) → ∃ n23, wX_nextCodePairs_23 post n23 0 (nI S) (nI db) (nI wb) (nI D) (nI V) (nI cp) f_nodeCount f_listSize f_built (nI C) f_splitCount f_encoder f_messageLength a_edgeTarget a_jumpTarget a_good a_nodeBase a_nodeWeight a_arrows a_renumber a_listWord a_listTarget a_seenAt a_seenSum a_alive a_codeBase a_stepWord a_stepTarget a_pairNow px a_sentData a_sentWord a_channelWord) :
    ∀ n c px, 15 < n + c → c ≤ 15 → (∀ c', c' < c → px c' = 0) → wX_nextCodePairs_2 post (nI S) (nI db) (nI wb) (nI D) (nI V) (nI cp) f_nodeCount f_listSize f_built (nI C) f_splitCount f_encoder f_messageLength n (nI c) a_edgeTarget a_jumpTarget a_good a_nodeBase a_nodeWeight a_arrows a_renumber a_listWord a_listTarget a_seenAt a_seenSum a_alive a_codeBase a_stepWord a_stepTarget a_pairNow px a_sentData a_sentWord a_channelWord := by
  intro n
  induction n with
  | zero => intro c px z1 z2; omega
  | succ n ih =>
    intro c px z1 z2 hI
    refine pk_le 15 c (fun h => hk px fun c' hc' => hI c' (by omega)) (fun h => ⟨vp_in_nI (by omega) (by omega), nm_r (e' := upd px c 0) (by rw [nI_clamp (by omega)]) (nm_r (nI_1 c) (ih (c + 1) _ (by omega) (by omega) fun c' hc' => ?_))⟩)
    by_cases e : c' = c
    · subst e; exact pk_us
    · rw [pk_un e]; exact hI c' (by omega)
theorem gp_nc {post : Int32 → SX → Prop} {k : Nat} (hOK : gc_OK D V C M W T) (hD : D ≤ 4) (hV : V ≤ 8)
    (hst : ∀ c d, c < C → d < D → a_stepWord (4 * c + d) = nI (W c d) ∧ a_stepTarget (4 * c + d) = nI (T c d)) (hN : gp_M (gp_L C D W T (k + 1)) a_pairNow)
    (hp : ∀ x1 pn px, gp_M (gp_L C D W T (k + 2)) pn → gp_F (gp_L C D W T (k + 2)) x1 → post x1 ((nI S), (nI db), (nI wb), (nI D), (nI V), (nI cp), f_nodeCount, f_listSize, f_built, (nI C), f_splitCount, f_encoder, f_messageLength, a_edgeTarget, a_jumpTarget, a_good, a_nodeBase, a_nodeWeight, a_arrows, a_renumber, a_listWord, a_listTarget, a_seenAt, a_seenSum, a_alive, a_codeBase, a_stepWord, a_stepTarget, pn, px, a_sentData, a_sentWord, a_channelWord)) : wpX_nextCodePairs post ((nI S), (nI db), (nI wb), (nI D), (nI V), (nI cp), f_nodeCount, f_listSize, f_built, (nI C), f_splitCount, f_encoder, f_messageLength, a_edgeTarget, a_jumpTarget, a_good, a_nodeBase, a_nodeWeight, a_arrows, a_renumber, a_listWord, a_listTarget, a_seenAt, a_seenSum, a_alive, a_codeBase, a_stepWord, a_stepTarget, a_pairNow, a_pairNext, a_sentData, a_sentWord, a_channelWord) := by
  have q : ∀ x y, gp_3 D W T (gp_L C D W T (k + 1)) (fun _ _ => True) x y ↔ gp_L C D W T (k + 2) x y := fun x y => by
    constructor
    · intro ⟨s, t, q1, _, d, e, _, q2, q3, q4, q5, q6⟩; exact ⟨s, t, d, e, q1, q2, q3, q4, fun z => by omega, q5, q6⟩
    · intro ⟨s, t, d, e, q1, q2, q3, q4, _, q5, q6⟩; exact ⟨s, t, q1, trivial, d, e, trivial, q2, q3, q4, q5, q6⟩
  exact ⟨16, gp_n2 (fun px hpx => ⟨C + 1, gp_23 hOK hD hV (fun s t h => gp_Lb hOK _ s t h) hst hN (fun x1 pn px' h1 h2 => hp x1 pn px' (gp_Mc h1 q) (gp_Fc h2 q)) (C + 1) 0 px (by omega) (by omega) (gp_M0 hpx fun x y ⟨s, t, _, z, _⟩ => by omega)⟩) 16 0 a_pairNext (by omega) (by omega) (fun c h => by omega)⟩
theorem gp_17 {post : Int32 → SX → Prop} {a : Nat} (hOK : gc_OK D V C M W T) (hD : D ≤ 4) (hV : V ≤ 8)
    (hst : ∀ c d, c < C → d < D → a_stepWord (4 * c + d) = nI (W c d) ∧ a_stepTarget (4 * c + d) = nI (T c d)) (hA : gp_Ans C D W T a)
    (hp : ∀ pn px, post (nI a) ((nI S), (nI db), (nI wb), (nI D), (nI V), (nI cp), f_nodeCount, f_listSize, f_built, (nI C), (nI M), f_encoder, f_messageLength, a_edgeTarget, a_jumpTarget, a_good, a_nodeBase, a_nodeWeight, a_arrows, a_renumber, a_listWord, a_listTarget, a_seenAt, a_seenSum, a_alive, a_codeBase, a_stepWord, a_stepTarget, pn, px, a_sentData, a_sentWord, a_channelWord)) :
    ∀ n k x1 pn px, M < n + k → k ≤ a → gp_M (gp_L C D W T (k + 1)) pn → gp_F (gp_L C D W T (k + 1)) x1 → wX_anticipation_17 post n x1 (nI k) (nI S) (nI db) (nI wb) (nI D) (nI V) (nI cp) f_nodeCount f_listSize f_built (nI C) (nI M) f_encoder f_messageLength a_edgeTarget a_jumpTarget a_good a_nodeBase a_nodeWeight a_arrows a_renumber a_listWord a_listTarget a_seenAt a_seenSum a_alive a_codeBase a_stepWord a_stepTarget pn px a_sentData a_sentWord a_channelWord := by
  have hM10 := hOK.1
  have haM := gp_le hOK hA.1
  intro n
  induction n with
  | zero => intro k x1 pn px z1 z2; omega
  | succ n ih =>
    intro k x1 pn px z1 z2 hM hF
    refine pk_le M k (fun h => ?_) (fun h => ?_)
    · rw [show nI M = nI a from congrArg nI (by omega)]
      have := hp pn px
      rw [show nI M = nI a from congrArg nI (by omega)] at this
      exact this
    · rcases hF with ⟨rfl, q⟩ | ⟨rfl, q⟩
      · refine br_t rfl ?_
        have e : k = a := by
          rcases Nat.lt_or_ge k a with c | c
          · obtain ⟨x, y, z⟩ := hA.1 k c
            exact absurd z (q x y)
          · omega
        subst e; exact hp pn px
      · have ne : k ≠ a := fun z => by subst z; exact hA.2 q
        exact br_f (by decide) (gp_nc hOK hD hV hst hM fun x1 pn' px' h1 h2 => nm_r (nI_1 k) (ih (k + 1) x1 pn' px' (by omega) (by omega) h1 h2))
/-- anticipation of the component, when built -/
theorem gp_x {post : Int32 → SX → Prop} {a : Nat} (hb : ¬ f_built = 0) (hOK : gc_OK D V C M W T) (hD : D ≤ 4) (hV : V ≤ 8)
    (hst : ∀ c d, c < C → d < D → a_stepWord (4 * c + d) = nI (W c d) ∧ a_stepTarget (4 * c + d) = nI (T c d)) (hA : gp_Ans C D W T a)
    (hp : ∀ pn px, post (nI a) ((nI S), (nI db), (nI wb), (nI D), (nI V), (nI cp), f_nodeCount, f_listSize, f_built, (nI C), (nI M), f_encoder, f_messageLength, a_edgeTarget, a_jumpTarget, a_good, a_nodeBase, a_nodeWeight, a_arrows, a_renumber, a_listWord, a_listTarget, a_seenAt, a_seenSum, a_alive, a_codeBase, a_stepWord, a_stepTarget, pn, px, a_sentData, a_sentWord, a_channelWord)) : wpX_anticipation post ((nI S), (nI db), (nI wb), (nI D), (nI V), (nI cp), f_nodeCount, f_listSize, f_built, (nI C), (nI M), f_encoder, f_messageLength, a_edgeTarget, a_jumpTarget, a_good, a_nodeBase, a_nodeWeight, a_arrows, a_renumber, a_listWord, a_listTarget, a_seenAt, a_seenSum, a_alive, a_codeBase, a_stepWord, a_stepTarget, a_pairNow, a_pairNext, a_sentData, a_sentWord, a_channelWord) :=
  br_f hb (gp_fc hOK hD hst hV fun x1 pn h1 h2 => ⟨M + 1, gp_17 hOK hD hV hst hA hp (M + 1) 0 x1 pn a_pairNext (by omega) (by omega) h1 h2⟩)
end GPU
end
section
/-! anticipation: the reference's walk -/
theorem gu_225 {P : Nat} (h : P < 2 ^ 31) : nI P / 225 = nI (P / 225) := pk_div h (by decide) (by decide)
theorem gu_r225 {P : Nat} (h : P < 2 ^ 31) : nI P - nI P / 225 * 225 = nI (P % 225) := pk_rem h (by decide) (by decide)
theorem gu_16 {P : Nat} (h : P < 2 ^ 31) : nI P / 16 = nI (P / 16) := pk_div h (by decide) (by decide)
theorem gu_r16 {P : Nat} (h : P < 2 ^ 31) : nI P - nI P / 16 * 16 = nI (P % 16) := pk_rem h (by decide) (by decide)
def gp_St (D : Nat) (W T : Nat → Nat → Nat) (a s t q x y : Nat) : Prop := q < D * D ∧ W s (q / D) = W t (q % D) ∧ (a = 0 → q / D ≠ q % D) ∧ x = T s (q / D) ∧ y = T t (q % D)
theorem gp_qd {D q : Nat} (h : q < D * D) : q / D < D ∧ q % D < D := by
  have hD : 0 < D := by
    rcases Nat.eq_zero_or_pos D with z | z
    · rw [z] at h; exact absurd h (by omega)
    · exact z
  exact ⟨Nat.div_lt_of_lt_mul h, Nat.mod_lt _ hD⟩
theorem gp_Lq {C D : Nat} {W T : Nat → Nat → Nat} {a x y : Nat} : gp_L C D W T (a + 1) x y ↔ ∃ s t q, gp_L C D W T a s t ∧ gp_St D W T a s t q x y := by
  constructor
  · intro ⟨s, t, d, e, h, hd, he, hw, hne, hx, hy⟩
    have e1 : (D * d + e) / D = d := by rw [Nat.mul_add_div (by omega), Nat.div_eq_of_lt he, Nat.add_zero]
    have e2 : (D * d + e) % D = e := by rw [Nat.mul_add_mod, Nat.mod_eq_of_lt he]
    refine ⟨s, t, D * d + e, h, ?_, ?_⟩
    · have := Nat.mul_le_mul_left D (show d + 1 ≤ D from hd)
      rw [Nat.mul_succ] at this
      omega
    · rw [e1, e2]; exact ⟨hw, hne, hx, hy⟩
  · intro ⟨s, t, q, h, hq, hw, hne, hx, hy⟩
    obtain ⟨h1, h2⟩ := gp_qd hq
    exact ⟨s, t, q / D, q % D, h, h1, h2, hw, hne, hx, hy⟩
def gp_R (C D : Nat) (W T : Nat → Nat → Nat) (i q0 j : Nat) : Prop :=
  (j / 225 ≤ i / 225 ∧ gp_L C D W T (j / 225) (j % 225 / 15) (j % 15)) ∨
  (j / 225 = i / 225 + 1 ∧ ∃ i' q, (i' < i ∨ (i' = i ∧ q < q0)) ∧ i' / 225 = i / 225 ∧ gp_L C D W T (i / 225) (i' % 225 / 15) (i' % 15) ∧ gp_St D W T (i / 225) (i' % 225 / 15) (i' % 15) q (j % 225 / 15) (j % 15))
def gp_K (C D : Nat) (W T : Nat → Nat → Nat) (i q0 : Nat) (mk : Nat → Int32) : Prop := ∀ j, j < 2700 → (mk j = 0 ↔ ¬ gp_R C D W T i q0 j)
def gp_IB (C D : Nat) (W T : Nat → Nat → Nat) (i q0 a : Nat) : Prop := (∀ b, b < a → gp_NE C D W T (b + 1)) ∧
  ∀ i' q x y, i' / 225 = a → (i' < i ∨ (i' = i ∧ q < q0)) → gp_L C D W T a (i' % 225 / 15) (i' % 15) → ¬ gp_St D W T a (i' % 225 / 15) (i' % 15) q x y
section GPQ
variable {C D V M : Nat} {W T : Nat → Nat → Nat}
theorem gp_Rn (hOK : gc_OK D V C M W T) {i q0 : Nat} (hw : gp_L C D W T (i / 225) (i % 225 / 15) (i % 15) → q0 = D * D) (j : Nat) : gp_R C D W T i q0 j ↔ gp_R C D W T (i + 1) 0 j := by
  have key : ∀ i' q x y, gp_L C D W T (i / 225) (i' % 225 / 15) (i' % 15) → gp_St D W T (i / 225) (i' % 225 / 15) (i' % 15) q x y → ((i' < i ∨ (i' = i ∧ q < q0)) ↔ i' < i + 1) := by
    intro i' q x y hL hS
    by_cases e : i' = i
    · rw [e] at hL
      have := hw hL
      have := hS.1
      omega
    · omega
  unfold gp_R
  by_cases c : i % 225 = 224
  · have e1 : (i + 1) / 225 = i / 225 + 1 := by omega
    rw [e1]
    constructor
    · rintro (⟨h1, h2⟩ | ⟨h1, i', q, h2, h3, h4, h5⟩)
      · exact Or.inl ⟨by omega, h2⟩
      · refine Or.inl ⟨by omega, ?_⟩
        rw [h1]
        exact gp_Lq.mpr ⟨_, _, q, h4, h5⟩
    · rintro (⟨h1, h2⟩ | ⟨_, i', q, h2, h3, _⟩)
      · by_cases d : j / 225 = i / 225 + 1
        · rw [d] at h2
          obtain ⟨s, t, q, h3, h4⟩ := gp_Lq.mp h2
          obtain ⟨b1, b2⟩ := gp_Lb hOK _ _ _ h3
          have hC := hOK.1
          have f1 : (225 * (i / 225) + (15 * s + t)) % 225 / 15 = s := by omega
          have f2 : (225 * (i / 225) + (15 * s + t)) % 15 = t := by omega
          have hL : gp_L C D W T (i / 225) ((225 * (i / 225) + (15 * s + t)) % 225 / 15) ((225 * (i / 225) + (15 * s + t)) % 15) := by rw [f1, f2]; exact h3
          have hS : gp_St D W T (i / 225) ((225 * (i / 225) + (15 * s + t)) % 225 / 15) ((225 * (i / 225) + (15 * s + t)) % 15) q (j % 225 / 15) (j % 15) := by rw [f1, f2]; exact h4
          exact Or.inr ⟨d, 225 * (i / 225) + (15 * s + t), q, (key _ q _ _ hL hS).mpr (by omega), by omega, hL, hS⟩
        · exact Or.inl ⟨by omega, h2⟩
      · omega
  · have e1 : (i + 1) / 225 = i / 225 := by omega
    rw [e1]
    constructor
    · rintro (h | ⟨h1, i', q, h2, h3, h4, h5⟩)
      · exact Or.inl h
      · exact Or.inr ⟨h1, i', q, Or.inl ((key i' q _ _ h4 h5).mp h2), h3, h4, h5⟩
    · rintro (h | ⟨h1, i', q, h2, h3, h4, h5⟩)
      · exact Or.inl h
      · exact Or.inr ⟨h1, i', q, (key i' q _ _ h4 h5).mpr (by omega), h3, h4, h5⟩
theorem gp_Rs {i q0 : Nat} (hk : gp_L C D W T (i / 225) (i % 225 / 15) (i % 15)) (j : Nat) : gp_R C D W T i (q0 + 1) j ↔ gp_R C D W T i q0 j ∨ (j / 225 = i / 225 + 1 ∧ gp_St D W T (i / 225) (i % 225 / 15) (i % 15) q0 (j % 225 / 15) (j % 15)) := by
  unfold gp_R
  constructor
  · rintro (h | ⟨h1, i', q, h2, h3, h4, h5⟩)
    · exact Or.inl (Or.inl h)
    · by_cases e : i' = i ∧ q = q0
      · rw [e.1, e.2] at h5; exact Or.inr ⟨h1, h5⟩
      · exact Or.inl (Or.inr ⟨h1, i', q, by omega, h3, h4, h5⟩)
  · rintro ((h | ⟨h1, i', q, h2, h3, h4, h5⟩) | ⟨h1, h2⟩)
    · exact Or.inl h
    · exact Or.inr ⟨h1, i', q, by omega, h3, h4, h5⟩
    · exact Or.inr ⟨h1, i, q0, by omega, rfl, hk, h2⟩
theorem gp_fin (hOK : gc_OK D V C M W T) {a : Nat} (h : gp_IB C D W T 2475 0 a) : gp_Ans C D W T a := by
  refine ⟨h.1, fun ⟨x, y, z⟩ => ?_⟩
  have ha := gp_le hOK h.1
  have hC := hOK.1
  obtain ⟨s, t, q, h3, h4⟩ := gp_Lq.mp z
  obtain ⟨b1, b2⟩ := gp_Lb hOK _ _ _ h3
  have f1 : (225 * a + (15 * s + t)) % 225 / 15 = s := by omega
  have f2 : (225 * a + (15 * s + t)) % 15 = t := by omega
  refine h.2 (225 * a + (15 * s + t)) q x y (by omega) (by omega) ?_ ?_
  · rw [f1, f2]; exact h3
  · rw [f1, f2]; exact h4
end GPQ
section GPY
variable {S wb D V cp C M : Nat} {W T : Nat → Nat → Nat} {f_built f_made f_encoder f_places f_nodes : Int32} {a_edges a_x a_base a_weight a_number a_arrow a_mark a_list a_sum a_outW a_outS a_sent a_own a_chan a_at a_pick : Nat → Int32}
theorem gp_y171 {post : Int32 → SY → Prop} (J65 : Int32 → Int32 → (Nat → Int32) → (Nat → Int32) → (Nat → Int32) → (Nat → Int32) → (Nat → Int32) → (Nat → Int32) → (Nat → Int32) → (Nat → Int32) → (Nat → Int32) → (Nat → Int32) → (Nat → Int32) → (Nat → Int32) → (Nat → Int32) → (Nat → Int32) → (Nat → Int32) → (Nat → Int32) → Prop) (J90 : Int32 → Int32 → (Nat → Int32) → (Nat → Int32) → (Nat → Int32) → (Nat → Int32) → (Nat → Int32) → (Nat → Int32) → (Nat → Int32) → (Nat → Int32) → (Nat → Int32) → (Nat → Int32) → (Nat → Int32) → (Nat → Int32) → (Nat → Int32) → (Nat → Int32) → (Nat → Int32) → (Nat → Int32) → Prop) {x3 x4 : Int32} {i q a o1 o2 x y : Nat} (hi : i < 2475) (hq : q < 16) (ho1 : o1 < 60) (ho2 : o2 < 60) (ha : a ≤ 10) (hx : x < 15) (hy : y < 15)
    (h1 : a_outS o1 = nI x) (h2 : a_outS o2 = nI y)
    (hk1 : i / 225 = a → J90 (nI (a + 1)) (nI (q + 1)) a_edges a_x a_base a_weight a_number a_arrow (upd a_mark (225 * (i / 225 + 1) + (15 * x + y)) 1) a_list a_sum a_outW a_outS a_sent a_own a_chan a_at a_pick)
    (hk0 : i / 225 ≠ a → J90 (nI a) (nI (q + 1)) a_edges a_x a_base a_weight a_number a_arrow (upd a_mark (225 * (i / 225 + 1) + (15 * x + y)) 1) a_list a_sum a_outW a_outS a_sent a_own a_chan a_at a_pick) :
    wY_anticipation_171 post J65 J90 (nI a) (nI i) x3 x4 (nI q) (nI o1) (nI o2) (nI S) (nI D) (nI wb) (nI V) (nI cp) f_built (nI C) f_made f_encoder f_places f_nodes a_edges a_x a_base a_weight a_number a_arrow a_mark a_list a_sum a_outW a_outS a_sent a_own a_chan a_at a_pick := by
  have ex : ((nI (i / 225) + 1) * 225 + nI x * 15) + nI y = nI (225 * (i / 225 + 1) + (15 * x + y)) := by
    rw [nI_1, show (225 : Int32) = nI 225 from rfl, show (15 : Int32) = nI 15 from rfl, pk_mul, pk_mul, nI_add, nI_add]
    congr 1; omega
  refine ⟨by decide, vp_in_nI ho1 (by omega), vp_in_nI ho2 (by omega), ?_⟩
  rw [gu_225 (by omega), nI_clamp (by omega), nI_clamp (by omega), h1, h2, ex, nI_clamp (by omega)]
  refine ⟨vp_in_nI (by omega) (by omega), nm_r (by rw [gu_nb1]) ⟨by decide, ?_⟩⟩
  exact pk_eq (i / 225) a (fun c => nm_r (nI_1 a) (nm_r (nI_1 q) (hk1 c))) (fun c => nm_r (nI_1 q) (hk0 c))
theorem gp_y90 {post : Int32 → SY → Prop} (J65 : Int32 → Int32 → (Nat → Int32) → (Nat → Int32) → (Nat → Int32) → (Nat → Int32) → (Nat → Int32) → (Nat → Int32) → (Nat → Int32) → (Nat → Int32) → (Nat → Int32) → (Nat → Int32) → (Nat → Int32) → (Nat → Int32) → (Nat → Int32) → (Nat → Int32) → (Nat → Int32) → (Nat → Int32) → Prop) {i : Nat} (hOK : gc_OK D V C M W T) (hD : D = 2 ∨ D = 4) (hV : V ≤ 8) (hi : i < 2475)
    (hst : ∀ c d, c < C → d < D → a_outW (4 * c + d) = nI (W c d) ∧ a_outS (4 * c + d) = nI (T c d))
    (hJ : ∀ a mk, gp_K C D W T (i + 1) 0 mk → gp_IB C D W T (i + 1) 0 a → J65 (nI a) (nI (i + 1)) a_edges a_x a_base a_weight a_number a_arrow mk a_list a_sum a_outW a_outS a_sent a_own a_chan a_at a_pick) :
    ∀ n q a mk, D * D < n + q → q ≤ D * D → gp_K C D W T i q mk → gp_IB C D W T i q a → wY_anticipation_90 post J65 (nI i) (nI (i % 225 / 15)) (nI (i % 15)) (nI S) (nI D) (nI wb) (nI V) (nI cp) f_built (nI C) f_made f_encoder f_places f_nodes n (nI a) (nI q) a_edges a_x a_base a_weight a_number a_arrow mk a_list a_sum a_outW a_outS a_sent a_own a_chan a_at a_pick := by
  have hC := hOK.1
  have hDD : D * D ≤ 16 := by rcases hD with h | h <;> rw [h] <;> decide
  intro n
  induction n with
  | zero => intro q a mk z1 z2; omega
  | succ n ih =>
    intro q a mk z1 z2 hK hB
    have ha := gp_le hOK hB.1
    have hself : mk i = 0 ↔ ¬ gp_L C D W T (i / 225) (i % 225 / 15) (i % 15) := by
      rw [hK i (by omega)]
      constructor
      · intro h z; exact h (Or.inl ⟨Nat.le_refl _, z⟩)
      · rintro h (⟨_, z⟩ | ⟨z, _⟩)
        · exact h z
        · omega
    have fin : (gp_L C D W T (i / 225) (i % 225 / 15) (i % 15) → q = D * D) → J65 (nI a) (nI (i + 1)) a_edges a_x a_base a_weight a_number a_arrow mk a_list a_sum a_outW a_outS a_sent a_own a_chan a_at a_pick := fun h => hJ a mk (fun j hj => by rw [hK j hj, gp_Rn hOK h j]) ⟨hB.1, fun i' q' x y e1 e2 e3 e4 => by
      refine hB.2 i' q' x y e1 ?_ e3 e4
      by_cases e : i' = i
      · subst e
        rw [← e1] at e3
        have := h e3
        have := e4.1
        omega
      · omega⟩
    refine pk_le (D * D) q (fun h => nm_r (nI_1 i) (fin fun _ => by omega)) (fun h => ⟨vp_in_nI (by omega) (by omega), ?_⟩) (pk_mul D D)
    rw [nI_clamp (by omega)]
    refine br_c (fun c => nm_r (nI_1 i) (fin fun z => absurd z (hself.mp c))) (fun c => ?_)
    have hs : gp_L C D W T (i / 225) (i % 225 / 15) (i % 15) := Classical.byContradiction fun z => c (hself.mpr z)
    obtain ⟨s1, s2⟩ := gp_Lb hOK _ _ _ hs
    obtain ⟨q1, q2⟩ := gp_qd h
    have hD0 : 0 < D := by omega
    have hDne : ¬ nI D = 0 := nI_ne0 hD0 (by omega)
    rw [pk_rem (by omega) hD0 (by omega), pk_div (by omega) hD0 (by omega), gu_4', gu_4']
    obtain ⟨w1, w2⟩ := hst _ _ s1 q1
    obtain ⟨w3, w4⟩ := hst _ _ s2 q2
    obtain ⟨o1, o2⟩ := hOK.2.1 _ _ s1 q1
    obtain ⟨o3, o4⟩ := hOK.2.1 _ _ s2 q2
    have skip : (∀ x y, ¬ gp_St D W T (i / 225) (i % 225 / 15) (i % 15) q x y) → wY_anticipation_90 post J65 (nI i) (nI (i % 225 / 15)) (nI (i % 15)) (nI S) (nI D) (nI wb) (nI V) (nI cp) f_built (nI C) f_made f_encoder f_places f_nodes n (nI a) (nI (q + 1)) a_edges a_x a_base a_weight a_number a_arrow mk a_list a_sum a_outW a_outS a_sent a_own a_chan a_at a_pick := fun hn =>
      ih (q + 1) a mk (by omega) (by omega) (fun j hj => by
        rw [hK j hj, gp_Rs hs]
        constructor
        · rintro h1 (h2 | ⟨_, h2⟩)
          · exact h1 h2
          · exact hn _ _ h2
        · intro h1 h2; exact h1 (Or.inl h2)) ⟨hB.1, fun i' q' x y e1 e2 e3 e4 => by
        by_cases e : i' = i ∧ q' = q
        · obtain ⟨rfl, rfl⟩ := e
          rw [← e1] at e4
          exact hn _ _ e4
        · exact hB.2 i' q' x y e1 (by omega) e3 e4⟩
    have hit : gp_St D W T (i / 225) (i % 225 / 15) (i % 15) q (T (i % 225 / 15) (q / D)) (T (i % 15) (q % D)) → wY_anticipation_171 post J65 (wY_anticipation_90 post J65 (nI i) (nI (i % 225 / 15)) (nI (i % 15)) (nI S) (nI D) (nI wb) (nI V) (nI cp) f_built (nI C) f_made f_encoder f_places f_nodes n) (nI a) (nI i) (nI (i % 225 / 15)) (nI (i % 15)) (nI q) (nI (4 * (i % 225 / 15) + q / D)) (nI (4 * (i % 15) + q % D)) (nI S) (nI D) (nI wb) (nI V) (nI cp) f_built (nI C) f_made f_encoder f_places f_nodes a_edges a_x a_base a_weight a_number a_arrow mk a_list a_sum a_outW a_outS a_sent a_own a_chan a_at a_pick := fun hS => by
      have hK' : gp_K C D W T i (q + 1) (upd mk (225 * (i / 225 + 1) + (15 * T (i % 225 / 15) (q / D) + T (i % 15) (q % D))) 1) := fun j hj => by
        rw [gp_Rs hs]
        by_cases e : j = 225 * (i / 225 + 1) + (15 * T (i % 225 / 15) (q / D) + T (i % 15) (q % D))
        · rw [e, pk_us]
          constructor
          · intro z; exact absurd z (by decide)
          · intro z
            refine absurd (Or.inr ⟨by omega, ?_⟩) z
            rw [show (225 * (i / 225 + 1) + (15 * T (i % 225 / 15) (q / D) + T (i % 15) (q % D))) % 225 / 15 = T (i % 225 / 15) (q / D) by omega, show (225 * (i / 225 + 1) + (15 * T (i % 225 / 15) (q / D) + T (i % 15) (q % D))) % 15 = T (i % 15) (q % D) by omega]
            exact hS
        · rw [pk_un e, hK j hj]
          constructor
          · rintro h1 (h2 | ⟨h2, _, _, _, h3, h4⟩)
            · exact h1 h2
            · omega
          · intro h1 h2; exact h1 (Or.inl h2)
      refine gp_y171 J65 _ hi (by omega) (by omega) (by omega) (by omega) (by omega) (by omega) w2 w4 (fun e => ?_) (fun e => ?_)
      · refine ih (q + 1) (a + 1) _ (by omega) (by omega) hK' ⟨fun b hb => ?_, fun i' q' x y e1 e2 _ _ => by omega⟩
        by_cases eb : b = a
        · subst eb
          rw [← e]
          exact ⟨_, _, gp_Lq.mpr ⟨_, _, q, hs, hS⟩⟩
        · exact hB.1 b (by omega)
      · exact ih (q + 1) a _ (by omega) (by omega) hK' ⟨hB.1, fun i' q' x y e1 e2 e3 e4 => hB.2 i' q' x y e1 (by
          by_cases ee : i' = i
          · subst ee; exact absurd e1 e
          · omega) e3 e4⟩
    refine ⟨hDne, nm_e ⟨hDne, nm_e ⟨vp_in_nI (by omega) (by omega), vp_in_nI (by omega) (by omega), ?_⟩⟩⟩
    rw [nI_clamp (by omega), nI_clamp (by omega), w1, w3]
    refine pk_eq (W (i % 225 / 15) (q / D)) (W (i % 15) (q % D)) (fun cw => pk_le 225 i (fun c2 => hit ⟨h, cw, fun z => by omega, rfl, rfl⟩) (fun c2 => ?_)) (fun cw => nm_r (nI_1 q) (skip fun x y z => cw z.2.1))
    have h0 : i / 225 = 0 := by omega
    have est : i % 225 / 15 = i % 15 := by
      have := hs
      rw [h0] at this
      exact this.1
    refine pk_eq (4 * (i % 225 / 15) + q / D) (4 * (i % 15) + q % D) (fun c3 => nm_r (nI_1 q) (skip fun x y z => z.2.2.1 h0 (by omega))) (fun c3 => hit ⟨h, cw, fun _ => by omega, rfl, rfl⟩)
theorem gp_y65 {post : Int32 → SY → Prop} (hOK : gc_OK D V C M W T) (hD : D = 2 ∨ D = 4) (hV : V ≤ 8)
    (hst : ∀ c d, c < C → d < D → a_outW (4 * c + d) = nI (W c d) ∧ a_outS (4 * c + d) = nI (T c d))
    (hp : ∀ a mk, gp_Ans C D W T a → post (nI a) ((nI S), (nI D), (nI wb), (nI V), (nI cp), f_built, (nI C), f_made, f_encoder, f_places, f_nodes, a_edges, a_x, a_base, a_weight, a_number, a_arrow, mk, a_list, a_sum, a_outW, a_outS, a_sent, a_own, a_chan, a_at, a_pick)) :
    ∀ n i a mk, 2475 < n + i → i ≤ 2475 → gp_K C D W T i 0 mk → gp_IB C D W T i 0 a → wY_anticipation_65 post (nI S) (nI D) (nI wb) (nI V) (nI cp) f_built (nI C) f_made f_encoder f_places f_nodes n (nI a) (nI i) a_edges a_x a_base a_weight a_number a_arrow mk a_list a_sum a_outW a_outS a_sent a_own a_chan a_at a_pick := by
  intro n
  induction n with
  | zero => intro i a mk z1 z2; omega
  | succ n ih =>
    intro i a mk z1 z2 hK hB
    refine pk_le 2475 i (fun h => ?_) (fun h => ⟨by decide, by decide, nm_r (e' := nI (i % 225 / 15)) (by rw [gu_r225 (by omega), gu_15 (by omega)]) ⟨by decide, nm_r (gu_r15 (by omega)) ⟨D * D + 1, ?_⟩⟩⟩)
    · have e : i = 2475 := by omega
      subst e
      exact hp a mk (gp_fin hOK hB)
    · exact gp_y90 (wY_anticipation_65 post (nI S) (nI D) (nI wb) (nI V) (nI cp) f_built (nI C) f_made f_encoder f_places f_nodes n) hOK hD hV h hst (fun a' mk' h1 h2 => ih (i + 1) a' mk' (by omega) (by omega) h1 h2) (D * D + 1) 0 a mk (by omega) (Nat.zero_le _) hK hB
theorem gp_y14 {post : Int32 → SY → Prop} {x1 : Int32} (hC : C ≤ 15)
    (hk : ∀ mk, (∀ j, j < 2700 → (mk j = 0 ↔ ¬ (j < 225 ∧ j % 16 = 0 ∧ j / 16 < C))) → ∃ n65, wY_anticipation_65 post (nI S) (nI D) (nI wb) (nI V) (nI cp) f_built (nI C) f_made f_encoder f_places f_nodes n65 x1 0 a_edges a_x a_base a_weight a_number a_arrow mk a_list a_sum a_outW a_outS a_sent a_own a_chan a_at a_pick) :
    ∀ n i mk, 2700 < n + i → i ≤ 2700 → (∀ j, j < i → (mk j = 0 ↔ ¬ (j < 225 ∧ j % 16 = 0 ∧ j / 16 < C))) → wY_anticipation_14 post x1 (nI S) (nI D) (nI wb) (nI V) (nI cp) f_built (nI C) f_made f_encoder f_places f_nodes n (nI i) a_edges a_x a_base a_weight a_number a_arrow mk a_list a_sum a_outW a_outS a_sent a_own a_chan a_at a_pick := by
  intro n
  induction n with
  | zero => intro i mk z1 z2; omega
  | succ n ih =>
    intro i mk z1 z2 hI
    have st0 : ¬ (i < 225 ∧ i % 16 = 0 ∧ i / 16 < C) → ∀ j, j < i + 1 → (upd mk i 0 j = 0 ↔ ¬ (j < 225 ∧ j % 16 = 0 ∧ j / 16 < C)) := fun c j hj => by
      by_cases e : j = i
      · subst e; rw [pk_us]; exact ⟨fun _ => c, fun _ => rfl⟩
      · rw [pk_un e]; exact hI j (by omega)
    have st1 : (i < 225 ∧ i % 16 = 0 ∧ i / 16 < C) → ∀ j, j < i + 1 → (upd mk i 1 j = 0 ↔ ¬ (j < 225 ∧ j % 16 = 0 ∧ j / 16 < C)) := fun c j hj => by
      by_cases e : j = i
      · subst e; rw [pk_us]; exact ⟨fun z => absurd z (by decide), fun z => absurd c z⟩
      · rw [pk_un e]; exact hI j (by omega)
    refine pk_le 2700 i (fun h => hk mk fun j hj => hI j (by omega)) (fun h => ?_)
    have go0 : ¬ (i < 225 ∧ i % 16 = 0 ∧ i / 16 < C) → wY_anticipation_14 post x1 (nI S) (nI D) (nI wb) (nI V) (nI cp) f_built (nI C) f_made f_encoder f_places f_nodes n (nI (i + 1)) a_edges a_x a_base a_weight a_number a_arrow (upd mk i 0) a_list a_sum a_outW a_outS a_sent a_own a_chan a_at a_pick := fun c => ih (i + 1) _ (by omega) (by omega) (st0 c)
    rw [nI_clamp (by omega), gu_r16 (by omega), gu_16 (by omega), gu_nb0, gu_nb1]
    refine pk_le 225 i (fun c => ⟨vp_in_nI (by omega) (by omega), nm_e (nm_r (nI_1 i) (go0 (by omega)))⟩) (fun c => ⟨by decide, pk_eq (i % 16) 0 (fun c2 => ⟨by decide, pk_le C (i / 16) (fun c3 => ⟨vp_in_nI (by omega) (by omega), nm_e (nm_r (nI_1 i) (go0 (by omega)))⟩) (fun c3 => ⟨vp_in_nI (by omega) (by omega), nm_e (nm_r (nI_1 i) (ih (i + 1) _ (by omega) (by omega) (st1 ⟨c, c2, c3⟩)))⟩)⟩) (fun c2 => ⟨vp_in_nI (by omega) (by omega), nm_e (nm_r (nI_1 i) (go0 (by omega)))⟩)⟩)
/-- anticipation of the reference, when built -/
theorem gp_y {post : Int32 → SY → Prop} (hb : ¬ f_built = 0) (hOK : gc_OK D V C M W T) (hD : D = 2 ∨ D = 4) (hV : V ≤ 8)
    (hst : ∀ c d, c < C → d < D → a_outW (4 * c + d) = nI (W c d) ∧ a_outS (4 * c + d) = nI (T c d))
    (hp : ∀ a mk, gp_Ans C D W T a → post (nI a) ((nI S), (nI D), (nI wb), (nI V), (nI cp), f_built, (nI C), f_made, f_encoder, f_places, f_nodes, a_edges, a_x, a_base, a_weight, a_number, a_arrow, mk, a_list, a_sum, a_outW, a_outS, a_sent, a_own, a_chan, a_at, a_pick)) : wpY_anticipation post ((nI S), (nI D), (nI wb), (nI V), (nI cp), f_built, (nI C), f_made, f_encoder, f_places, f_nodes, a_edges, a_x, a_base, a_weight, a_number, a_arrow, a_mark, a_list, a_sum, a_outW, a_outS, a_sent, a_own, a_chan, a_at, a_pick) := by
  have hC := hOK.1
  refine br_f hb ⟨2701, gp_y14 (by omega) (fun mk hmk => ⟨2476, gp_y65 hOK hD hV hst hp 2476 0 0 mk (by omega) (by omega) (fun j hj => ?_) ⟨fun b h => by omega, fun i' q x y _ h => by omega⟩⟩) 2701 0 a_mark (by omega) (by omega) (fun j h => by omega)⟩
  rw [hmk j hj]
  unfold gp_R
  constructor
  · rintro h1 (⟨h2, h3⟩ | ⟨_, i', q, h2, _⟩)
    · have e : j / 225 = 0 := by omega
      rw [e, Nat.mod_eq_of_lt (show j < 225 by omega)] at h3
      obtain ⟨h4, h5⟩ := h3
      exact h1 ⟨by omega, by omega, by omega⟩
    · omega
  · intro h1 h2
    refine h1 (Or.inl ⟨by omega, ?_⟩)
    obtain ⟨h3, h4, h5⟩ := h2
    rw [show j / 225 = 0 by omega, Nat.mod_eq_of_lt h3]
    exact ⟨by omega, by omega⟩
end GPY
end
section
/-! decode: pure -/
/-- n steps from s, with the words from place p on, lead to x -/
def gd_P (D : Nat) (W T : Nat → Nat → Nat) (ch : Nat → Nat) : Nat → Nat → Nat → Nat → Prop
  | 0, _, s, x => s = x
  | n + 1, p, s, x => ∃ e, e < D ∧ W s e = ch p ∧ gd_P D W T ch n (p + 1) (T s e) x
/-- walks from (i, s) to the end, with d at the place 'back' -/
def gd_Q (D : Nat) (W T : Nat → Nat → Nat) (ch : Nat → Nat) (f back : Nat) : Nat → Nat → Nat → Nat → Nat → Prop
  | 0, _, _, dB, d => d = dB
  | r + 1, i, s, dB, d => ∃ e, e < D ∧ W s e = ch (f + i) ∧ gd_Q D W T ch f back r (i + 1) (T s e) (if i = back then e else dB) d
def gd_D (C D : Nat) (W T : Nat → Nat → Nat) (ch : Nat → Nat) (f back ahead d : Nat) : Prop :=
  d < D ∧ ∃ c x y, c < C ∧ gd_P D W T ch back f c x ∧ W x d = ch (f + back) ∧ gd_P D W T ch ahead (f + back + 1) (T x d) y
/-- the answer: none, one, several -/
def gd_A (Q : Nat → Prop) (r : Int32) : Prop := (r = -9 ∧ ∀ d, ¬ Q d) ∨ (∃ d, r = nI d ∧ Q d ∧ ∀ e, Q e → e = d) ∨ (r = -10 ∧ ∃ d e, Q d ∧ Q e ∧ d ≠ e)
theorem gd_Ac {Q Q' : Nat → Prop} {r : Int32} (h : gd_A Q r) (e : ∀ d, Q d ↔ Q' d) : gd_A Q' r := by
  rcases h with ⟨h1, h2⟩ | ⟨d, h1, h2, h3⟩ | ⟨h1, d, d', h2, h3, h4⟩
  · exact Or.inl ⟨h1, fun d z => h2 d ((e d).mpr z)⟩
  · exact Or.inr (Or.inl ⟨d, h1, (e d).mp h2, fun d' z => h3 d' ((e d').mpr z)⟩)
  · exact Or.inr (Or.inr ⟨h1, d, d', (e d).mp h2, (e d').mp h3, h4⟩)
theorem gd_Aun {Q : Nat → Prop} {r r' : Int32} (h : gd_A Q r) (h' : gd_A Q r') : r = r' := by
  rcases h with ⟨h1, h2⟩ | ⟨d, h1, h2, h3⟩ | ⟨h1, d, e, h2, h3, h4⟩
  · rcases h' with ⟨k1, k2⟩ | ⟨d', k1, k2, k3⟩ | ⟨k1, d', e', k2, k3, k4⟩
    · rw [h1, k1]
    · exact absurd k2 (h2 d')
    · exact absurd k2 (h2 d')
  · rcases h' with ⟨k1, k2⟩ | ⟨d', k1, k2, k3⟩ | ⟨k1, d', e', k2, k3, k4⟩
    · exact absurd h2 (k2 d)
    · rw [h1, k1, h3 d' k2]
    · exact absurd ((h3 d' k2).trans (h3 e' k3).symm) k4
  · rcases h' with ⟨k1, k2⟩ | ⟨d', k1, k2, k3⟩ | ⟨k1, d', e', k2, k3, k4⟩
    · exact absurd h2 (k2 d)
    · exact absurd ((k3 d h2).trans (k3 e h3).symm) h4
    · rw [h1, k1]
def gd_u (x : Int32) (v : Nat) : Int32 := if x = -9 ∨ x = nI v then nI v else -10
theorem gd_n9 {v : Nat} (h : v < 2 ^ 31) : nI v ≠ -9 ∧ nI v ≠ -10 := by
  have a := nI_pos h
  exact ⟨fun z => by rw [z] at a; exact absurd a (by decide), fun z => by rw [z] at a; exact absurd a (by decide)⟩
theorem gd_Au {Q : Nat → Prop} {x : Int32} {v : Nat} (hv : v < 4) (hQ : ∀ d, Q d → d < 4) (h : gd_A Q x) : gd_A (fun d => Q d ∨ d = v) (gd_u x v) := by
  unfold gd_u
  rcases h with ⟨h1, h2⟩ | ⟨d, h1, h2, h3⟩ | ⟨h1, d, e, h2, h3, h4⟩
  · rw [if_pos (Or.inl h1)]
    exact Or.inr (Or.inl ⟨v, rfl, Or.inr rfl, fun e z => z.elim (fun z => absurd z (h2 e)) id⟩)
  · have hd := hQ d h2
    by_cases c : d = v
    · rw [if_pos (Or.inr (by rw [h1, c]))]
      exact Or.inr (Or.inl ⟨v, rfl, Or.inr rfl, fun e z => z.elim (fun z => (h3 e z).trans c) id⟩)
    · rw [if_neg (fun z => z.elim (fun z => (gd_n9 (v := d) (by omega)).1 (h1.symm.trans z)) (fun z => c ((nI_eq (by omega) (by omega)).mp (h1.symm.trans z))))]
      exact Or.inr (Or.inr ⟨rfl, d, v, Or.inl h2, Or.inr rfl, c⟩)
  · rw [if_neg (fun z => z.elim (fun z => absurd (h1.symm.trans z) (by decide)) (fun z => (gd_n9 (v := v) (by omega)).2 (z.symm.trans h1)))]
    exact Or.inr (Or.inr ⟨rfl, d, e, Or.inl h2, Or.inl h3, h4⟩)
section GDP
variable {C D V M : Nat} {W T : Nat → Nat → Nat} {ch : Nat → Nat} {f back : Nat}
theorem gd_Pn : ∀ n p s y, gd_P D W T ch (n + 1) p s y ↔ ∃ x e, gd_P D W T ch n p s x ∧ e < D ∧ W x e = ch (p + n) ∧ y = T x e := by
  intro n
  induction n with
  | zero =>
    intro p s y
    constructor
    · intro ⟨e, h1, h2, h3⟩; exact ⟨s, e, rfl, h1, h2, h3.symm⟩
    · intro ⟨x, e, h0, h1, h2, h3⟩
      subst h0
      exact ⟨e, h1, h2, h3.symm⟩
  | succ n ih =>
    intro p s y
    constructor
    · intro ⟨e, h1, h2, h3⟩
      obtain ⟨x, e', q1, q2, q3, q4⟩ := (ih (p + 1) (T s e) y).mp h3
      exact ⟨x, e', ⟨e, h1, h2, q1⟩, q2, by rw [q3]; congr 1; omega, q4⟩
    · intro ⟨x, e', ⟨e, h1, h2, q1⟩, q2, q3, q4⟩
      exact ⟨e, h1, h2, (ih (p + 1) (T s e) y).mpr ⟨x, e', q1, q2, by rw [q3]; congr 1; omega, q4⟩⟩
theorem gd_Qhi : ∀ r i s dB d, back < i → (gd_Q D W T ch f back r i s dB d ↔ d = dB ∧ ∃ y, gd_P D W T ch r (f + i) s y) := by
  intro r
  induction r with
  | zero =>
    intro i s dB d hi
    exact ⟨fun h => ⟨h, s, rfl⟩, fun h => h.1⟩
  | succ r ih =>
    intro i s dB d hi
    constructor
    · intro ⟨e, h1, h2, h3⟩
      rw [if_neg (by omega)] at h3
      obtain ⟨q1, y, q2⟩ := (ih (i + 1) (T s e) dB d (by omega)).mp h3
      exact ⟨q1, y, e, h1, h2, q2⟩
    · intro ⟨q1, y, e, h1, h2, q2⟩
      refine ⟨e, h1, h2, ?_⟩
      rw [if_neg (by omega)]
      exact (ih (i + 1) (T s e) dB d (by omega)).mpr ⟨q1, y, q2⟩
theorem gd_Qlo {ahead : Nat} : ∀ k i s dB d, i + k = back → (gd_Q D W T ch f back (k + ahead + 1) i s dB d ↔ d < D ∧ ∃ x y, gd_P D W T ch k (f + i) s x ∧ W x d = ch (f + back) ∧ gd_P D W T ch ahead (f + back + 1) (T x d) y) := by
  intro k
  induction k with
  | zero =>
    intro i s dB d hi
    have e : i = back := by omega
    subst e
    rw [Nat.zero_add]
    constructor
    · intro ⟨e, h1, h2, h3⟩
      rw [if_pos rfl] at h3
      obtain ⟨q1, y, q2⟩ := (gd_Qhi ahead (i + 1) (T s e) e d (by omega)).mp h3
      subst q1
      exact ⟨h1, s, y, rfl, h2, q2⟩
    · intro ⟨h1, x, y, q0, h2, q2⟩
      have q0' : s = x := q0
      subst q0'
      refine ⟨d, h1, h2, ?_⟩
      rw [if_pos rfl]
      exact (gd_Qhi ahead (i + 1) (T s d) d d (by omega)).mpr ⟨rfl, y, q2⟩
  | succ k ih =>
    intro i s dB d hi
    rw [show k + 1 + ahead + 1 = (k + ahead + 1) + 1 by omega]
    constructor
    · intro ⟨e, h1, h2, h3⟩
      obtain ⟨q1, x, y, q2, q3⟩ := (ih (i + 1) (T s e) _ d (by omega)).mp h3
      exact ⟨q1, x, y, ⟨e, h1, h2, q2⟩, q3⟩
    · intro ⟨q1, x, y, ⟨e, h1, h2, q2⟩, q3⟩
      exact ⟨e, h1, h2, (ih (i + 1) (T s e) _ d (by omega)).mpr ⟨q1, x, y, q2, q3⟩⟩
theorem gd_QD {ahead d dB : Nat} : (∃ c, c < C ∧ gd_Q D W T ch f back (back + ahead + 1) 0 c dB d) ↔ gd_D C D W T ch f back ahead d := by
  constructor
  · intro ⟨c, hc, h⟩
    obtain ⟨q1, x, y, q2, q3⟩ := (gd_Qlo back 0 c dB d (by omega)).mp h
    exact ⟨q1, c, x, y, hc, q2, q3⟩
  · intro ⟨q1, c, x, y, hc, q2, q3⟩
    exact ⟨c, hc, (gd_Qlo back 0 c dB d (by omega)).mpr ⟨q1, x, y, q2, q3⟩⟩
theorem gd_Qb : ∀ r i s dB d, (back < i → dB < D) → back < i + r → gd_Q D W T ch f back r i s dB d → d < D := by
  intro r
  induction r with
  | zero => intro i s dB d h hb z; rw [show d = dB from z]; exact h (by omega)
  | succ r ih =>
    intro i s dB d h hb ⟨e, h1, h2, h3⟩
    refine ih (i + 1) (T s e) _ d (fun z => ?_) (by omega) h3
    split
    · exact h1
    · exact h (by omega)
/-! how many turns -/
def gd_t (D : Nat) (W T : Nat → Nat → Nat) (ch : Nat → Nat) : Nat → Nat → Nat → Nat
  | 0, _, _ => 0
  | r + 1, p, s => 1 + gu_s (fun e => 1 + (if W s e = ch p then gd_t D W T ch r (p + 1) (T s e) else 0)) D
def gd_wc (D : Nat) (W T : Nat → Nat → Nat) (ch : Nat → Nat) : Nat → Nat → Nat → Nat
  | 0, _, _ => 1
  | n + 1, p, s => gu_s (fun e => if W s e = ch p then gd_wc D W T ch n (p + 1) (T s e) else 0) D
def gd_cw (D : Nat) (W T : Nat → Nat → Nat) (ch : Nat → Nat) : Nat → Nat → Nat → Nat → Nat
  | 0, _, s, z => if s = z then 1 else 0
  | n + 1, p, s, z => gu_s (fun e => if W s e = ch p then gd_cw D W T ch n (p + 1) (T s e) z else 0) D
theorem gd_sf (f : Nat → Nat) : ∀ r, gu_s f (r + 1) = f 0 + gu_s (fun l => f (l + 1)) r := by
  intro r
  have := gu_sp f 1 r
  rw [Nat.add_comm 1 r] at this
  rw [this]
  show 0 + f 0 + _ = _
  rw [Nat.zero_add]
  congr 1
  exact gu_sc fun l _ => congrArg f (Nat.add_comm 1 l)
theorem gd_tw : ∀ r p s, gd_t D W T ch r p s = (D + 1) * gu_s (fun l => gd_wc D W T ch l p s) r := by
  intro r
  induction r with
  | zero => intro p s; rfl
  | succ r ih =>
    intro p s
    rw [gd_sf]
    show 1 + gu_s (fun e => 1 + (if W s e = ch p then gd_t D W T ch r (p + 1) (T s e) else 0)) D = (D + 1) * (1 + gu_s (fun l => gu_s (fun e => if W s e = ch p then gd_wc D W T ch l (p + 1) (T s e) else 0) D) r)
    rw [gu_sa, gu_sn, gu_sw (fun l e => if W s e = ch p then gd_wc D W T ch l (p + 1) (T s e) else 0) D r, Nat.mul_add, ← gu_sk]
    have : gu_s (fun i => if W s i = ch p then gd_t D W T ch r (p + 1) (T s i) else 0) D = gu_s (fun i => (D + 1) * gu_s (fun l => if W s i = ch p then gd_wc D W T ch l (p + 1) (T s i) else 0) r) D := by
      apply gu_sc
      intro e _
      by_cases c : W s e = ch p
      · rw [if_pos c, ih]
        congr 1
        exact gu_sc fun l _ => (if_pos c).symm
      · rw [if_neg c]
        have : gu_s (fun l => if W s e = ch p then gd_wc D W T ch l (p + 1) (T s e) else 0) r = gu_s (fun _ => 0) r := gu_sc fun l _ => if_neg c
        rw [this, gu_sn, Nat.mul_zero, Nat.mul_zero]
    rw [this]
    omega
theorem gd_cwP : ∀ n p s z, 0 < gd_cw D W T ch n p s z → gd_P D W T ch n p s z := by
  intro n
  induction n with
  | zero =>
    intro p s z h
    have h' : 0 < (if s = z then 1 else 0) := h
    by_cases c : s = z
    · exact c
    · rw [if_neg c] at h'; omega
  | succ n ih =>
    intro p s z h
    obtain ⟨e, he, hp⟩ := gu_ex h
    by_cases c : W s e = ch p
    · rw [if_pos c] at hp
      exact ⟨e, he, c, ih _ _ _ hp⟩
    · rw [if_neg c] at hp; omega
def gd_ws (ch : Nat → Nat) : Nat → Nat → List Nat
  | 0, _ => []
  | n + 1, p => ch p :: gd_ws ch n (p + 1)
theorem gd_PR : ∀ n p s z, gd_P D W T ch n p s z → gc_R D W T (gd_ws ch n p) s z := by
  intro n
  induction n with
  | zero => intro p s z h; exact h
  | succ n ih => intro p s z ⟨e, h1, h2, h3⟩; exact ⟨e, h1, h2, ih _ _ _ h3⟩
theorem gd_s1 {g : Nat → Nat} : ∀ k, (∀ e, e < k → g e ≤ 1) → (∀ e e', e < k → e' < k → e ≠ e' → 0 < g e → ¬ 0 < g e') → gu_s g k ≤ 1 := by
  intro k
  induction k with
  | zero => intro _ _; exact Nat.zero_le _
  | succ k ih =>
    intro h1 h2
    rw [gu_s1]
    rcases Nat.eq_zero_or_pos (g k) with c | c
    · have := ih (fun e he => h1 e (by omega)) (fun e e' he he' => h2 e e' (by omega) (by omega))
      omega
    · have z : gu_s g k = gu_s (fun _ => 0) k := gu_sc fun e he => by
        have := h2 k e (by omega) (by omega) (by omega) c
        omega
      rw [z, gu_sn]
      have := h1 k (by omega)
      omega
theorem gd_cw1 (hOK : gc_OK D V C M W T) : ∀ n p s z, s < C → gd_cw D W T ch n p s z ≤ 1 := by
  intro n
  induction n with
  | zero =>
    intro p s z _
    show (if s = z then 1 else 0) ≤ 1
    split <;> omega
  | succ n ih =>
    intro p s z hs
    apply gd_s1
    · intro e he
      split
      · exact ih _ _ _ (hOK.2.1 s e hs he).2
      · omega
    · intro e e' he he' ne h h'
      by_cases c : W s e = ch p
      · by_cases c' : W s e' = ch p
        · rw [if_pos c] at h
          rw [if_pos c'] at h'
          exact hOK.2.2.2 s e e' _ z hs he he' ne (c.trans c'.symm) (gd_PR _ _ _ _ (gd_cwP _ _ _ _ h)) (gd_PR _ _ _ _ (gd_cwP _ _ _ _ h'))
        · rw [if_neg c'] at h'; omega
      · rw [if_neg c] at h; omega
theorem gd_wcs (hOK : gc_OK D V C M W T) : ∀ n p s, s < C → gd_wc D W T ch n p s = gu_s (fun z => gd_cw D W T ch n p s z) C := by
  intro n
  induction n with
  | zero =>
    intro p s hs
    have := gu_s1c (f := fun z => if s = z then 1 else 0) (g := fun _ => 0) (a := s) (k := C) (fun i _ hi => if_neg (fun z => hi z.symm)) hs
    rw [gu_sn, if_pos rfl] at this
    show 1 = gu_s (fun z => if s = z then 1 else 0) C
    omega
  | succ n ih =>
    intro p s hs
    show gu_s (fun e => if W s e = ch p then gd_wc D W T ch n (p + 1) (T s e) else 0) D = gu_s (fun z => gu_s (fun e => if W s e = ch p then gd_cw D W T ch n (p + 1) (T s e) z else 0) D) C
    rw [gu_sw (fun z e => if W s e = ch p then gd_cw D W T ch n (p + 1) (T s e) z else 0) D C]
    apply gu_sc
    intro e he
    by_cases c : W s e = ch p
    · rw [if_pos c, ih _ _ (hOK.2.1 s e hs he).2]
      exact gu_sc fun z _ => (if_pos c).symm
    · rw [if_neg c]
      have : gu_s (fun z => if W s e = ch p then gd_cw D W T ch n (p + 1) (T s e) z else 0) C = gu_s (fun _ => 0) C := gu_sc fun z _ => if_neg c
      rw [this, gu_sn, Nat.mul_zero]
theorem gd_tb (hOK : gc_OK D V C M W T) (hD : D ≤ 4) {r p s : Nat} (hs : s < C) (hr : r ≤ 32) : gd_t D W T ch r p s ≤ 2400 := by
  rw [gd_tw]
  have a : gu_s (fun l => gd_wc D W T ch l p s) r ≤ r * 15 := gu_sb fun l _ => by
    rw [gd_wcs hOK _ _ _ hs]
    have := gu_sb (f := fun z => gd_cw D W T ch l p s z) (b := 1) (k := C) (fun z _ => gd_cw1 hOK _ _ _ _ hs)
    have := hOK.1
    omega
  have b : (D + 1) * gu_s (fun l => gd_wc D W T ch l p s) r ≤ 5 * (r * 15) := Nat.mul_le_mul (by omega) a
  omega
end GDP
end
section
/-! decode: the component's walk -/
def gd_M (Q : Nat → Prop) (M : Int32) : Prop := ∀ i, i < 32 → (bt M i = true ↔ Q i)
theorem gd_Mc {Q Q' : Nat → Prop} {M : Int32} (h : gd_M Q M) (e : ∀ i, Q i ↔ Q' i) : gd_M Q' M := fun i hi => by rw [h i hi]; exact e i
theorem gd_Mo {Q : Nat → Prop} {M : Int32} {y : Nat} (h : gd_M Q M) (hy : y < 32) : gd_M (fun i => Q i ∨ i = y) (M ||| ((1 : Int32) <<< (nI y &&& 31))) := fun i hi => by
  rw [gu_or hy hi, Bool.or_eq_true, h i hi, decide_eq_true_eq]
theorem gd_Mu {Q Q' : Nat → Prop} {M M' : Int32} (h : gd_M Q M) (h' : gd_M Q' M') : gd_M (fun i => Q i ∨ Q' i) (M ||| M') := fun i hi => by
  rw [b_or, Bool.or_eq_true, h i hi, h' i hi]
theorem gd_M0 {Q : Nat → Prop} (h : ∀ i, ¬ Q i) : gd_M Q 0 := fun i hi => by
  rw [b_0]; exact ⟨fun z => absurd z (by decide), fun z => absurd z (h i)⟩
theorem gd_Mz {Q : Nat → Prop} {M : Int32} (h : gd_M Q M) (hQ : ∀ i, Q i → i < 32) : M = 0 ↔ ∀ i, ¬ Q i := by
  rw [gu_z]
  constructor
  · intro z i q
    have := (h i (hQ i q)).mpr q
    rw [z i (hQ i q)] at this
    exact absurd this (by decide)
  · intro z i hi; exact gu_nt fun c => z i ((h i hi).mp c)
section GDX
variable {S db wb D V cp C M : Nat} {W T : Nat → Nat → Nat} {ch : Nat → Nat} {f back ahead : Nat} {f_nodeCount f_listSize f_built f_splitCount f_encoder f_messageLength : Int32} {a_edgeTarget a_jumpTarget a_good a_nodeBase a_nodeWeight a_arrows a_renumber a_listWord a_listTarget a_seenAt a_seenSum a_alive a_codeBase a_stepWord a_stepTarget a_pairNow a_pairNext a_sentData a_sentWord a_channelWord : Nat → Int32}
theorem gd_6 {post : Int32 → Prop} {Q : Nat → Prop} {B : Int32} {w d : Nat} (hOK : gc_OK D V C M W T) (hD : D ≤ 4) (hV : V ≤ 8) (hw : w < V) (hd : d < D) (hM : gd_M Q B) (hQ : ∀ c, Q c → c < C)
    (hst : ∀ c d, c < C → d < D → a_stepWord (4 * c + d) = nI (W c d) ∧ a_stepTarget (4 * c + d) = nI (T c d))
    (hp : ∀ B', gd_M (fun y => ∃ c, Q c ∧ W c d = w ∧ y = T c d) B' → post B') :
    ∀ n c B', C < n + c → c ≤ C → gd_M (fun y => ∃ c', c' < c ∧ Q c' ∧ W c' d = w ∧ y = T c' d) B' → wX_stepData_6 post B (nI w) (nI d) (nI S) (nI db) (nI wb) (nI D) (nI V) (nI cp) f_nodeCount f_listSize f_built (nI C) f_splitCount f_encoder f_messageLength a_edgeTarget a_jumpTarget a_good a_nodeBase a_nodeWeight a_arrows a_renumber a_listWord a_listTarget a_seenAt a_seenSum a_alive a_codeBase a_stepWord a_stepTarget a_pairNow a_pairNext a_sentData a_sentWord a_channelWord n B' (nI c) := by
  have hC := hOK.1
  intro n
  induction n with
  | zero => intro c B' z1 z2; omega
  | succ n ih =>
    intro c B' z1 z2 hB
    refine pk_le C c (fun h => hp B' (gd_Mc hB fun y => ?_)) (fun h => ?_)
    · constructor
      · intro ⟨c', q1, q2⟩; exact ⟨c', q2⟩
      · intro ⟨c', q2⟩; exact ⟨c', by have := hQ c' q2.1; omega, q2⟩
    · have skip : ¬ (Q c ∧ W c d = w) → wX_stepData_6 post B (nI w) (nI d) (nI S) (nI db) (nI wb) (nI D) (nI V) (nI cp) f_nodeCount f_listSize f_built (nI C) f_splitCount f_encoder f_messageLength a_edgeTarget a_jumpTarget a_good a_nodeBase a_nodeWeight a_arrows a_renumber a_listWord a_listTarget a_seenAt a_seenSum a_alive a_codeBase a_stepWord a_stepTarget a_pairNow a_pairNext a_sentData a_sentWord a_channelWord n B' (nI (c + 1)) := fun hn => ih (c + 1) B' (by omega) (by omega) (gd_Mc hB fun y => by
        constructor
        · intro ⟨c', q1, q2⟩; exact ⟨c', by omega, q2⟩
        · intro ⟨c', q1, q2, q3, q4⟩
          by_cases e : c' = c
          · subst e; exact absurd ⟨q2, q3⟩ hn
          · exact ⟨c', by omega, q2, q3, q4⟩)
      by_cases c1 : Q c
      · obtain ⟨s1, s2⟩ := hst c d h hd
        obtain ⟨o1, o2⟩ := hOK.2.1 c d h hd
        refine br_f (by rw [gu_t (by omega), (hM c (by omega)).mpr c1]; decide) ⟨gu_in4 (by omega) (by omega), ?_⟩
        rw [gu_c4 (by omega), s1, s2]
        refine pk_eq (W c d) w (fun c2 => ⟨gu_in4 (by omega) (by omega), nm_e (nm_r (nI_1 c) (ih (c + 1) _ (by omega) (by omega) (gd_Mc (gd_Mo hB (by omega)) fun y => ?_)))⟩) (fun c2 => nm_r (nI_1 c) (skip fun z => c2 z.2))
        constructor
        · rintro (⟨c', q1, q2⟩ | q)
          · exact ⟨c', by omega, q2⟩
          · exact ⟨c, by omega, c1, c2, q⟩
        · intro ⟨c', q1, q2, q3, q4⟩
          by_cases e : c' = c
          · subst e; exact Or.inr q4
          · exact Or.inl ⟨c', by omega, q2, q3, q4⟩
      · exact br_t (by rw [gu_t (by omega)]; exact gu_nt fun z => c1 ((hM c (by omega)).mp z)) (nm_r (nI_1 c) (skip fun z => c1 z.1))
theorem gd_sd {post : Int32 → Prop} {Q : Nat → Prop} {B : Int32} {w d : Nat} (hOK : gc_OK D V C M W T) (hD : D ≤ 4) (hV : V ≤ 8) (hw : w < V) (hd : d < D) (hM : gd_M Q B) (hQ : ∀ c, Q c → c < C)
    (hst : ∀ c d, c < C → d < D → a_stepWord (4 * c + d) = nI (W c d) ∧ a_stepTarget (4 * c + d) = nI (T c d))
    (hp : ∀ B', gd_M (fun y => ∃ c, Q c ∧ W c d = w ∧ y = T c d) B' → post B') : wpX_stepData post ((nI S), (nI db), (nI wb), (nI D), (nI V), (nI cp), f_nodeCount, f_listSize, f_built, (nI C), f_splitCount, f_encoder, f_messageLength, a_edgeTarget, a_jumpTarget, a_good, a_nodeBase, a_nodeWeight, a_arrows, a_renumber, a_listWord, a_listTarget, a_seenAt, a_seenSum, a_alive, a_codeBase, a_stepWord, a_stepTarget, a_pairNow, a_pairNext, a_sentData, a_sentWord, a_channelWord) B (nI w) (nI d) :=
  ⟨C + 1, gd_6 hOK hD hV hw hd hM hQ hst hp (C + 1) 0 0 (by omega) (by omega) (gd_M0 fun y ⟨c', q, _⟩ => by omega)⟩
theorem gd_5 {post : Int32 → Prop} {Q : Nat → Prop} {B : Int32} {w : Nat} (hOK : gc_OK D V C M W T) (hD : D ≤ 4) (hV : V ≤ 8) (hw : w < V) (hM : gd_M Q B) (hQ : ∀ c, Q c → c < C)
    (hst : ∀ c d, c < C → d < D → a_stepWord (4 * c + d) = nI (W c d) ∧ a_stepTarget (4 * c + d) = nI (T c d))
    (hp : ∀ B', gd_M (fun y => ∃ c e, Q c ∧ e < D ∧ W c e = w ∧ y = T c e) B' → post B') :
    ∀ n d B', D < n + d → d ≤ D → gd_M (fun y => ∃ c e, Q c ∧ e < d ∧ W c e = w ∧ y = T c e) B' → wX_stepSet_5 post B (nI w) (nI S) (nI db) (nI wb) (nI D) (nI V) (nI cp) f_nodeCount f_listSize f_built (nI C) f_splitCount f_encoder f_messageLength a_edgeTarget a_jumpTarget a_good a_nodeBase a_nodeWeight a_arrows a_renumber a_listWord a_listTarget a_seenAt a_seenSum a_alive a_codeBase a_stepWord a_stepTarget a_pairNow a_pairNext a_sentData a_sentWord a_channelWord n B' (nI d) := by
  intro n
  induction n with
  | zero => intro d B' z1 z2; omega
  | succ n ih =>
    intro d B' z1 z2 hB
    refine pk_le D d (fun h => ?_) (fun h => gd_sd hOK hD hV hw h hM hQ hst fun B'' h'' => nm_e (nm_r (nI_1 d) (ih (d + 1) _ (by omega) (by omega) (gd_Mc (gd_Mu hB h'') fun y => ?_))))
    · have e : d = D := by omega
      subst e; exact hp B' hB
    · constructor
      · rintro (⟨c, e, q1, q2, q3⟩ | ⟨c, q1, q2⟩)
        · exact ⟨c, e, q1, by omega, q3⟩
        · exact ⟨c, d, q1, by omega, q2⟩
      · intro ⟨c, e, q1, q2, q3⟩
        by_cases z : e = d
        · subst z; exact Or.inr ⟨c, q1, q3⟩
        · exact Or.inl ⟨c, e, q1, by omega, q3⟩
theorem gd_ss {post : Int32 → Prop} {Q : Nat → Prop} {B : Int32} {w : Nat} (hOK : gc_OK D V C M W T) (hD : D ≤ 4) (hV : V ≤ 8) (hw : w < V) (hM : gd_M Q B) (hQ : ∀ c, Q c → c < C)
    (hst : ∀ c d, c < C → d < D → a_stepWord (4 * c + d) = nI (W c d) ∧ a_stepTarget (4 * c + d) = nI (T c d))
    (hp : ∀ B', gd_M (fun y => ∃ c e, Q c ∧ e < D ∧ W c e = w ∧ y = T c e) B' → post B') : wpX_stepSet post ((nI S), (nI db), (nI wb), (nI D), (nI V), (nI cp), f_nodeCount, f_listSize, f_built, (nI C), f_splitCount, f_encoder, f_messageLength, a_edgeTarget, a_jumpTarget, a_good, a_nodeBase, a_nodeWeight, a_arrows, a_renumber, a_listWord, a_listTarget, a_seenAt, a_seenSum, a_alive, a_codeBase, a_stepWord, a_stepTarget, a_pairNow, a_pairNext, a_sentData, a_sentWord, a_channelWord) B (nI w) :=
  ⟨D + 1, gd_5 hOK hD hV hw hM hQ hst hp (D + 1) 0 0 (by omega) (by omega) (gd_M0 fun y ⟨c, e, _, q, _⟩ => by omega)⟩
theorem gd_PC (hOK : gc_OK D V C M W T) : ∀ n p s x, s < C → gd_P D W T ch n p s x → x < C := by
  intro n
  induction n with
  | zero => intro p s x hs h; rw [← show s = x from h]; exact hs
  | succ n ih => intro p s x hs ⟨e, h1, h2, h3⟩; exact ih _ _ _ (hOK.2.1 s e hs h1).2 h3
/-- after a step with d at the place k: the places behind -/
theorem gd_77 {post : Int32 → Prop} (J47 : Int32 → Int32 → Prop) {x4 x5 : Int32} {d : Nat} {B0 : Nat → Prop} (hOK : gc_OK D V C M W T) (hD : D ≤ 4) (hV : V ≤ 8) (hd : d < D) (hB0 : ∀ s, B0 s → s < C) (hk : f + back + ahead < 32) (hch : ∀ p, p ≤ f + back + ahead → a_channelWord p = nI (ch p) ∧ ch p < V)
    (hst : ∀ c d, c < C → d < D → a_stepWord (4 * c + d) = nI (W c d) ∧ a_stepTarget (4 * c + d) = nI (T c d))
    (h0 : (¬ ∃ s y, B0 s ∧ gd_P D W T ch ahead (f + back + 1) s y) → J47 x5 (nI (d + 1)))
    (h1 : (∃ s y, B0 s ∧ gd_P D W T ch ahead (f + back + 1) s y) → (x5 = -9 → J47 (nI d) (nI (d + 1))) ∧ (¬ x5 = -9 → post (-10))) :
    ∀ n j B, ahead < n + j → j ≤ ahead → gd_M (fun y => ∃ s, B0 s ∧ gd_P D W T ch j (f + back + 1) s y) B → wX_decodeWindow_77 post J47 (nI (f + back)) (nI (f + back + ahead)) x4 x5 (nI d) (nI S) (nI db) (nI wb) (nI D) (nI V) (nI cp) f_nodeCount f_listSize f_built (nI C) f_splitCount f_encoder f_messageLength a_edgeTarget a_jumpTarget a_good a_nodeBase a_nodeWeight a_arrows a_renumber a_listWord a_listTarget a_seenAt a_seenSum a_alive a_codeBase a_stepWord a_stepTarget a_pairNow a_pairNext a_sentData a_sentWord a_channelWord n B (nI (f + back + 1 + j)) := by
  have hC := hOK.1
  intro n
  induction n with
  | zero => intro j B z1 z2; omega
  | succ n ih =>
    intro j B z1 z2 hB
    have bd : ∀ y, (∃ s, B0 s ∧ gd_P D W T ch j (f + back + 1) s y) → y < C := fun y ⟨s, q1, q2⟩ => gd_PC hOK _ _ _ _ (hB0 s q1) q2
    refine pk_lt (f + back + ahead) (f + back + 1 + j) (fun h => ?_) (fun h => ⟨vp_in_nI (by omega) (by omega), ?_⟩)
    · have e : j = ahead := by omega
      subst e
      have z := gd_Mz hB (fun y q => by have := bd y q; omega)
      refine br_c (fun c => nm_r (nI_1 d) (h0 fun ⟨s, y, q⟩ => (z.mp c) y ⟨s, q⟩)) (fun c => ?_)
      have hx : ∃ s y, B0 s ∧ gd_P D W T ch j (f + back + 1) s y := Classical.byContradiction fun q => c (z.mpr fun y ⟨s, q'⟩ => q ⟨s, y, q'⟩)
      exact br_c (fun c2 => nm_r (nI_1 d) ((h1 hx).1 c2)) (fun c2 => (h1 hx).2 c2)
    · obtain ⟨c1, c2⟩ := hch (f + back + 1 + j) (by omega)
      rw [nI_clamp (by omega), c1]
      refine gd_ss hOK hD hV c2 hB bd hst fun B' hB' => nm_r (nI_1 _) (ih (j + 1) B' (by omega) (by omega) (gd_Mc hB' fun y => ?_))
      constructor
      · intro ⟨c, e, ⟨s, q1, q2⟩, q3, q4, q5⟩; exact ⟨s, q1, (gd_Pn j _ s y).mpr ⟨c, e, q2, q3, q4, q5⟩⟩
      · intro ⟨s, q1, q2⟩
        obtain ⟨c, e, q3, q4, q5, q6⟩ := (gd_Pn j _ s y).mp q2
        exact ⟨c, e, ⟨s, q1, q3⟩, q4, q5, q6⟩
theorem gd_47 {post : Int32 → Prop} {B : Int32} (hOK : gc_OK D V C M W T) (hD : D ≤ 4) (hV : V ≤ 8) (hk : f + back + ahead < 32) (hch : ∀ p, p ≤ f + back + ahead → a_channelWord p = nI (ch p) ∧ ch p < V)
    (hst : ∀ c d, c < C → d < D → a_stepWord (4 * c + d) = nI (W c d) ∧ a_stepTarget (4 * c + d) = nI (T c d)) (hB : gd_M (fun x => ∃ c, c < C ∧ gd_P D W T ch back f c x) B)
    (hp : ∀ r, gd_A (gd_D C D W T ch f back ahead) r → post r) :
    ∀ n d x5, D < n + d → d ≤ D → ((x5 = -9 ∧ ∀ e, e < d → ¬ gd_D C D W T ch f back ahead e) ∨ (∃ e, e < d ∧ x5 = nI e ∧ gd_D C D W T ch f back ahead e ∧ ∀ e', e' < d → gd_D C D W T ch f back ahead e' → e' = e)) →
      wX_decodeWindow_47 post (nI (f + back)) (nI (f + back + ahead)) B (nI S) (nI db) (nI wb) (nI D) (nI V) (nI cp) f_nodeCount f_listSize f_built (nI C) f_splitCount f_encoder f_messageLength a_edgeTarget a_jumpTarget a_good a_nodeBase a_nodeWeight a_arrows a_renumber a_listWord a_listTarget a_seenAt a_seenSum a_alive a_codeBase a_stepWord a_stepTarget a_pairNow a_pairNext a_sentData a_sentWord a_channelWord n x5 (nI d) := by
  have bd : ∀ x, (∃ c, c < C ∧ gd_P D W T ch back f c x) → x < C := fun x ⟨c, q1, q2⟩ => gd_PC hOK _ _ _ _ q1 q2
  intro n
  induction n with
  | zero => intro d x5 z1 z2; omega
  | succ n ih =>
    intro d x5 z1 z2 hA
    refine pk_le D d (fun h => hp x5 ?_) (fun h => ⟨vp_in_nI (by omega) (by omega), ?_⟩)
    · rcases hA with ⟨q1, q2⟩ | ⟨e, q0, q1, q2, q3⟩
      · exact Or.inl ⟨q1, fun e z => q2 e (by have := z.1; omega) z⟩
      · exact Or.inr (Or.inl ⟨e, q1, q2, fun e' z => q3 e' (by have := z.1; omega) z⟩)
    · obtain ⟨c1, c2⟩ := hch (f + back) (by omega)
      rw [nI_clamp (by omega), c1]
      refine gd_sd hOK hD hV c2 h hB bd hst fun B' hB' => nm_r (nI_1 _) ⟨ahead + 1, ?_⟩
      have key : (∃ s y, (∃ c, (∃ c', c' < C ∧ gd_P D W T ch back f c' c) ∧ W c d = ch (f + back) ∧ s = T c d) ∧ gd_P D W T ch ahead (f + back + 1) s y) ↔ gd_D C D W T ch f back ahead d := by
        constructor
        · intro ⟨s, y, ⟨c, ⟨c', q1, q2⟩, q3, q4⟩, q5⟩
          rw [q4] at q5
          exact ⟨h, c', c, y, q1, q2, q3, q5⟩
        · intro ⟨_, c', c, y, q1, q2, q3, q5⟩
          exact ⟨T c d, y, ⟨c, ⟨c', q1, q2⟩, q3, rfl⟩, q5⟩
      refine gd_77 (wX_decodeWindow_47 post (nI (f + back)) (nI (f + back + ahead)) B (nI S) (nI db) (nI wb) (nI D) (nI V) (nI cp) f_nodeCount f_listSize f_built (nI C) f_splitCount f_encoder f_messageLength a_edgeTarget a_jumpTarget a_good a_nodeBase a_nodeWeight a_arrows a_renumber a_listWord a_listTarget a_seenAt a_seenSum a_alive a_codeBase a_stepWord a_stepTarget a_pairNow a_pairNext a_sentData a_sentWord a_channelWord n) hOK hD hV h (B0 := fun s => ∃ c, (∃ c', c' < C ∧ gd_P D W T ch back f c' c) ∧ W c d = ch (f + back) ∧ s = T c d) (fun s ⟨c, q, _, q3⟩ => by rw [q3]; exact (hOK.2.1 c d (bd c q) h).2) hk hch hst (fun z => ?_) (fun z => ⟨fun e9 => ?_, fun e9 => ?_⟩) (ahead + 1) 0 B' (by omega) (by omega) (gd_Mc hB' fun y => ?_)
      · rw [key] at z
        refine ih (d + 1) x5 (by omega) (by omega) ?_
        rcases hA with ⟨q1, q2⟩ | ⟨e, q0, q1, q2, q3⟩
        · refine Or.inl ⟨q1, fun e he => ?_⟩
          by_cases c : e = d
          · subst c; exact z
          · exact q2 e (by omega)
        · refine Or.inr ⟨e, by omega, q1, q2, fun e' he' z' => ?_⟩
          by_cases c : e' = d
          · subst c; exact absurd z' z
          · exact q3 e' (by omega) z'
      · rw [key] at z
        refine ih (d + 1) (nI d) (by omega) (by omega) (Or.inr ⟨d, by omega, rfl, z, fun e' he' z' => ?_⟩)
        rcases hA with ⟨q1, q2⟩ | ⟨e, q0, q1, q2, q3⟩
        · by_cases c : e' = d
          · exact c
          · exact absurd z' (q2 e' (by omega))
        · exact absurd (q1.symm.trans e9) (gd_n9 (by omega)).1
      · rw [key] at z
        refine hp (-10) (Or.inr (Or.inr ⟨rfl, ?_⟩))
        rcases hA with ⟨q1, q2⟩ | ⟨e, q0, q1, q2, q3⟩
        · exact absurd q1 e9
        · exact ⟨e, d, q2, z, by omega⟩
      · constructor
        · intro q; exact ⟨y, q, rfl⟩
        · intro ⟨s, q, q2⟩
          rw [← show s = y from q2]; exact q
theorem gd_13 {post : Int32 → Prop} (hOK : gc_OK D V C M W T) (hD : D ≤ 4) (hV : V ≤ 8) (hk : f + back + ahead < 32) (hch : ∀ p, p ≤ f + back + ahead → a_channelWord p = nI (ch p) ∧ ch p < V)
    (hst : ∀ c d, c < C → d < D → a_stepWord (4 * c + d) = nI (W c d) ∧ a_stepTarget (4 * c + d) = nI (T c d))
    (hp : ∀ r, gd_A (gd_D C D W T ch f back ahead) r → post r) :
    ∀ n j B, back < n + j → j ≤ back → gd_M (fun x => ∃ c, c < C ∧ gd_P D W T ch j f c x) B → wX_decodeWindow_13 post (nI (f + back)) (nI (f + back + ahead)) (nI S) (nI db) (nI wb) (nI D) (nI V) (nI cp) f_nodeCount f_listSize f_built (nI C) f_splitCount f_encoder f_messageLength a_edgeTarget a_jumpTarget a_good a_nodeBase a_nodeWeight a_arrows a_renumber a_listWord a_listTarget a_seenAt a_seenSum a_alive a_codeBase a_stepWord a_stepTarget a_pairNow a_pairNext a_sentData a_sentWord a_channelWord n B (nI (f + j)) := by
  intro n
  induction n with
  | zero => intro j B z1 z2; omega
  | succ n ih =>
    intro j B z1 z2 hB
    have bd : ∀ x, (∃ c, c < C ∧ gd_P D W T ch j f c x) → x < C := fun x ⟨c, q1, q2⟩ => gd_PC hOK _ _ _ _ q1 q2
    refine pk_le (f + back) (f + j) (fun h => ⟨D + 1, ?_⟩) (fun h => ⟨vp_in_nI (by omega) (by omega), ?_⟩)
    · have e : j = back := by omega
      subst e
      exact gd_47 hOK hD hV hk hch hst hB hp (D + 1) 0 (-9) (by omega) (by omega) (Or.inl ⟨rfl, fun e h => by omega⟩)
    · obtain ⟨c1, c2⟩ := hch (f + j) (by omega)
      rw [nI_clamp (by omega), c1]
      refine gd_ss hOK hD hV c2 hB bd hst fun B' hB' => nm_r (nI_1 _) (ih (j + 1) B' (by omega) (by omega) (gd_Mc hB' fun y => ?_))
      constructor
      · intro ⟨c, e, ⟨s, q1, q2⟩, q3, q4, q5⟩; exact ⟨s, q1, (gd_Pn j _ s y).mpr ⟨c, e, q2, q3, q4, q5⟩⟩
      · intro ⟨s, q1, q2⟩
        obtain ⟨c, e, q3, q4, q5, q6⟩ := (gd_Pn j _ s y).mp q2
        exact ⟨c, e, ⟨s, q1, q3⟩, q4, q5, q6⟩
/-- decodeWindow -/
theorem gd_x {post : Int32 → Prop} (hOK : gc_OK D V C M W T) (hD : D ≤ 4) (hV : V ≤ 8) (hk : f + back + ahead < 32) (hch : ∀ p, p ≤ f + back + ahead → a_channelWord p = nI (ch p) ∧ ch p < V)
    (hst : ∀ c d, c < C → d < D → a_stepWord (4 * c + d) = nI (W c d) ∧ a_stepTarget (4 * c + d) = nI (T c d))
    (hp : ∀ r, gd_A (gd_D C D W T ch f back ahead) r → post r) : wpX_decodeWindow post ((nI S), (nI db), (nI wb), (nI D), (nI V), (nI cp), f_nodeCount, f_listSize, f_built, (nI C), f_splitCount, f_encoder, f_messageLength, a_edgeTarget, a_jumpTarget, a_good, a_nodeBase, a_nodeWeight, a_arrows, a_renumber, a_listWord, a_listTarget, a_seenAt, a_seenSum, a_alive, a_codeBase, a_stepWord, a_stepTarget, a_pairNow, a_pairNext, a_sentData, a_sentWord, a_channelWord) (nI (f + back)) (nI f) (nI (f + back + ahead)) := by
  have hC := hOK.1
  refine nm_e ⟨back + 1, gd_13 hOK hD hV hk hch hst hp (back + 1) 0 _ (by omega) (by omega) fun i hi => ?_⟩
  rw [gu_all C (by omega) i hi, decide_eq_true_eq]
  exact ⟨fun h => ⟨i, h, rfl⟩, fun ⟨c, h1, h2⟩ => by rw [← show c = i from h2]; exact h1⟩
end GDX
end
section
/-! decode: the reference's search, over any machine that keeps its rules -/
def gd_Ru (C D : Nat) (W T : Nat → Nat → Nat) (ch : Nat → Nat) (f back last : Nat) (Wd : Nat → Int32 → Int32 → Int32 → (Nat → Int32) → (Nat → Int32) → Prop) : Prop :=
  (∀ n x4 i t s aa pk, i ≤ last → t < 100000 → s < C → aa i = nI s → pk i = nI D → Wd n x4 (gu_e i) (nI (t + 1)) aa (upd pk i (nI (D + 1))) → Wd (n + 1) x4 (nI i) (nI t) aa pk) ∧
  (∀ n x4 i t s e aa pk, i ≤ last → t < 100000 → s < C → e < D → aa i = nI s → pk i = nI e → W s e ≠ ch (f + i) → Wd n x4 (nI i) (nI (t + 1)) aa (upd pk i (nI (e + 1))) → Wd (n + 1) x4 (nI i) (nI t) aa pk) ∧
  (∀ n x4 i t s e aa pk, i < last → t < 100000 → s < C → e < D → aa i = nI s → pk i = nI e → W s e = ch (f + i) → Wd n x4 (nI (i + 1)) (nI (t + 1)) (upd aa (i + 1) (nI (T s e))) (upd (upd pk i (nI (e + 1))) (i + 1) (nI 0)) → Wd (n + 1) x4 (nI i) (nI t) aa pk) ∧
  (∀ n x4 i t s e v aa pk, i = last → t < 100000 → s < C → e < D → aa i = nI s → pk i = nI e → W s e = ch (f + i) → v < 4 → upd pk i (nI (e + 1)) back = nI (v + 1) → Wd n (gd_u x4 v) (nI i) (nI (t + 1)) aa (upd pk i (nI (e + 1))) → Wd (n + 1) x4 (nI i) (nI t) aa pk)
def gd_g (D : Nat) (W T : Nat → Nat → Nat) (ch : Nat → Nat) (f r i s e : Nat) : Nat := 1 + (if W s e = ch (f + i) then gd_t D W T ch r (f + i + 1) (T s e) else 0)
section GDF
variable {C D V M : Nat} {W T : Nat → Nat → Nat} {ch : Nat → Nat} {f back last : Nat} {Wd : Nat → Int32 → Int32 → Int32 → (Nat → Int32) → (Nat → Int32) → Prop}
def gd_CH (C D : Nat) (W T : Nat → Nat → Nat) (ch : Nat → Nat) (f back : Nat) (Wd : Nat → Int32 → Int32 → Int32 → (Nat → Int32) → (Nat → Int32) → Prop) (r i : Nat) : Prop :=
  ∀ (e s dB : Nat) (x4 : Int32) (t : Nat) (aa pk : Nat → Int32) (Qs : Nat → Prop) (n : Nat), e < D → s < C → aa i = nI s → pk i = nI e → (back < i → dB < D ∧ pk back = nI (dB + 1)) → W s e = ch (f + i) → gd_A Qs x4 → (∀ d, Qs d → d < 4) →
    t + 1 + gd_t D W T ch r (f + i + 1) (T s e) ≤ 100000 →
    (∀ x4' aa' pk', gd_A (fun d => Qs d ∨ gd_Q D W T ch f back r (i + 1) (T s e) (if i = back then e else dB) d) x4' → (∀ k, k < i → aa' k = aa k ∧ pk' k = pk k) → aa' i = nI s → pk' i = nI (e + 1) →
      Wd n x4' (nI i) (nI (t + 1 + gd_t D W T ch r (f + i + 1) (T s e))) aa' pk') →
    Wd (n + gd_t D W T ch r (f + i + 1) (T s e) + 1) x4 (nI i) (nI t) aa pk
theorem gd_mono {g : Nat → Nat} {a b : Nat} (h : a ≤ b) : gu_s g a ≤ gu_s g b := by
  have := gu_sp g a (b - a)
  rw [show a + (b - a) = b by omega] at this
  omega
theorem gd_in (hR : gd_Ru C D W T ch f back last Wd) (hD : D ≤ 4) {r i : Nat} (hi : i + r = last) (hb : back ≤ last) (CH : gd_CH C D W T ch f back Wd r i) :
    ∀ j e0, e0 + j = D → ∀ (s dB : Nat) (x4 : Int32) (t : Nat) (aa pk : Nat → Int32) (Qs : Nat → Prop) (n K : Nat), s < C → aa i = nI s → pk i = nI e0 → (back < i → dB < D ∧ pk back = nI (dB + 1)) → gd_A Qs x4 → (∀ d, Qs d → d < 4) →
      K + gu_s (gd_g D W T ch f r i s) e0 = 1 + gu_s (gd_g D W T ch f r i s) D → t + K ≤ 100000 →
      (∀ x4' aa' pk', gd_A (fun d => Qs d ∨ ∃ e, e0 ≤ e ∧ e < D ∧ W s e = ch (f + i) ∧ gd_Q D W T ch f back r (i + 1) (T s e) (if i = back then e else dB) d) x4' → (∀ k, k < i → aa' k = aa k ∧ pk' k = pk k) →
        Wd n x4' (gu_e i) (nI (t + K)) aa' pk') →
      Wd (n + K) x4 (nI i) (nI t) aa pk := by
  intro j
  induction j with
  | zero =>
    intro e0 he s dB x4 t aa pk Qs n K hs ha hp hdB hA hQ hK ht hk
    have e : e0 = D := by omega
    subst e
    have eK : K = 1 := by omega
    subst eK
    refine hR.1 n x4 i t s aa pk (by omega) (by omega) hs ha hp (hk x4 aa _ (gd_Ac hA fun d => ⟨fun q => Or.inl q, fun q => q.elim id fun ⟨e, q1, q2, _⟩ => by omega⟩) fun k hk' => ⟨rfl, pk_un (by omega)⟩)
  | succ j ih =>
    intro e0 he s dB x4 t aa pk Qs n K hs ha hp hdB hA hQ hK ht hk
    have hlt : e0 < D := by omega
    have hg : gu_s (gd_g D W T ch f r i s) (e0 + 1) = gu_s (gd_g D W T ch f r i s) e0 + gd_g D W T ch f r i s e0 := rfl
    have hm := gd_mono (g := gd_g D W T ch f r i s) (show e0 + 1 ≤ D by omega)
    have eg : gd_g D W T ch f r i s e0 = 1 + (if W s e0 = ch (f + i) then gd_t D W T ch r (f + i + 1) (T s e0) else 0) := rfl
    by_cases c : W s e0 = ch (f + i)
    · rw [if_pos c] at eg
      obtain ⟨K', eK⟩ : ∃ K', K = K' + (1 + gd_t D W T ch r (f + i + 1) (T s e0)) := ⟨K - (1 + gd_t D W T ch r (f + i + 1) (T s e0)), by omega⟩
      have := CH e0 s dB x4 t aa pk Qs (n + K') hlt hs ha hp hdB c hA hQ (by omega) (fun x4' aa' pk' hA' hag ha' hp' => ?_)
      · rw [show n + K = n + K' + gd_t D W T ch r (f + i + 1) (T s e0) + 1 by omega]
        exact this
      · refine ih (e0 + 1) (by omega) s dB x4' (t + 1 + gd_t D W T ch r (f + i + 1) (T s e0)) aa' pk' (fun d => Qs d ∨ gd_Q D W T ch f back r (i + 1) (T s e0) (if i = back then e0 else dB) d) n K' hs ha' hp' (fun z => ⟨(hdB z).1, by rw [(hag back z).2]; exact (hdB z).2⟩) hA' ?_ (by omega) (by omega) (fun x4'' aa'' pk'' hA'' hag'' => ?_)
        · intro d hd
          rcases hd with q | q
          · exact hQ d q
          · have : d < D := gd_Qb r (i + 1) (T s e0) _ d (fun z => by
              split
              · exact hlt
              · exact (hdB (by omega)).1) (by omega) q
            omega
        · have := hk x4'' aa'' pk'' (gd_Ac hA'' fun d => ?_) fun k hk' => ⟨(hag'' k hk').1.trans (hag k hk').1, (hag'' k hk').2.trans (hag k hk').2⟩
          · rw [show t + K = t + 1 + gd_t D W T ch r (f + i + 1) (T s e0) + K' by omega] at this
            exact this
          · constructor
            · rintro ((q | q) | ⟨e, q1, q2⟩)
              · exact Or.inl q
              · exact Or.inr ⟨e0, by omega, hlt, c, q⟩
              · exact Or.inr ⟨e, by omega, q2⟩
            · rintro (q | ⟨e, q1, q2, q3, q4⟩)
              · exact Or.inl (Or.inl q)
              · by_cases z : e = e0
                · subst z; exact Or.inl (Or.inr q4)
                · exact Or.inr ⟨e, by omega, q2, q3, q4⟩
    · rw [if_neg c] at eg
      obtain ⟨K', eK⟩ : ∃ K', K = K' + 1 := ⟨K - 1, by omega⟩
      subst eK
      refine hR.2.1 (n + K') x4 i t s e0 aa pk (by omega) (by omega) hs hlt ha hp c ?_
      refine ih (e0 + 1) (by omega) s dB x4 (t + 1) aa _ Qs n K' hs ha pk_us (fun z => ⟨(hdB z).1, by rw [pk_un (by omega)]; exact (hdB z).2⟩) hA hQ (by omega) (by omega) (fun x4'' aa'' pk'' hA'' hag'' => ?_)
      have := hk x4'' aa'' pk'' (gd_Ac hA'' fun d => ?_) fun k hk' => ⟨(hag'' k hk').1, (hag'' k hk').2.trans (pk_un (by omega))⟩
      · rw [show t + (K' + 1) = t + 1 + K' by omega] at this
        exact this
      · constructor
        · rintro (q | ⟨e, q1, q2⟩)
          · exact Or.inl q
          · exact Or.inr ⟨e, by omega, q2⟩
        · rintro (q | ⟨e, q1, q2, q3, q4⟩)
          · exact Or.inl q
          · by_cases z : e = e0
            · subst z; exact absurd q3 c
            · exact Or.inr ⟨e, by omega, q2, q3, q4⟩
theorem gd_dfs (hR : gd_Ru C D W T ch f back last Wd) (hOK : gc_OK D V C M W T) (hD : D ≤ 4) (hb : back ≤ last) : ∀ r i, i + r = last → gd_CH C D W T ch f back Wd r i := by
  intro r
  induction r with
  | zero =>
    intro i hi e s dB x4 t aa pk Qs n he hs ha hp hdB hw hA hQ ht hk
    have hv : (if i = back then e else dB) < 4 := by
      split
      · omega
      · have := (hdB (by omega)).1; omega
    refine hR.2.2.2 n x4 i t s e (if i = back then e else dB) aa pk (by omega) (by omega) hs he ha hp hw hv ?_ ?_
    · by_cases c : i = back
      · rw [if_pos c, ← c]; exact pk_us
      · rw [if_neg c, pk_un (by omega)]; exact (hdB (by omega)).2
    · exact hk _ aa _ (gd_Au hv hQ hA) (fun k hk' => ⟨rfl, pk_un (by omega)⟩) ha pk_us
  | succ r ih =>
    intro i hi e s dB x4 t aa pk Qs n he hs ha hp hdB hw hA hQ ht hk
    have hT := (hOK.2.1 s e hs he).2
    refine hR.2.2.1 _ x4 i t s e aa pk (by omega) (by omega) hs he ha hp hw ?_
    refine gd_in hR hD (r := r) (i := i + 1) (by omega) hb (ih (i + 1) (by omega)) D 0 (by omega) (T s e) (if i = back then e else dB) x4 (t + 1) _ _ Qs n _ hT pk_us pk_us (fun z => ⟨?_, ?_⟩) hA hQ ?_ ht (fun x4' aa' pk' hA' hag => ?_)
    · split
      · exact he
      · exact (hdB (by omega)).1
    · rw [pk_un (by omega)]
      by_cases c : i = back
      · rw [if_pos c, ← c]; exact pk_us
      · rw [if_neg c, pk_un (by omega)]; exact (hdB (by omega)).2
    · exact Nat.add_zero _
    · rw [gu_es]
      refine hk x4' aa' pk' (gd_Ac hA' fun d => ?_) (fun k hk' => ⟨(hag k (by omega)).1.trans (pk_un (by omega)), (hag k (by omega)).2.trans ((pk_un (by omega)).trans (pk_un (by omega)))⟩) ((hag i (by omega)).1.trans ((pk_un (by omega)).trans ha)) ((hag i (by omega)).2.trans ((pk_un (by omega)).trans pk_us))
      constructor
      · rintro (q | ⟨e', q1, q2⟩)
        · exact Or.inl q
        · exact Or.inr ⟨e', q2⟩
      · rintro (q | ⟨e', q2⟩)
        · exact Or.inl q
        · exact Or.inr ⟨e', by omega, q2⟩
/-- the whole search from code state c -/
theorem gd_root (hR : gd_Ru C D W T ch f back last Wd) (hOK : gc_OK D V C M W T) (hD : D ≤ 4) (hb : back ≤ last) (hl : last < 32) {c n : Nat} {x4 : Int32} {aa pk : Nat → Int32} {Qs : Nat → Prop} (hc : c < C) (ha : aa 0 = nI c) (hp : pk 0 = nI 0) (hA : gd_A Qs x4) (hQ : ∀ d, Qs d → d < 4)
    (hk : ∀ x4' t aa' pk', gd_A (fun d => Qs d ∨ gd_Q D W T ch f back (last + 1) 0 c 0 d) x4' → t < 100000 → Wd n x4' (gu_e 0) (nI t) aa' pk') : Wd (n + gd_t D W T ch (last + 1) f c) x4 (nI 0) (nI 0) aa pk := by
  have hb2 := gd_tb (ch := ch) (p := f) (r := last + 1) hOK hD hc (by omega)
  refine gd_in hR hD (r := last) (i := 0) (by omega) hb (gd_dfs hR hOK hD hb last 0 (by omega)) D 0 (by omega) c 0 x4 0 aa pk Qs n _ hc ha hp (fun z => by omega) hA hQ (Nat.add_zero _) (by omega) (fun x4' aa' pk' hA' hag => ?_)
  refine hk x4' _ aa' pk' (gd_Ac hA' fun d => ?_) (by omega)
  constructor
  · rintro (q | ⟨e', q1, q2⟩)
    · exact Or.inl q
    · exact Or.inr ⟨e', q2⟩
  · rintro (q | ⟨e', q2⟩)
    · exact Or.inl q
    · exact Or.inr ⟨e', by omega, q2⟩
end GDF
end
section
/-! decode: the reference's walk -/
section GDY
variable {S wb D V cp C M : Nat} {W T : Nat → Nat → Nat} {ch : Nat → Nat} {f back ahead : Nat} {f_built f_made f_encoder f_places f_nodes : Int32} {a_edges a_x a_base a_weight a_number a_arrow a_mark a_list a_sum a_outW a_outS a_sent a_own a_chan a_at a_pick : Nat → Int32}
theorem gd_ru {post : Int32 → SY → Prop} (J74 : Int32 → Int32 → (Nat → Int32) → (Nat → Int32) → (Nat → Int32) → (Nat → Int32) → (Nat → Int32) → (Nat → Int32) → (Nat → Int32) → (Nat → Int32) → (Nat → Int32) → (Nat → Int32) → (Nat → Int32) → (Nat → Int32) → (Nat → Int32) → (Nat → Int32) → (Nat → Int32) → (Nat → Int32) → Prop) {x5 : Int32} (hOK : gc_OK D V C M W T) (hD : D ≤ 4) (hV : V ≤ 8) (hk : f + back + ahead < 32) (hch : ∀ p, p ≤ f + back + ahead → a_chan p = nI (ch p) ∧ ch p < V)
    (hst : ∀ c d, c < C → d < D → a_outW (4 * c + d) = nI (W c d) ∧ a_outS (4 * c + d) = nI (T c d)) :
    gd_Ru C D W T ch f back (back + ahead) (fun n x4 x6 x7 aa pk => wY_decode_104 post J74 (nI (f + back)) (nI back) (nI ahead) x5 (nI S) (nI D) (nI wb) (nI V) (nI cp) f_built (nI C) f_made f_encoder f_places f_nodes n x4 x6 x7 a_edges a_x a_base a_weight a_number a_arrow a_mark a_list a_sum a_outW a_outS a_sent a_own a_chan aa pk) := by
  have hC := hOK.1
  have ep : ∀ i, nI (f + back) - nI back + nI i = nI (f + i) := fun i => by rw [pk_sub (by omega), nI_add]; congr 1; omega
  refine ⟨?_, ?_, ?_, ?_⟩
  · intro n x4 i t s aa pk hi ht hs ha hp h
    refine pk_le 100000 t (fun z => by omega) (fun _ => br_f (nI_pos (by omega)) ?_)
    rw [nI_clamp (by omega), ha, hp]
    refine ⟨vp_in_nI (by omega) (by omega), nm_e ⟨vp_in_nI (by omega) (by omega), nm_e ⟨vp_in_nI (by omega) (by omega), nm_r (by rw [nI_1]) (pk_lt D D (fun z => by omega) (fun _ => nm_r (gu_em i) (nm_r (nI_1 t) h)))⟩⟩⟩
  · intro n x4 i t s e aa pk hi ht hs he ha hp hw h
    obtain ⟨w1, w2⟩ := hst s e hs he
    obtain ⟨o1, o2⟩ := hOK.2.1 s e hs he
    obtain ⟨c1, c2⟩ := hch (f + i) (by omega)
    refine pk_le 100000 t (fun z => by omega) (fun _ => br_f (nI_pos (by omega)) ?_)
    rw [nI_clamp (by omega), ha, hp, ep]
    refine ⟨vp_in_nI (by omega) (by omega), nm_e ⟨vp_in_nI (by omega) (by omega), nm_r (gu_4' s e) ⟨vp_in_nI (by omega) (by omega), nm_r (by rw [nI_1]) (pk_lt e D (fun _ => ⟨vp_in_nI (by omega) (by omega), vp_in_nI (by omega) (by omega), ?_⟩) (fun z => by omega))⟩⟩⟩
    have ew : ¬ a_outW (nI (4 * s + e)).toNatClampNeg = a_chan (nI (f + i)).toNatClampNeg := by
      rw [nI_clamp (by omega), nI_clamp (by omega), w1, c1, nI_eq (by omega) (by omega)]; exact hw
    refine br_f ew ⟨vp_in_nI (by omega) (by omega), ?_⟩
    rw [ep]
    exact ⟨vp_in_nI (by omega) (by omega), br_f ew (nm_r (nI_1 t) h)⟩
  · intro n x4 i t s e aa pk hi ht hs he ha hp hw h
    obtain ⟨w1, w2⟩ := hst s e hs he
    obtain ⟨o1, o2⟩ := hOK.2.1 s e hs he
    obtain ⟨c1, c2⟩ := hch (f + i) (by omega)
    refine pk_le 100000 t (fun z => by omega) (fun _ => br_f (nI_pos (by omega)) ?_)
    rw [nI_clamp (by omega), ha, hp, ep]
    refine ⟨vp_in_nI (by omega) (by omega), nm_e ⟨vp_in_nI (by omega) (by omega), nm_r (gu_4' s e) ⟨vp_in_nI (by omega) (by omega), nm_r (by rw [nI_1]) (pk_lt e D (fun _ => ⟨vp_in_nI (by omega) (by omega), vp_in_nI (by omega) (by omega), ?_⟩) (fun z => by omega))⟩⟩⟩
    have ew : a_outW (nI (4 * s + e)).toNatClampNeg = a_chan (nI (f + i)).toNatClampNeg := by
      rw [nI_clamp (by omega), nI_clamp (by omega), w1, c1, hw]
    refine br_t ew (pk_eq i (back + ahead) (fun z => by omega) (fun _ => ⟨vp_in_nI (by omega) (by omega), ?_⟩) rfl (nI_add back ahead))
    rw [ep]
    refine ⟨vp_in_nI (by omega) (by omega), br_t ew (nm_r (nI_1 i) ⟨vp_in_nI (by omega) (by omega), vp_in_nI (by omega) (by omega), nm_r (e' := upd aa (i + 1) (nI (T s e))) (by rw [nI_clamp (by omega), nI_clamp (by omega), w2]) ⟨vp_in_nI (by omega) (by omega), nm_r (e' := upd (upd pk i (nI (e + 1))) (i + 1) (nI 0)) (by rw [nI_clamp (by omega)]; rfl) (nm_r (nI_1 t) h)⟩⟩)⟩
  · intro n x4 i t s e v aa pk hi ht hs he ha hp hw hv hb h
    obtain ⟨w1, w2⟩ := hst s e hs he
    obtain ⟨o1, o2⟩ := hOK.2.1 s e hs he
    obtain ⟨c1, c2⟩ := hch (f + i) (by omega)
    refine pk_le 100000 t (fun z => by omega) (fun _ => br_f (nI_pos (by omega)) ?_)
    rw [nI_clamp (by omega), ha, hp, ep]
    refine ⟨vp_in_nI (by omega) (by omega), nm_e ⟨vp_in_nI (by omega) (by omega), nm_r (gu_4' s e) ⟨vp_in_nI (by omega) (by omega), nm_r (by rw [nI_1]) (pk_lt e D (fun _ => ⟨vp_in_nI (by omega) (by omega), vp_in_nI (by omega) (by omega), ?_⟩) (fun z => by omega))⟩⟩⟩
    have ew : a_outW (nI (4 * s + e)).toNatClampNeg = a_chan (nI (f + i)).toNatClampNeg := by
      rw [nI_clamp (by omega), nI_clamp (by omega), w1, c1, hw]
    have ev : upd pk i (nI (e + 1)) (nI back).toNatClampNeg - 1 = nI v := by rw [nI_clamp (by omega), hb, nI_pred]
    have eu : gd_u x4 v = if x4 = -9 ∨ x4 = nI v then nI v else -10 := rfl
    have h214 : (x4 = -9 ∨ x4 = nI v) → wY_decode_214 post J74 (wY_decode_104 post J74 (nI (f + back)) (nI back) (nI ahead) x5 (nI S) (nI D) (nI wb) (nI V) (nI cp) f_built (nI C) f_made f_encoder f_places f_nodes n) (nI (f + back)) (nI back) (nI ahead) x5 (nI i) (nI t) (nI S) (nI D) (nI wb) (nI V) (nI cp) f_built (nI C) f_made f_encoder f_places f_nodes a_edges a_x a_base a_weight a_number a_arrow a_mark a_list a_sum a_outW a_outS a_sent a_own a_chan aa (upd pk i (nI (e + 1))) := fun c => by
      rw [eu, if_pos c] at h
      exact ⟨vp_in_nI (by omega) (by omega), nm_r ev (nm_r (nI_1 t) h)⟩
    refine br_t ew (pk_eq i (back + ahead) (fun _ => br_c (fun c => h214 (Or.inl c)) (fun c => ⟨vp_in_nI (by omega) (by omega), ?_⟩)) (fun z => by omega) rfl (nI_add back ahead))
    rw [ev]
    refine br_c (fun c3 => h214 (Or.inr c3)) (fun c3 => nm_r (nI_1 t) ?_)
    rw [eu, if_neg (fun z => z.elim c c3)] at h
    exact h
theorem gd_74 {post : Int32 → SY → Prop} (hOK : gc_OK D V C M W T) (hD : D ≤ 4) (hV : V ≤ 8) (hk : f + back + ahead < 32) (hch : ∀ p, p ≤ f + back + ahead → a_chan p = nI (ch p) ∧ ch p < V)
    (hst : ∀ c d, c < C → d < D → a_outW (4 * c + d) = nI (W c d) ∧ a_outS (4 * c + d) = nI (T c d))
    (hp : ∀ r aa pk, gd_A (gd_D C D W T ch f back ahead) r → post r ((nI S), (nI D), (nI wb), (nI V), (nI cp), f_built, (nI C), f_made, f_encoder, f_places, f_nodes, a_edges, a_x, a_base, a_weight, a_number, a_arrow, a_mark, a_list, a_sum, a_outW, a_outS, a_sent, a_own, a_chan, aa, pk)) :
    ∀ n c x4 aa pk, C < n + c → c ≤ C → gd_A (fun d => ∃ c', c' < c ∧ gd_Q D W T ch f back (back + ahead + 1) 0 c' 0 d) x4 → wY_decode_74 post (nI (f + back)) (nI back) (nI ahead) (nI S) (nI D) (nI wb) (nI V) (nI cp) f_built (nI C) f_made f_encoder f_places f_nodes n x4 (nI c) a_edges a_x a_base a_weight a_number a_arrow a_mark a_list a_sum a_outW a_outS a_sent a_own a_chan aa pk := by
  have hC := hOK.1
  intro n
  induction n with
  | zero => intro c x4 aa pk z1 z2; omega
  | succ n ih =>
    intro c x4 aa pk z1 z2 hA
    refine pk_le C c (fun h => ?_) (fun h => nm_e (nm_e ⟨1 + gd_t D W T ch (back + ahead + 1) f c, ?_⟩))
    · have e : c = C := by omega
      subst e
      exact hp x4 aa pk (gd_Ac hA fun d => gd_QD)
    · refine gd_root (n := 1) (gd_ru (wY_decode_74 post (nI (f + back)) (nI back) (nI ahead) (nI S) (nI D) (nI wb) (nI V) (nI cp) f_built (nI C) f_made f_encoder f_places f_nodes n) (x5 := nI c) hOK hD hV hk hch hst) hOK hD (by omega) (by omega) (c := c) (x4 := x4) (aa := upd aa 0 (nI c)) (pk := upd pk 0 0) h pk_us pk_us hA (fun d ⟨c', _, q⟩ => by have := gd_Qb (back + ahead + 1) 0 c' 0 d (fun z => by omega) (by omega) q; omega) (fun x4' t aa' pk' hA' ht => ?_)
      have go : wY_decode_74 post (nI (f + back)) (nI back) (nI ahead) (nI S) (nI D) (nI wb) (nI V) (nI cp) f_built (nI C) f_made f_encoder f_places f_nodes n x4' (nI (c + 1)) a_edges a_x a_base a_weight a_number a_arrow a_mark a_list a_sum a_outW a_outS a_sent a_own a_chan aa' pk' := ih (c + 1) x4' aa' pk' (by omega) (by omega) (gd_Ac hA' fun d => by
        constructor
        · rintro (⟨c', q1, q2⟩ | q)
          · exact ⟨c', by omega, q2⟩
          · exact ⟨c, by omega, q⟩
        · intro ⟨c', q1, q2⟩
          by_cases z : c' = c
          · subst z; exact Or.inr q2
          · exact Or.inl ⟨c', by omega, q2⟩)
      exact br_c (fun _ => nm_r (nI_1 c) go) (fun _ => br_t (by rw [gu_e0]; decide) (nm_r (nI_1 c) go))
end GDY
end
section
/-! legalRun and wrongWords -/
def gl_r (J : Nat → Nat → Nat) (ch : Nat → Nat) : Nat → Nat → Nat → Nat
  | 0, _, _ => 0
  | n + 1, p, s => if J s (ch p) = 0 then 0 else 1 + gl_r J ch n (p + 1) (J s (ch p) - 1)
def gl_b (g : Nat → Nat) : Nat → Nat
  | 0 => 0
  | u + 1 => if g u ≤ gl_b g u then gl_b g u else g u
theorem gl_rle {J : Nat → Nat → Nat} {ch : Nat → Nat} : ∀ n p s, gl_r J ch n p s ≤ n := by
  intro n
  induction n with
  | zero => intro p s; exact Nat.le_refl _
  | succ n ih =>
    intro p s
    show (if J s (ch p) = 0 then 0 else 1 + gl_r J ch n (p + 1) (J s (ch p) - 1)) ≤ n + 1
    split
    · omega
    · have := ih (p + 1) (J s (ch p) - 1); omega
theorem gl_ble {g : Nat → Nat} {b : Nat} (h : ∀ u, g u ≤ b) : ∀ u, gl_b g u ≤ b := by
  intro u
  induction u with
  | zero => exact Nat.zero_le _
  | succ u ih =>
    show (if g u ≤ gl_b g u then gl_b g u else g u) ≤ b
    split
    · exact ih
    · exact h u
def gl_w (a b : Nat → Int32) : Nat → Nat
  | 0 => 0
  | k + 1 => if a k = b k then gl_w a b k else gl_w a b k + 1
theorem gl_wle {a b : Nat → Int32} : ∀ k, gl_w a b k ≤ k := by
  intro k
  induction k with
  | zero => exact Nat.le_refl _
  | succ k ih =>
    show (if a k = b k then gl_w a b k else gl_w a b k + 1) ≤ k + 1
    split <;> omega
section GLX
variable {S db wb D V cp L : Nat} {J : Nat → Nat → Nat} {ch : Nat → Nat} {f_nodeCount f_listSize f_built f_codeCount f_splitCount f_encoder : Int32} {a_edgeTarget a_jumpTarget a_good a_nodeBase a_nodeWeight a_arrows a_renumber a_listWord a_listTarget a_seenAt a_seenSum a_alive a_codeBase a_stepWord a_stepTarget a_pairNow a_pairNext a_sentData a_sentWord a_channelWord : Nat → Int32}
theorem gl_x5 {post : Int32 → Prop} {k : Nat} (hS : S ≤ 5) (hV : V ≤ 8) (hL : L ≤ 32) (hJ : ∀ u w, u < S → J u w ≤ S) (hT : ∀ u w, u < S → w < V → a_jumpTarget (8 * u + w) = gu_e (J u w)) (hch : ∀ p, p < L → a_channelWord p = nI (ch p) ∧ ch p < V) :
    ∀ n' n p s, n' < n → k ≤ p → p + n' = L → s < S → post (nI (p - k + gl_r J ch n' p s)) → wX_runFrom_5 post (nI k) (nI S) (nI db) (nI wb) (nI D) (nI V) (nI cp) f_nodeCount f_listSize f_built f_codeCount f_splitCount f_encoder (nI L) a_edgeTarget a_jumpTarget a_good a_nodeBase a_nodeWeight a_arrows a_renumber a_listWord a_listTarget a_seenAt a_seenSum a_alive a_codeBase a_stepWord a_stepTarget a_pairNow a_pairNext a_sentData a_sentWord a_channelWord n (nI s) (nI p) := by
  intro n'
  induction n' with
  | zero =>
    intro n p s hn hk hp hs h
    obtain ⟨n, rfl⟩ : ∃ m, n = m + 1 := ⟨n - 1, by omega⟩
    refine pk_le L p (fun _ => ?_) (fun z => by omega)
    rw [pk_sub (by omega), show L - k = p - k + 0 by omega]
    exact h
  | succ n' ih =>
    intro n p s hn hk hp hs h
    obtain ⟨n, rfl⟩ : ∃ m, n = m + 1 := ⟨n - 1, by omega⟩
    obtain ⟨c1, c2⟩ := hch p (by omega)
    have e : gl_r J ch (n' + 1) p s = if J s (ch p) = 0 then 0 else 1 + gl_r J ch n' (p + 1) (J s (ch p) - 1) := rfl
    have hj := hJ s (ch p) hs
    refine pk_le L p (fun z => by omega) (fun _ => ⟨vp_in_nI (by omega) (by omega), ?_⟩)
    rw [nI_clamp (by omega), c1, gu_c8 (by omega), hT s _ hs c2]
    refine ⟨gu_in8 (by omega) (by omega), nm_e ?_⟩
    by_cases c : J s (ch p) = 0
    · rw [e, if_pos c] at h
      refine br_f (by rw [gu_ele (by omega)]; exact fun z => z c) ?_
      rw [pk_sub hk]
      exact h
    · rw [e, if_neg c] at h
      refine br_t (by rw [gu_ele (by omega)]; exact c) (nm_r (nI_1 p) ?_)
      obtain ⟨v, hv⟩ : ∃ v, J s (ch p) = v + 1 := ⟨J s (ch p) - 1, by omega⟩
      rw [hv, Nat.add_sub_cancel] at h
      rw [hv, gu_es]
      refine ih n (p + 1) v (by omega) (by omega) (by omega) (by omega) ?_
      rw [show p + 1 - k + gl_r J ch n' (p + 1) v = p - k + (1 + gl_r J ch n' (p + 1) v) by omega]
      exact h
theorem gl_x28 {post : Int32 → Prop} {k : Nat} (hS : S ≤ 5) (hV : V ≤ 8) (hL : L ≤ 32) (hk : k ≤ L) (hJ : ∀ u w, u < S → J u w ≤ S) (hT : ∀ u w, u < S → w < V → a_jumpTarget (8 * u + w) = gu_e (J u w)) (hch : ∀ p, p < L → a_channelWord p = nI (ch p) ∧ ch p < V)
    (hp : post (nI (gl_b (fun u => gl_r J ch (L - k) k u) S))) :
    ∀ n u, S < n + u → u ≤ S → wX_legalRun_28 post (nI k) (nI S) (nI db) (nI wb) (nI D) (nI V) (nI cp) f_nodeCount f_listSize f_built f_codeCount f_splitCount f_encoder (nI L) a_edgeTarget a_jumpTarget a_good a_nodeBase a_nodeWeight a_arrows a_renumber a_listWord a_listTarget a_seenAt a_seenSum a_alive a_codeBase a_stepWord a_stepTarget a_pairNow a_pairNext a_sentData a_sentWord a_channelWord n (nI (gl_b (fun u => gl_r J ch (L - k) k u) u)) (nI u) := by
  have hb : ∀ u, gl_b (fun u => gl_r J ch (L - k) k u) u ≤ L - k := gl_ble (fun u => gl_rle _ _ _)
  intro n
  induction n with
  | zero => intro u z1 z2; omega
  | succ n ih =>
    intro u z1 z2
    refine pk_le S u (fun h => ?_) (fun h => ⟨L - k + 1, ?_⟩)
    · have e : u = S := by omega
      subst e; exact hp
    · refine gl_x5 hS hV hL hJ hT hch (L - k) (L - k + 1) k u (by omega) (by omega) (by omega) h ?_
      rw [Nat.sub_self, Nat.zero_add]
      have e : gl_b (fun u => gl_r J ch (L - k) k u) (u + 1) = if gl_r J ch (L - k) k u ≤ gl_b (fun u => gl_r J ch (L - k) k u) u then gl_b (fun u => gl_r J ch (L - k) k u) u else gl_r J ch (L - k) k u := rfl
      have b1 := hb u
      have b2 := gl_rle (J := J) (ch := ch) (L - k) k u
      have := ih (u + 1) (by omega) (by omega)
      refine pk_le (gl_r J ch (L - k) k u) (gl_b (fun u => gl_r J ch (L - k) k u) u) (fun c => nm_r (nI_1 u) ?_) (fun c => nm_r (nI_1 u) ?_)
      · rw [e, if_pos c] at this; exact this
      · rw [e, if_neg (by omega)] at this; exact this
theorem gl_xw {post : Int32 → Prop} (hL : L ≤ 32) (hp : post (nI (gl_w a_channelWord a_sentWord L))) :
    ∀ n k, L < n + k → k ≤ L → wX_wrongWords_14 post (nI S) (nI db) (nI wb) (nI D) (nI V) (nI cp) f_nodeCount f_listSize f_built f_codeCount f_splitCount f_encoder (nI L) a_edgeTarget a_jumpTarget a_good a_nodeBase a_nodeWeight a_arrows a_renumber a_listWord a_listTarget a_seenAt a_seenSum a_alive a_codeBase a_stepWord a_stepTarget a_pairNow a_pairNext a_sentData a_sentWord a_channelWord n (nI (gl_w a_channelWord a_sentWord k)) (nI k) := by
  intro n
  induction n with
  | zero => intro k z1 z2; omega
  | succ n ih =>
    intro k z1 z2
    have e : gl_w a_channelWord a_sentWord (k + 1) = if a_channelWord k = a_sentWord k then gl_w a_channelWord a_sentWord k else gl_w a_channelWord a_sentWord k + 1 := rfl
    have := fun h => ih (k + 1) h
    refine pk_le L k (fun h => ?_) (fun h => ⟨vp_in_nI (by omega) (by omega), vp_in_nI (by omega) (by omega), ?_⟩)
    · have e : k = L := by omega
      subst e; exact hp
    · rw [nI_clamp (by omega)]
      have := ih (k + 1) (by omega) (by omega)
      refine br_c (fun c => nm_r (nI_1 k) ?_) (fun c => nm_r (nI_1 _) (nm_r (nI_1 k) ?_))
      · rw [e, if_pos c] at this; exact this
      · rw [e, if_neg c] at this; exact this
end GLX
section GLY
variable {S wb D V cp L : Nat} {E : Nat → Nat} {ch : Nat → Nat} {f_built f_codes f_made f_encoder f_nodes : Int32} {a_edges a_x a_base a_weight a_number a_arrow a_mark a_list a_sum a_outW a_outS a_sent a_own a_chan a_at a_pick : Nat → Int32}
theorem gl_y42 {post : Int32 → Prop} (J28 : Int32 → Int32 → Prop) {k u : Nat} (hT : ∀ i, i < 10 → a_edges i = nI (E i)) (hE : ∀ i, E i ≤ S) (hS : S ≤ 5) (hV : V ≤ 8) (hwb : wb ≤ 3) (hL : L ≤ 32) (hch : ∀ p, p < L → a_chan p = nI (ch p) ∧ ch p < V) :
    ∀ n' n p s b, n' + 1 < n → k ≤ p → p + n' = L → s < S → p - k ≤ b → b ≤ 32 → (∀ b', b' = (if p - k + gl_r (fun u w => ga_j E w wb (u + 1)) ch n' p s ≤ b then b else p - k + gl_r (fun u w => ga_j E w wb (u + 1)) ch n' p s) → J28 (nI b') (nI (u + 1))) → wY_legalRun_42 post J28 (nI k) (nI u) (nI S) (nI D) (nI wb) (nI V) (nI cp) f_built f_codes f_made f_encoder (nI L) f_nodes a_edges a_x a_base a_weight a_number a_arrow a_mark a_list a_sum a_outW a_outS a_sent a_own a_chan a_at a_pick n (nI b) (nI s) (nI p) := by
  intro n'
  induction n' with
  | zero =>
    intro n p s b hn hk hp hs hb hb2 h
    obtain ⟨n, rfl⟩ : ∃ m, n = m + 1 := ⟨n - 1, by omega⟩
    exact pk_le L p (fun _ => nm_r (nI_1 u) (h b (by rw [if_pos]; show p - k + 0 ≤ b; omega))) (fun z => by omega)
  | succ n' ih =>
    intro n p s b hn hk hp hs hb hb2 h
    obtain ⟨n, rfl⟩ : ∃ m, n = m + 1 := ⟨n - 1, by omega⟩
    obtain ⟨c1, c2⟩ := hch p (by omega)
    have e : gl_r (fun u w => ga_j E w wb (u + 1)) ch (n' + 1) p s = if ga_j E (ch p) wb (s + 1) = 0 then 0 else 1 + gl_r (fun u w => ga_j E w wb (u + 1)) ch n' (p + 1) (ga_j E (ch p) wb (s + 1) - 1) := rfl
    have hj : ga_j E (ch p) wb (s + 1) ≤ S := ga_jle hE _ _ (by omega)
    refine pk_le L p (fun z => by omega) (fun _ => br_f (nI_pos (by omega)) ⟨vp_in_nI (by omega) (by omega), ?_⟩)
    rw [nI_clamp (by omega), c1]
    refine ga_wyj hT hE hS (by omega) hwb hs ?_
    by_cases c : ga_j E (ch p) wb (s + 1) = 0
    · rw [e, if_pos c] at h
      have hJ := h b (by rw [if_pos (by omega)])
      refine br_t ((gu_elt (by omega)).mpr c) (nm_r (nI_1 p) ?_)
      obtain ⟨n, rfl⟩ : ∃ m, n = m + 1 := ⟨n - 1, by omega⟩
      rw [c]
      exact br_c (fun _ => nm_r (nI_1 u) hJ) (fun _ => br_t (by decide) (nm_r (nI_1 u) hJ))
    · rw [e, if_neg c] at h
      obtain ⟨v, hv⟩ : ∃ v, ga_j E (ch p) wb (s + 1) = v + 1 := ⟨ga_j E (ch p) wb (s + 1) - 1, by omega⟩
      rw [hv, Nat.add_sub_cancel] at h
      rw [hv, gu_es]
      have hr := gl_rle (J := fun u w => ga_j E w wb (u + 1)) (ch := ch) n' (p + 1) v
      refine br_f (nI_pos (by omega)) (pk_le (p - k + 1) b (fun c3 => nm_r (nI_1 p) (ih n (p + 1) v b (by omega) (by omega) (by omega) (by omega) (by omega) hb2 fun b' hb' => h b' ?_)) (fun c3 => nm_r (e' := nI (p - k + 1)) (by rw [pk_sub hk, nI_1]) (nm_r (nI_1 p) (ih n (p + 1) v (p - k + 1) (by omega) (by omega) (by omega) (by omega) (by omega) (by omega) fun b' hb' => h b' ?_))) (by rw [pk_sub hk, nI_1]))
      · rw [hb', show p + 1 - k + gl_r (fun u w => ga_j E w wb (u + 1)) ch n' (p + 1) v = p - k + (1 + gl_r (fun u w => ga_j E w wb (u + 1)) ch n' (p + 1) v) by omega]
      · rw [hb', show p + 1 - k + gl_r (fun u w => ga_j E w wb (u + 1)) ch n' (p + 1) v = p - k + (1 + gl_r (fun u w => ga_j E w wb (u + 1)) ch n' (p + 1) v) by omega, if_neg (show ¬ p - k + (1 + gl_r (fun u w => ga_j E w wb (u + 1)) ch n' (p + 1) v) ≤ b by omega)]
        split <;> omega
theorem gl_y28 {post : Int32 → Prop} {k : Nat} (hT : ∀ i, i < 10 → a_edges i = nI (E i)) (hE : ∀ i, E i ≤ S) (hS : S ≤ 5) (hV : V ≤ 8) (hwb : wb ≤ 3) (hL : L ≤ 32) (hk : k ≤ L) (hch : ∀ p, p < L → a_chan p = nI (ch p) ∧ ch p < V)
    (hp : post (nI (gl_b (fun u => gl_r (fun u w => ga_j E w wb (u + 1)) ch (L - k) k u) S))) :
    ∀ n u, S < n + u → u ≤ S → wY_legalRun_28 post (nI k) (nI S) (nI D) (nI wb) (nI V) (nI cp) f_built f_codes f_made f_encoder (nI L) f_nodes a_edges a_x a_base a_weight a_number a_arrow a_mark a_list a_sum a_outW a_outS a_sent a_own a_chan a_at a_pick n (nI (gl_b (fun u => gl_r (fun u w => ga_j E w wb (u + 1)) ch (L - k) k u) u)) (nI u) := by
  have hb : ∀ u, gl_b (fun u => gl_r (fun u w => ga_j E w wb (u + 1)) ch (L - k) k u) u ≤ L - k := gl_ble (fun u => gl_rle _ _ _)
  intro n
  induction n with
  | zero => intro u z1 z2; omega
  | succ n ih =>
    intro u z1 z2
    refine pk_le S u (fun h => ?_) (fun h => ⟨L - k + 2, ?_⟩)
    · have e : u = S := by omega
      subst e; exact hp
    · have b1 := hb u
      refine gl_y42 (wY_legalRun_28 post (nI k) (nI S) (nI D) (nI wb) (nI V) (nI cp) f_built f_codes f_made f_encoder (nI L) f_nodes a_edges a_x a_base a_weight a_number a_arrow a_mark a_list a_sum a_outW a_outS a_sent a_own a_chan a_at a_pick n) hT hE hS hV hwb hL hch (L - k) (L - k + 2) k u _ (by omega) (by omega) (by omega) h (by omega) (by omega) fun b' hb' => ?_
      have := ih (u + 1) (by omega) (by omega)
      have e : b' = gl_b (fun u => gl_r (fun u w => ga_j E w wb (u + 1)) ch (L - k) k u) (u + 1) := by
        rw [hb', Nat.sub_self, Nat.zero_add]; rfl
      rw [e]
      exact this
theorem gl_yw {post : Int32 → Prop} (hL : L ≤ 32) (hp : post (nI (gl_w a_chan a_own L))) :
    ∀ n k, L < n + k → k ≤ L → wY_wrongWords_14 post (nI S) (nI D) (nI wb) (nI V) (nI cp) f_built f_codes f_made f_encoder (nI L) f_nodes a_edges a_x a_base a_weight a_number a_arrow a_mark a_list a_sum a_outW a_outS a_sent a_own a_chan a_at a_pick n (nI (gl_w a_chan a_own k)) (nI k) := by
  intro n
  induction n with
  | zero => intro k z1 z2; omega
  | succ n ih =>
    intro k z1 z2
    have e : gl_w a_chan a_own (k + 1) = if a_chan k = a_own k then gl_w a_chan a_own k else gl_w a_chan a_own k + 1 := rfl
    refine pk_le L k (fun h => ?_) (fun h => ⟨vp_in_nI (by omega) (by omega), vp_in_nI (by omega) (by omega), ?_⟩)
    · have e : k = L := by omega
      subst e; exact hp
    · rw [nI_clamp (by omega)]
      have := ih (k + 1) (by omega) (by omega)
      refine br_c (fun c => nm_r (nI_1 k) ?_) (fun c => nm_r (nI_1 _) (nm_r (nI_1 k) ?_))
      · rw [e, if_pos c] at this; exact this
      · rw [e, if_neg c] at this; exact this
end GLY
end
section
/-! the relation -/
def gr_G (S db wb D V cp : Nat) (E : Nat → Nat) (et jt ed ba sm : Nat → Int32) : Prop :=
  (1 ≤ S ∧ S ≤ 5) ∧ ((db = 1 ∧ D = 2) ∨ (db = 2 ∧ D = 4)) ∧ (1 ≤ wb ∧ wb ≤ 3 ∧ V ≤ 8) ∧ (1 ≤ cp ∧ cp ≤ 3) ∧ (∀ i, E i ≤ S) ∧ (∀ i, i < 10 → et i = gu_e (E i)) ∧
  (∀ u w, u < S → w < V → jt (8 * u + w) = gu_e (ga_j E w wb (u + 1))) ∧ (∀ i, i < 10 → ed i = nI (E i)) ∧ gy_B S ba ∧ sm 0 = 0
def gr_C (S D V C M e L : Nat) (G : Nat → Nat) (W T : Nat → Nat → Nat) (ch : Nat → Nat) (al cb sw st xx ba ow os cw : Nat → Int32) : Prop :=
  gc_OK D V C M W T ∧ e < C ∧ L ≤ 32 ∧ (∀ u, u < 5 → al u = gu_i (gn_B G u)) ∧ (∀ u, u < S → xx u = nI (G u) ∧ G u ≤ 3) ∧ (∀ c, c < C → cb c = ba c) ∧
  (∀ c d, c < C → d < D → sw (4 * c + d) = nI (W c d) ∧ st (4 * c + d) = nI (T c d)) ∧ (∀ c d, c < C → d < D → ow (4 * c + d) = nI (W c d) ∧ os (4 * c + d) = nI (T c d)) ∧
  (∀ p, p < L → cw p = nI (ch p) ∧ ch p < V)
/-- related: not built, or built with the same code and the same message; given by what follows from it -/
def i_Rel (k : Nat) (u : SX) (v : SY) : Prop := ∀ P : SX → SY → Prop,
  (∀ (S db wb D V cp : Nat) (E : Nat → Nat) (f_nodeCount f_listSize f_codeCount f_splitCount f_encoder f_messageLength y_codes y_made y_encoder y_places y_nodes : Int32)
    (a_edgeTarget a_jumpTarget a_good a_nodeBase a_nodeWeight a_arrows a_renumber a_listWord a_listTarget a_seenAt a_seenSum a_alive a_codeBase a_stepWord a_stepTarget a_pairNow a_pairNext a_sentData a_sentWord a_channelWord a_edges a_x a_base a_weight a_number a_arrow a_mark a_list a_sum a_outW a_outS a_at a_pick : Nat → Int32),
    gr_G S db wb D V cp E a_edgeTarget a_jumpTarget a_edges a_base a_sum → P ((nI S), (nI db), (nI wb), (nI D), (nI V), (nI cp), f_nodeCount, f_listSize, 0, f_codeCount, f_splitCount, f_encoder, f_messageLength, a_edgeTarget, a_jumpTarget, a_good, a_nodeBase, a_nodeWeight, a_arrows, a_renumber, a_listWord, a_listTarget, a_seenAt, a_seenSum, a_alive, a_codeBase, a_stepWord, a_stepTarget, a_pairNow, a_pairNext, a_sentData, a_sentWord, a_channelWord) ((nI S), (nI D), (nI wb), (nI V), (nI cp), 0, y_codes, y_made, y_encoder, y_places, y_nodes, a_edges, a_x, a_base, a_weight, a_number, a_arrow, a_mark, a_list, a_sum, a_outW, a_outS, a_sentData, a_sentWord, a_channelWord, a_at, a_pick)) →
  (∀ (S db wb D V cp C M e L : Nat) (E G : Nat → Nat) (W T : Nat → Nat → Nat) (ch : Nat → Nat) (f_nodeCount f_listSize y_nodes : Int32)
    (a_edgeTarget a_jumpTarget a_good a_nodeBase a_nodeWeight a_arrows a_renumber a_listWord a_listTarget a_seenAt a_seenSum a_alive a_codeBase a_stepWord a_stepTarget a_pairNow a_pairNext a_sentData a_sentWord a_channelWord a_edges a_x a_base a_weight a_number a_arrow a_mark a_list a_sum a_outW a_outS a_at a_pick : Nat → Int32),
    gr_G S db wb D V cp E a_edgeTarget a_jumpTarget a_edges a_base a_sum → gr_C S D V C M e L G W T ch a_alive a_codeBase a_stepWord a_stepTarget a_x a_base a_outW a_outS a_channelWord →
    P ((nI S), (nI db), (nI wb), (nI D), (nI V), (nI cp), f_nodeCount, f_listSize, 1, (nI C), (nI M), (nI e), (nI L), a_edgeTarget, a_jumpTarget, a_good, a_nodeBase, a_nodeWeight, a_arrows, a_renumber, a_listWord, a_listTarget, a_seenAt, a_seenSum, a_alive, a_codeBase, a_stepWord, a_stepTarget, a_pairNow, a_pairNext, a_sentData, a_sentWord, a_channelWord) ((nI S), (nI D), (nI wb), (nI V), (nI cp), 1, (nI C), (nI M), (nI e), (nI L), y_nodes, a_edges, a_x, a_base, a_weight, a_number, a_arrow, a_mark, a_list, a_sum, a_outW, a_outS, a_sentData, a_sentWord, a_channelWord, a_at, a_pick)) → P u v
theorem i_up {k : Nat} {u : SX} {v : SY} (h : i_Rel k u v) : i_Rel (k + 4) u v := h
section GR
variable {S db wb D V cp C M e L k : Nat} {E G : Nat → Nat} {W T : Nat → Nat → Nat} {ch : Nat → Nat} {f_nodeCount f_listSize f_built f_codeCount f_splitCount f_encoder f_messageLength y_codes y_made y_encoder y_places y_nodes : Int32} {a_edgeTarget a_jumpTarget a_good a_nodeBase a_nodeWeight a_arrows a_renumber a_listWord a_listTarget a_seenAt a_seenSum a_alive a_codeBase a_stepWord a_stepTarget a_pairNow a_pairNext a_sentData a_sentWord a_channelWord a_edges a_x a_base a_weight a_number a_arrow a_mark a_list a_sum a_outW a_outS a_at a_pick : Nat → Int32}
theorem gr_i0 (hG : gr_G S db wb D V cp E a_edgeTarget a_jumpTarget a_edges a_base a_sum) : i_Rel k ((nI S), (nI db), (nI wb), (nI D), (nI V), (nI cp), f_nodeCount, f_listSize, 0, f_codeCount, f_splitCount, f_encoder, f_messageLength, a_edgeTarget, a_jumpTarget, a_good, a_nodeBase, a_nodeWeight, a_arrows, a_renumber, a_listWord, a_listTarget, a_seenAt, a_seenSum, a_alive, a_codeBase, a_stepWord, a_stepTarget, a_pairNow, a_pairNext, a_sentData, a_sentWord, a_channelWord) ((nI S), (nI D), (nI wb), (nI V), (nI cp), 0, y_codes, y_made, y_encoder, y_places, y_nodes, a_edges, a_x, a_base, a_weight, a_number, a_arrow, a_mark, a_list, a_sum, a_outW, a_outS, a_sentData, a_sentWord, a_channelWord, a_at, a_pick) :=
  fun P h0 h1 => h0 S db wb D V cp E f_nodeCount f_listSize f_codeCount f_splitCount f_encoder f_messageLength y_codes y_made y_encoder y_places y_nodes a_edgeTarget a_jumpTarget a_good a_nodeBase a_nodeWeight a_arrows a_renumber a_listWord a_listTarget a_seenAt a_seenSum a_alive a_codeBase a_stepWord a_stepTarget a_pairNow a_pairNext a_sentData a_sentWord a_channelWord a_edges a_x a_base a_weight a_number a_arrow a_mark a_list a_sum a_outW a_outS a_at a_pick hG
theorem gr_i1 (hG : gr_G S db wb D V cp E a_edgeTarget a_jumpTarget a_edges a_base a_sum) (hC : gr_C S D V C M e L G W T ch a_alive a_codeBase a_stepWord a_stepTarget a_x a_base a_outW a_outS a_channelWord) :
    i_Rel k ((nI S), (nI db), (nI wb), (nI D), (nI V), (nI cp), f_nodeCount, f_listSize, 1, (nI C), (nI M), (nI e), (nI L), a_edgeTarget, a_jumpTarget, a_good, a_nodeBase, a_nodeWeight, a_arrows, a_renumber, a_listWord, a_listTarget, a_seenAt, a_seenSum, a_alive, a_codeBase, a_stepWord, a_stepTarget, a_pairNow, a_pairNext, a_sentData, a_sentWord, a_channelWord) ((nI S), (nI D), (nI wb), (nI V), (nI cp), 1, (nI C), (nI M), (nI e), (nI L), y_nodes, a_edges, a_x, a_base, a_weight, a_number, a_arrow, a_mark, a_list, a_sum, a_outW, a_outS, a_sentData, a_sentWord, a_channelWord, a_at, a_pick) :=
  fun P h0 h1 => h1 S db wb D V cp C M e L E G W T ch f_nodeCount f_listSize y_nodes a_edgeTarget a_jumpTarget a_good a_nodeBase a_nodeWeight a_arrows a_renumber a_listWord a_listTarget a_seenAt a_seenSum a_alive a_codeBase a_stepWord a_stepTarget a_pairNow a_pairNext a_sentData a_sentWord a_channelWord a_edges a_x a_base a_weight a_number a_arrow a_mark a_list a_sum a_outW a_outS a_at a_pick hG hC
/-- both cases at once: what holds of the graph, and the relation whatever the scratch arrays hold -/
theorem gr_el {u : SX} {v : SY} {P : SX → SY → Prop} (I : i_Rel k u v)
    (h : ∀ (S db wb D V cp : Nat) (E : Nat → Nat) (f_nodeCount f_listSize f_built f_codeCount f_splitCount f_encoder f_messageLength y_codes y_made y_encoder y_places y_nodes : Int32)
      (a_edgeTarget a_jumpTarget a_good a_nodeBase a_nodeWeight a_arrows a_renumber a_listWord a_listTarget a_seenAt a_seenSum a_alive a_codeBase a_stepWord a_stepTarget a_pairNow a_pairNext a_sentData a_sentWord a_channelWord a_edges a_x a_base a_weight a_number a_arrow a_mark a_list a_sum a_outW a_outS a_at a_pick : Nat → Int32),
      gr_G S db wb D V cp E a_edgeTarget a_jumpTarget a_edges a_base a_sum → (∀ gd, i_Rel (k + 4) ((nI S), (nI db), (nI wb), (nI D), (nI V), (nI cp), f_nodeCount, f_listSize, f_built, f_codeCount, f_splitCount, f_encoder, f_messageLength, a_edgeTarget, a_jumpTarget, gd, a_nodeBase, a_nodeWeight, a_arrows, a_renumber, a_listWord, a_listTarget, a_seenAt, a_seenSum, a_alive, a_codeBase, a_stepWord, a_stepTarget, a_pairNow, a_pairNext, a_sentData, a_sentWord, a_channelWord) ((nI S), (nI D), (nI wb), (nI V), (nI cp), f_built, y_codes, y_made, y_encoder, y_places, y_nodes, a_edges, a_x, a_base, a_weight, a_number, a_arrow, a_mark, a_list, a_sum, a_outW, a_outS, a_sentData, a_sentWord, a_channelWord, a_at, a_pick)) → P ((nI S), (nI db), (nI wb), (nI D), (nI V), (nI cp), f_nodeCount, f_listSize, f_built, f_codeCount, f_splitCount, f_encoder, f_messageLength, a_edgeTarget, a_jumpTarget, a_good, a_nodeBase, a_nodeWeight, a_arrows, a_renumber, a_listWord, a_listTarget, a_seenAt, a_seenSum, a_alive, a_codeBase, a_stepWord, a_stepTarget, a_pairNow, a_pairNext, a_sentData, a_sentWord, a_channelWord) ((nI S), (nI D), (nI wb), (nI V), (nI cp), f_built, y_codes, y_made, y_encoder, y_places, y_nodes, a_edges, a_x, a_base, a_weight, a_number, a_arrow, a_mark, a_list, a_sum, a_outW, a_outS, a_sentData, a_sentWord, a_channelWord, a_at, a_pick)) : P u v := by
  refine I P ?_ ?_
  · intro S db wb D V cp E f_nodeCount f_listSize f_codeCount f_splitCount f_encoder f_messageLength y_codes y_made y_encoder y_places y_nodes a_edgeTarget a_jumpTarget a_good a_nodeBase a_nodeWeight a_arrows a_renumber a_listWord a_listTarget a_seenAt a_seenSum a_alive a_codeBase a_stepWord a_stepTarget a_pairNow a_pairNext a_sentData a_sentWord a_channelWord a_edges a_x a_base a_weight a_number a_arrow a_mark a_list a_sum a_outW a_outS a_at a_pick hG
    exact h S db wb D V cp E f_nodeCount f_listSize 0 f_codeCount f_splitCount f_encoder f_messageLength y_codes y_made y_encoder y_places y_nodes a_edgeTarget a_jumpTarget a_good a_nodeBase a_nodeWeight a_arrows a_renumber a_listWord a_listTarget a_seenAt a_seenSum a_alive a_codeBase a_stepWord a_stepTarget a_pairNow a_pairNext a_sentData a_sentWord a_channelWord a_edges a_x a_base a_weight a_number a_arrow a_mark a_list a_sum a_outW a_outS a_at a_pick hG fun gd => gr_i0 hG
  · intro S db wb D V cp C M e L E G W T ch f_nodeCount f_listSize y_nodes a_edgeTarget a_jumpTarget a_good a_nodeBase a_nodeWeight a_arrows a_renumber a_listWord a_listTarget a_seenAt a_seenSum a_alive a_codeBase a_stepWord a_stepTarget a_pairNow a_pairNext a_sentData a_sentWord a_channelWord a_edges a_x a_base a_weight a_number a_arrow a_mark a_list a_sum a_outW a_outS a_at a_pick hG hC
    exact h S db wb D V cp E f_nodeCount f_listSize 1 (nI C) (nI M) (nI e) (nI L) (nI C) (nI M) (nI e) (nI L) y_nodes a_edgeTarget a_jumpTarget a_good a_nodeBase a_nodeWeight a_arrows a_renumber a_listWord a_listTarget a_seenAt a_seenSum a_alive a_codeBase a_stepWord a_stepTarget a_pairNow a_pairNext a_sentData a_sentWord a_channelWord a_edges a_x a_base a_weight a_number a_arrow a_mark a_list a_sum a_outW a_outS a_at a_pick hG fun gd => gr_i1 hG hC
end GR
end
section
/-! the owed statements: the constructors, the graph -/
def gr_cl (p : Int32) (b : Nat) : Int32 := if 1 ≤ p then (if p ≤ nI b then p else nI b) else 1
theorem gr_cln {p : Int32} {b : Nat} (h1 : 1 ≤ b) (hb : b < 2 ^ 31) : ∃ a, 1 ≤ a ∧ a ≤ b ∧ gr_cl p b = nI a := by
  unfold gr_cl
  by_cases c : 1 ≤ p
  · rw [if_pos c]
    have hn : ¬ p < 0 := by
      intro z
      rw [Int32.lt_iff_toInt_lt] at z
      rw [Int32.le_iff_toInt_le] at c
      have a1 : (1 : Int32).toInt = 1 := by decide
      have a0 : (0 : Int32).toInt = 0 := by decide
      omega
    obtain ⟨j, hj, rfl⟩ := nI_of hn
    have hj1 : 1 ≤ j := (nI_leI (a := 1) (by omega) hj).mp c
    by_cases c2 : nI j ≤ nI b
    · rw [if_pos c2]
      exact ⟨j, hj1, (nI_leI hj hb).mp c2, rfl⟩
    · rw [if_neg c2]
      exact ⟨b, h1, Nat.le_refl _, rfl⟩
  · rw [if_neg c]
    exact ⟨1, Nat.le_refl _, h1, rfl⟩
theorem gr_sh : ∀ a, a < 4 → (1 : Int32) <<< (nI a &&& 31) = nI (2 ^ a) := by decide +kernel
section GRI
variable {f_stateCount f_dataBitCount f_wordBitCount f_dataCount f_wordCount f_levelCap f_nodeCount f_listSize f_built f_codeCount f_splitCount f_encoder f_messageLength : Int32} {a_edgeTarget a_jumpTarget a_good a_nodeBase a_nodeWeight a_arrows a_renumber a_listWord a_listTarget a_seenAt a_seenSum a_alive a_codeBase a_stepWord a_stepTarget a_pairNow a_pairNext a_sentData a_sentWord a_channelWord : Nat → Int32}
theorem gr_cx {post : Int32 → Prop} {p : Int32} {a b : Nat} (e : gr_cl p b = nI a) (h : post (nI a)) : wpX_clamp post (f_stateCount, f_dataBitCount, f_wordBitCount, f_dataCount, f_wordCount, f_levelCap, f_nodeCount, f_listSize, f_built, f_codeCount, f_splitCount, f_encoder, f_messageLength, a_edgeTarget, a_jumpTarget, a_good, a_nodeBase, a_nodeWeight, a_arrows, a_renumber, a_listWord, a_listTarget, a_seenAt, a_seenSum, a_alive, a_codeBase, a_stepWord, a_stepTarget, a_pairNow, a_pairNext, a_sentData, a_sentWord, a_channelWord) p (nI b) := by
  rw [← e] at h
  unfold gr_cl at h
  refine br_c (fun c => br_c (fun c2 => ?_) (fun c2 => ?_)) (fun c => ?_)
  · rw [if_pos c, if_pos c2] at h; exact h
  · rw [if_pos c, if_neg c2] at h; exact h
  · rw [if_neg c] at h; exact h
theorem gr_250 {post : SX → Prop} (hk : ∀ jt, (∀ j, j < 40 → jt j = -1) → post (f_stateCount, f_dataBitCount, f_wordBitCount, f_dataCount, f_wordCount, f_levelCap, f_nodeCount, f_listSize, 0, f_codeCount, f_splitCount, f_encoder, f_messageLength, a_edgeTarget, jt, a_good, a_nodeBase, a_nodeWeight, a_arrows, a_renumber, a_listWord, a_listTarget, a_seenAt, a_seenSum, a_alive, a_codeBase, a_stepWord, a_stepTarget, a_pairNow, a_pairNext, a_sentData, a_sentWord, a_channelWord)) :
    ∀ n i jt, 40 < n + i → i ≤ 40 → (∀ j, j < i → jt j = -1) → wX_init_250 post f_stateCount f_dataBitCount f_wordBitCount f_dataCount f_wordCount f_levelCap f_nodeCount f_listSize f_built f_codeCount f_splitCount f_encoder f_messageLength n (nI i) a_edgeTarget jt a_good a_nodeBase a_nodeWeight a_arrows a_renumber a_listWord a_listTarget a_seenAt a_seenSum a_alive a_codeBase a_stepWord a_stepTarget a_pairNow a_pairNext a_sentData a_sentWord a_channelWord := by
  intro n
  induction n with
  | zero => intro i jt z1 z2; omega
  | succ n ih =>
    intro i jt z1 z2 hI
    refine pk_le 40 i (fun h => hk jt fun j hj => hI j (by omega)) (fun h => ⟨vp_in_nI (by omega) (by omega), nm_r (e' := upd jt i (-1)) (by rw [nI_clamp (by omega)]) (nm_r (nI_1 i) (ih (i + 1) _ (by omega) (by omega) fun j hj => ?_))⟩)
    by_cases e : j = i
    · subst e; exact pk_us
    · rw [pk_un e]; exact hI j (by omega)
theorem gr_226 {post : SX → Prop} (hk : ∀ et jt, (∀ j, j < 10 → et j = -1) → (∀ j, j < 40 → jt j = -1) → post (f_stateCount, f_dataBitCount, f_wordBitCount, f_dataCount, f_wordCount, f_levelCap, f_nodeCount, f_listSize, 0, f_codeCount, f_splitCount, f_encoder, f_messageLength, et, jt, a_good, a_nodeBase, a_nodeWeight, a_arrows, a_renumber, a_listWord, a_listTarget, a_seenAt, a_seenSum, a_alive, a_codeBase, a_stepWord, a_stepTarget, a_pairNow, a_pairNext, a_sentData, a_sentWord, a_channelWord)) :
    ∀ n i et, 10 < n + i → i ≤ 10 → (∀ j, j < i → et j = -1) → wX_init_226 post f_stateCount f_dataBitCount f_wordBitCount f_dataCount f_wordCount f_levelCap f_nodeCount f_listSize f_built f_codeCount f_splitCount f_encoder f_messageLength n (nI i) et a_jumpTarget a_good a_nodeBase a_nodeWeight a_arrows a_renumber a_listWord a_listTarget a_seenAt a_seenSum a_alive a_codeBase a_stepWord a_stepTarget a_pairNow a_pairNext a_sentData a_sentWord a_channelWord := by
  intro n
  induction n with
  | zero => intro i et z1 z2; omega
  | succ n ih =>
    intro i et z1 z2 hI
    refine pk_le 10 i (fun h => ⟨41, gr_250 (fun jt hjt => hk et jt (fun j hj => hI j (by omega)) hjt) 41 0 a_jumpTarget (by omega) (by omega) (fun j h => by omega)⟩) (fun h => ⟨vp_in_nI (by omega) (by omega), nm_r (e' := upd et i (-1)) (by rw [nI_clamp (by omega)]) (nm_r (nI_1 i) (ih (i + 1) _ (by omega) (by omega) fun j hj => ?_))⟩)
    by_cases e : j = i
    · subst e; exact pk_us
    · rw [pk_un e]; exact hI j (by omega)
end GRI
section GRJ
variable {f_states f_n f_wordBits f_words f_cap f_built f_codes f_made f_encoder f_places f_nodes : Int32} {a_edges a_x a_base a_weight a_number a_arrow a_mark a_list a_sum a_outW a_outS a_sent a_own a_chan a_at a_pick : Nat → Int32}
theorem gr_cy {post : Int32 → Prop} {p : Int32} {a b : Nat} (e : gr_cl p b = nI a) (h : post (nI a)) : wpY_clamp post (f_states, f_n, f_wordBits, f_words, f_cap, f_built, f_codes, f_made, f_encoder, f_places, f_nodes, a_edges, a_x, a_base, a_weight, a_number, a_arrow, a_mark, a_list, a_sum, a_outW, a_outS, a_sent, a_own, a_chan, a_at, a_pick) p (nI b) := by
  rw [← e] at h
  unfold gr_cl at h
  refine br_c (fun c => br_c (fun c2 => ?_) (fun c2 => ?_)) (fun c => ?_)
  · rw [if_pos c, if_pos c2] at h; exact h
  · rw [if_pos c, if_neg c2] at h; exact h
  · rw [if_neg c] at h; exact h
end GRJ
theorem i_vc0 (k0 : Int32) (k1 : Int32) (k2 : Int32) (k3 : Int32) : wpX_init (fun u => wpY_init (fun v => i_Rel 4 u v) k0 k1 k2 k3) k0 k1 k2 k3 := by
  obtain ⟨S, hS1, hS, eS⟩ := gr_cln (p := k0) (b := 5) (by omega) (by omega)
  obtain ⟨db, hd1, hd, ed⟩ := gr_cln (p := k1) (b := 2) (by omega) (by omega)
  obtain ⟨wb, hw1, hw, ew⟩ := gr_cln (p := k2) (b := 3) (by omega) (by omega)
  obtain ⟨cp, hc1, hc, ec⟩ := gr_cln (p := k3) (b := 3) (by omega) (by omega)
  refine gr_cx (b := 5) eS (gr_cx (b := 2) ed (gr_cx (b := 3) ew (gr_cx (b := 3) ec (nm_r (gr_sh db (by omega)) (nm_r (gr_sh wb (by omega)) ⟨11, ?_⟩)))))
  refine gr_226 (fun et jt het hjt => ?_) 11 0 _ (by omega) (by omega) (fun j h => by omega)
  refine gr_cy (b := 5) eS (gr_cy (b := 2) ed (nm_r (gr_sh db (by omega)) (gr_cy (b := 3) ew (nm_r (gr_sh wb (by omega)) (gr_cy (b := 3) ec ?_)))))
  refine gr_i0 (E := fun _ => 0) ⟨⟨hS1, hS⟩, ?_, ⟨hw1, hw, ?_⟩, ⟨hc1, hc⟩, fun _ => Nat.zero_le _, fun i hi => by rw [het i hi, gu_e0], fun u w hu hw' => ?_, fun i _ => rfl, fun i _ => ⟨0, by omega, rfl⟩, rfl⟩
  · rcases show db = 1 ∨ db = 2 by omega with rfl | rfl
    · exact Or.inl ⟨rfl, rfl⟩
    · exact Or.inr ⟨rfl, rfl⟩
  · rcases show wb = 1 ∨ wb = 2 ∨ wb = 3 by omega with rfl | rfl | rfl <;> decide
  · have hV : 2 ^ wb ≤ 8 := by rcases show wb = 1 ∨ wb = 2 ∨ wb = 3 by omega with rfl | rfl | rfl <;> decide
    obtain ⟨w', rfl⟩ : ∃ w', wb = w' + 1 := ⟨wb - 1, by omega⟩
    rw [hjt _ (by omega), ga_js, ga_j0, gu_e0]
end
section
/-! the owed statements: edges, vector, build -/
theorem gr_b {x : Int32} {n : Nat} (hn : n < 2 ^ 31) : (x < 0 ∨ nI n ≤ x) ∨ ∃ j : Nat, j < n ∧ x = nI j := by
  rcases pk_ix x hn with h | h | h
  · exact Or.inl (Or.inl h)
  · exact Or.inl (Or.inr h)
  · exact Or.inr h
section GVX
variable {S db wb D V cp : Nat} {f_nodeCount f_listSize f_built f_codeCount f_splitCount f_encoder f_messageLength : Int32} {a_edgeTarget a_jumpTarget a_good a_nodeBase a_nodeWeight a_arrows a_renumber a_listWord a_listTarget a_seenAt a_seenSum a_alive a_codeBase a_stepWord a_stepTarget a_pairNow a_pairNext a_sentData a_sentWord a_channelWord : Nat → Int32}
theorem gr_is1 {post : Int32 → Prop} {j : Nat} (hS : S ≤ 5) (hj : j < S) (h : post 1) : wpX_isState post ((nI S), (nI db), (nI wb), (nI D), (nI V), (nI cp), f_nodeCount, f_listSize, f_built, f_codeCount, f_splitCount, f_encoder, f_messageLength, a_edgeTarget, a_jumpTarget, a_good, a_nodeBase, a_nodeWeight, a_arrows, a_renumber, a_listWord, a_listTarget, a_seenAt, a_seenSum, a_alive, a_codeBase, a_stepWord, a_stepTarget, a_pairNow, a_pairNext, a_sentData, a_sentWord, a_channelWord) (nI j) := br_f (nI_pos (by omega)) (pk_le S j (fun z => by omega) (fun _ => h))
theorem gr_is0 {post : Int32 → Prop} {x : Int32} (hx : x < 0 ∨ nI S ≤ x) (h : post 0) : wpX_isState post ((nI S), (nI db), (nI wb), (nI D), (nI V), (nI cp), f_nodeCount, f_listSize, f_built, f_codeCount, f_splitCount, f_encoder, f_messageLength, a_edgeTarget, a_jumpTarget, a_good, a_nodeBase, a_nodeWeight, a_arrows, a_renumber, a_listWord, a_listTarget, a_seenAt, a_seenSum, a_alive, a_codeBase, a_stepWord, a_stepTarget, a_pairNow, a_pairNext, a_sentData, a_sentWord, a_channelWord) x :=
  br_c (fun _ => h) (fun c => br_t (hx.elim (fun z => absurd z c) id) h)
theorem gr_il1 {post : Int32 → Prop} {j : Nat} (hj : j < 2) (h : post 1) : wpX_isLabel post ((nI S), (nI db), (nI wb), (nI D), (nI V), (nI cp), f_nodeCount, f_listSize, f_built, f_codeCount, f_splitCount, f_encoder, f_messageLength, a_edgeTarget, a_jumpTarget, a_good, a_nodeBase, a_nodeWeight, a_arrows, a_renumber, a_listWord, a_listTarget, a_seenAt, a_seenSum, a_alive, a_codeBase, a_stepWord, a_stepTarget, a_pairNow, a_pairNext, a_sentData, a_sentWord, a_channelWord) (nI j) :=
  pk_eq j 0 (fun _ => h) (fun c => pk_eq j 1 (fun _ => h) (fun c2 => by omega))
theorem gr_il0 {post : Int32 → Prop} {x : Int32} (hx : x < 0 ∨ nI 2 ≤ x) (h : post 0) : wpX_isLabel post ((nI S), (nI db), (nI wb), (nI D), (nI V), (nI cp), f_nodeCount, f_listSize, f_built, f_codeCount, f_splitCount, f_encoder, f_messageLength, a_edgeTarget, a_jumpTarget, a_good, a_nodeBase, a_nodeWeight, a_arrows, a_renumber, a_listWord, a_listTarget, a_seenAt, a_seenSum, a_alive, a_codeBase, a_stepWord, a_stepTarget, a_pairNow, a_pairNext, a_sentData, a_sentWord, a_channelWord) x :=
  br_f (fun z => by rw [z] at hx; exact hx.elim (fun q => absurd q (by decide)) (fun q => absurd q (by decide))) (br_f (fun z => by rw [z] at hx; exact hx.elim (fun q => absurd q (by decide)) (fun q => absurd q (by decide))) h)
end GVX
section GVY
variable {S wb D V cp : Nat} {f_built f_codes f_made f_encoder f_places f_nodes : Int32} {a_edges a_x a_base a_weight a_number a_arrow a_mark a_list a_sum a_outW a_outS a_sent a_own a_chan a_at a_pick : Nat → Int32}
theorem gr_be0 {post : Int32 → Prop} {j l : Nat} (hS : S ≤ 5) (hj : j < S) (hl : l < 2) (h : post 0) : wpY_badEdge post ((nI S), (nI D), (nI wb), (nI V), (nI cp), f_built, f_codes, f_made, f_encoder, f_places, f_nodes, a_edges, a_x, a_base, a_weight, a_number, a_arrow, a_mark, a_list, a_sum, a_outW, a_outS, a_sent, a_own, a_chan, a_at, a_pick) (nI j) (nI l) :=
  br_f (nI_pos (by omega)) (pk_le S j (fun z => by omega) (fun _ => br_f (nI_pos (by omega)) (pk_le l 1 (fun _ => h) (fun z => by omega))))
theorem gr_be1 {post : Int32 → Prop} {x y : Int32} (hx : x < 0 ∨ nI S ≤ x) (h : post 1) : wpY_badEdge post ((nI S), (nI D), (nI wb), (nI V), (nI cp), f_built, f_codes, f_made, f_encoder, f_places, f_nodes, a_edges, a_x, a_base, a_weight, a_number, a_arrow, a_mark, a_list, a_sum, a_outW, a_outS, a_sent, a_own, a_chan, a_at, a_pick) x y :=
  br_c (fun _ => h) (fun c => br_t (hx.elim (fun z => absurd z c) id) h)
theorem gr_be2 {post : Int32 → Prop} {j : Nat} {y : Int32} (hS : S ≤ 5) (hj : j < S) (hy : y < 0 ∨ nI 2 ≤ y) (h : post 1) : wpY_badEdge post ((nI S), (nI D), (nI wb), (nI V), (nI cp), f_built, f_codes, f_made, f_encoder, f_places, f_nodes, a_edges, a_x, a_base, a_weight, a_number, a_arrow, a_mark, a_list, a_sum, a_outW, a_outS, a_sent, a_own, a_chan, a_at, a_pick) (nI j) y := by
  refine br_f (nI_pos (by omega)) (pk_le S j (fun z => by omega) (fun _ => br_c (fun _ => h) (fun c => br_f (fun z => ?_) h)))
  have h2 : nI 2 ≤ y := hy.elim (fun z => absurd z c) id
  rw [Int32.le_iff_toInt_le] at h2 z
  have a1 : (1 : Int32).toInt = 1 := by decide
  have a2 : (nI 2).toInt = 2 := by decide
  omega
end GVY
theorem gr_2 (a b : Nat) : (2 * nI a) + nI b = nI (2 * a + b) := gu_m 2 a b
theorem gr_2' (a b : Nat) : (nI a * 2) + nI b = nI (2 * a + b) := by rw [Int32.mul_comm]; exact gu_m 2 a b
/-- the edges changed on both sides: not built -/
theorem gr_ch {S db wb D V cp : Nat} {E : Nat → Nat} {et jt jt' ed ba sm : Nat → Int32} {i x : Nat} (hG : gr_G S db wb D V cp E et jt ed ba sm) (hx : x ≤ S)
    (hj : ∀ u w, u < S → w < V → jt' (8 * u + w) = gu_e (ga_j (fun q => if q = i then x else E q) w wb (u + 1))) :
    gr_G S db wb D V cp (fun q => if q = i then x else E q) (upd et i (gu_e x)) jt' (upd ed i (nI x)) ba sm := by
  obtain ⟨h1, h2, h3, h4, h5, h6, h7, h8, h9⟩ := hG
  refine ⟨h1, h2, h3, h4, fun q => ?_, fun q hq => ?_, hj, fun q hq => ?_, h9⟩
  · dsimp only
    split
    · exact hx
    · exact h5 q
  · dsimp only
    by_cases c : q = i
    · rw [c, pk_us, if_pos rfl]
    · rw [pk_un c, if_neg c]; exact h6 q hq
  · dsimp only
    by_cases c : q = i
    · rw [c, pk_us, if_pos rfl]
    · rw [pk_un c, if_neg c]; exact h8 q hq
theorem gr_et {E : Nat → Nat} {et : Nat → Int32} {i x : Nat} (h : ∀ q, q < 10 → et q = gu_e (E q)) : ∀ q, q < 10 → upd et i (gu_e x) q = gu_e ((fun q => if q = i then x else E q) q) := fun q hq => by
  by_cases c : q = i
  · subst c; rw [pk_us]; dsimp only; rw [if_pos rfl]
  · rw [pk_un c]; dsimp only; rw [if_neg c]; exact h q hq
theorem i_vc_addEdge {k : Nat} {u : SX} {v : SY} (I : i_Rel k u v) (hk : k + 4 ≤ 2052) (v1 : Int32) (v2 : Int32) (v3 : Int32) : wpX_addEdge (fun r u' => wpY_addEdge (fun r' v' => r' = r ∧ i_Rel (k + 4) u' v') v v1 v2 v3) u v1 v2 v3 := by
  refine gr_el (P := fun u v => wpX_addEdge (fun r u' => wpY_addEdge (fun r' v' => r' = r ∧ i_Rel (k + 4) u' v') v v1 v2 v3) u v1 v2 v3) I ?_
  intro S db wb D V cp E f_nodeCount f_listSize f_built f_codeCount f_splitCount f_encoder f_messageLength y_codes y_made y_encoder y_places y_nodes a_edgeTarget a_jumpTarget a_good a_nodeBase a_nodeWeight a_arrows a_renumber a_listWord a_listTarget a_seenAt a_seenSum a_alive a_codeBase a_stepWord a_stepTarget a_pairNow a_pairNext a_sentData a_sentWord a_channelWord a_edges a_x a_base a_weight a_number a_arrow a_mark a_list a_sum a_outW a_outS a_at a_pick hG hI
  obtain ⟨⟨hS1, hS⟩, hD, ⟨hw1, hw, hV⟩, hcp, hE, hTX, hJX, hTY, hB, hs0⟩ := id hG
  have hI0 := hI a_good
  unfold wpX_addEdge
  rcases gr_b (x := v1) (n := S) (by omega) with b1 | ⟨j, hj, rfl⟩
  · refine gr_is0 b1 (br_t rfl ?_)
    unfold wpY_addEdge
    exact gr_be1 b1 (br_f (by decide) ⟨rfl, hI0⟩)
  · refine gr_is1 hS hj (br_f (by decide) ?_)
    rcases gr_b (x := v2) (n := 2) (by omega) with b2 | ⟨l, hl, rfl⟩
    · refine gr_il0 b2 (br_t rfl ?_)
      unfold wpY_addEdge
      exact gr_be2 hS hj b2 (br_f (by decide) ⟨rfl, hI0⟩)
    · refine gr_il1 hl (br_f (by decide) ?_)
      rcases gr_b (x := v3) (n := S) (by omega) with b3 | ⟨t, ht, rfl⟩
      · refine gr_is0 b3 (br_t rfl ?_)
        unfold wpY_addEdge
        refine gr_be0 hS hj hl (br_t rfl (br_c (fun _ => ⟨rfl, hI0⟩) (fun c => br_f (fun z => ?_) ⟨rfl, hI0⟩)))
        exact absurd z (Int32.not_lt.mpr (b3.elim (fun q => absurd q c) id))
      · refine gr_is1 hS ht (br_f (by decide) (nm_r (gr_2 j l) ⟨vp_in_nI (by omega) (by omega), ?_⟩))
        have hEi := hE (2 * j + l)
        rw [nI_clamp (by omega), hTX _ (by omega)]
        by_cases c : E (2 * j + l) = 0
        · refine br_t ((gu_elt (by omega)).mpr c) ⟨vp_in_nI (by omega) (by omega), nm_r (e' := upd a_edgeTarget (2 * j + l) (gu_e (t + 1))) (by rw [gu_es]) ?_⟩
          have hE' : ∀ q, (fun q => if q = 2 * j + l then t + 1 else E q) q ≤ S := fun q => by
            dsimp only
            split
            · omega
            · exact hE q
          refine ga_gc (gr_et hTX) hE' hS hV hw fun jt hjt => ?_
          show wpY_addEdge _ _ _ _ _
          unfold wpY_addEdge
          refine gr_be0 hS hj hl (br_t rfl (br_f (nI_pos (by omega)) (pk_lt t S (fun _ => ?_) (fun z => by omega))))
          rw [gr_2', nI_clamp (by omega), hTY _ (by omega), nI_1]
          refine ⟨vp_in_nI (by omega) (by omega), br_t (by rw [c]; rfl) ⟨vp_in_nI (by omega) (by omega), nm_e ⟨rfl, gr_i0 (gr_ch hG (by omega) hjt)⟩⟩⟩
        · refine br_f (fun z => c ((gu_elt (by omega)).mp z)) ?_
          unfold wpY_addEdge
          refine gr_be0 hS hj hl (br_t rfl (br_f (nI_pos (by omega)) (pk_lt t S (fun _ => ?_) (fun z => by omega))))
          rw [gr_2', nI_clamp (by omega), hTY _ (by omega)]
          exact ⟨vp_in_nI (by omega) (by omega), br_f (nI_ne0 (by omega) (by omega)) ⟨rfl, hI0⟩⟩
theorem i_vc_removeEdge {k : Nat} {u : SX} {v : SY} (I : i_Rel k u v) (hk : k + 4 ≤ 2052) (v1 : Int32) (v2 : Int32) : wpX_removeEdge (fun r u' => wpY_removeEdge (fun r' v' => r' = r ∧ i_Rel (k + 4) u' v') v v1 v2) u v1 v2 := by
  refine gr_el (P := fun u v => wpX_removeEdge (fun r u' => wpY_removeEdge (fun r' v' => r' = r ∧ i_Rel (k + 4) u' v') v v1 v2) u v1 v2) I ?_
  intro S db wb D V cp E f_nodeCount f_listSize f_built f_codeCount f_splitCount f_encoder f_messageLength y_codes y_made y_encoder y_places y_nodes a_edgeTarget a_jumpTarget a_good a_nodeBase a_nodeWeight a_arrows a_renumber a_listWord a_listTarget a_seenAt a_seenSum a_alive a_codeBase a_stepWord a_stepTarget a_pairNow a_pairNext a_sentData a_sentWord a_channelWord a_edges a_x a_base a_weight a_number a_arrow a_mark a_list a_sum a_outW a_outS a_at a_pick hG hI
  obtain ⟨⟨hS1, hS⟩, hD, ⟨hw1, hw, hV⟩, hcp, hE, hTX, hJX, hTY, hB, hs0⟩ := id hG
  have hI0 := hI a_good
  unfold wpX_removeEdge
  rcases gr_b (x := v1) (n := S) (by omega) with b1 | ⟨j, hj, rfl⟩
  · refine gr_is0 b1 (br_t rfl ?_)
    unfold wpY_removeEdge
    exact gr_be1 b1 (br_f (by decide) ⟨rfl, hI0⟩)
  · refine gr_is1 hS hj (br_f (by decide) ?_)
    rcases gr_b (x := v2) (n := 2) (by omega) with b2 | ⟨l, hl, rfl⟩
    · refine gr_il0 b2 (br_t rfl ?_)
      unfold wpY_removeEdge
      exact gr_be2 hS hj b2 (br_f (by decide) ⟨rfl, hI0⟩)
    · refine gr_il1 hl (br_f (by decide) (nm_r (gr_2 j l) ⟨vp_in_nI (by omega) (by omega), ?_⟩))
      have hEi := hE (2 * j + l)
      rw [nI_clamp (by omega), hTX _ (by omega)]
      by_cases c : E (2 * j + l) = 0
      · refine br_f (fun z => (gu_ele (by omega)).mp z c) ?_
        unfold wpY_removeEdge
        refine gr_be0 hS hj hl (br_t rfl ?_)
        rw [gr_2', nI_clamp (by omega), hTY _ (by omega)]
        exact ⟨vp_in_nI (by omega) (by omega), br_t (by rw [c]; rfl) ⟨rfl, hI0⟩⟩
      · refine br_t ((gu_ele (by omega)).mpr c) ⟨vp_in_nI (by omega) (by omega), nm_r (e' := upd a_edgeTarget (2 * j + l) (gu_e 0)) (by rw [gu_e0]) ?_⟩
        have hE' : ∀ q, (fun q => if q = 2 * j + l then 0 else E q) q ≤ S := fun q => by
          dsimp only
          split
          · omega
          · exact hE q
        refine ga_gc (gr_et hTX) hE' hS hV hw fun jt hjt => ?_
        show wpY_removeEdge _ _ _ _
        unfold wpY_removeEdge
        refine gr_be0 hS hj hl (br_t rfl ?_)
        rw [gr_2', nI_clamp (by omega), hTY _ (by omega)]
        exact ⟨vp_in_nI (by omega) (by omega), br_f (nI_ne0 (by omega) (by omega)) ⟨vp_in_nI (by omega) (by omega), nm_e ⟨rfl, gr_i0 (gr_ch hG (by omega) hjt)⟩⟩⟩
theorem i_vc_edge {k : Nat} {u : SX} {v : SY} (I : i_Rel k u v) (hk : k + 4 ≤ 2052) (v1 : Int32) (v2 : Int32) : wpX_edge (fun r => wpY_edge (fun r' => r' = r ∧ i_Rel (k + 4) u v) v v1 v2) u v1 v2 := by
  refine gr_el (P := fun u v => wpX_edge (fun r => wpY_edge (fun r' => r' = r ∧ i_Rel (k + 4) u v) v v1 v2) u v1 v2) I ?_
  intro S db wb D V cp E f_nodeCount f_listSize f_built f_codeCount f_splitCount f_encoder f_messageLength y_codes y_made y_encoder y_places y_nodes a_edgeTarget a_jumpTarget a_good a_nodeBase a_nodeWeight a_arrows a_renumber a_listWord a_listTarget a_seenAt a_seenSum a_alive a_codeBase a_stepWord a_stepTarget a_pairNow a_pairNext a_sentData a_sentWord a_channelWord a_edges a_x a_base a_weight a_number a_arrow a_mark a_list a_sum a_outW a_outS a_at a_pick hG hI
  obtain ⟨⟨hS1, hS⟩, hD, ⟨hw1, hw, hV⟩, hcp, hE, hTX, hJX, hTY, hB, hs0⟩ := id hG
  have hI0 := hI a_good
  unfold wpX_edge
  rcases gr_b (x := v1) (n := S) (by omega) with b1 | ⟨j, hj, rfl⟩
  · refine gr_is0 b1 (br_t rfl ?_)
    unfold wpY_edge
    exact gr_be1 b1 (br_f (by decide) ⟨rfl, hI0⟩)
  · refine gr_is1 hS hj (br_f (by decide) ?_)
    rcases gr_b (x := v2) (n := 2) (by omega) with b2 | ⟨l, hl, rfl⟩
    · refine gr_il0 b2 (br_t rfl ?_)
      unfold wpY_edge
      exact gr_be2 hS hj b2 (br_f (by decide) ⟨rfl, hI0⟩)
    · refine gr_il1 hl (br_f (by decide) ?_)
      have hEi := hE (2 * j + l)
      rw [gr_2, nI_clamp (by omega), hTX _ (by omega)]
      refine ⟨vp_in_nI (by omega) (by omega), nm_e ?_⟩
      by_cases c : E (2 * j + l) = 0
      · refine br_f (fun z => (gu_ele (by omega)).mp z c) ?_
        unfold wpY_edge
        refine gr_be0 hS hj hl (br_t rfl ?_)
        rw [gr_2', nI_clamp (by omega), hTY _ (by omega)]
        exact ⟨vp_in_nI (by omega) (by omega), br_t (by rw [c]; rfl) ⟨rfl, hI0⟩⟩
      · refine br_t ((gu_ele (by omega)).mpr c) ?_
        unfold wpY_edge
        refine gr_be0 hS hj hl (br_t rfl ?_)
        rw [gr_2', nI_clamp (by omega), hTY _ (by omega)]
        exact ⟨vp_in_nI (by omega) (by omega), br_f (nI_ne0 (by omega) (by omega)) ⟨vp_in_nI (by omega) (by omega), rfl, hI0⟩⟩
theorem i_vc_vector {k : Nat} {u : SX} {v : SY} (I : i_Rel k u v) (hk : k + 4 ≤ 2052) (v1 : Int32) (v2 : Int32) : wpX_vector (fun r u' => wpY_vector (fun r' => r' = r ∧ i_Rel (k + 4) u' v) v v1 v2) u v1 v2 := by
  refine gr_el (P := fun u v => wpX_vector (fun r u' => wpY_vector (fun r' => r' = r ∧ i_Rel (k + 4) u' v) v v1 v2) u v1 v2) I ?_
  intro S db wb D V cp E f_nodeCount f_listSize f_built f_codeCount f_splitCount f_encoder f_messageLength y_codes y_made y_encoder y_places y_nodes a_edgeTarget a_jumpTarget a_good a_nodeBase a_nodeWeight a_arrows a_renumber a_listWord a_listTarget a_seenAt a_seenSum a_alive a_codeBase a_stepWord a_stepTarget a_pairNow a_pairNext a_sentData a_sentWord a_channelWord a_edges a_x a_base a_weight a_number a_arrow a_mark a_list a_sum a_outW a_outS a_at a_pick hG hI
  obtain ⟨⟨hS1, hS⟩, hD, ⟨hw1, hw, hV⟩, hcp, hE, hTX, hJX, hTY, hB, hs0⟩ := id hG
  have hI0 := hI a_good
  have hJ : ∀ u w, u < S → (fun u w => ga_j E w wb (u + 1)) u w ≤ S := fun u w hu => ga_jle hE _ _ (by omega)
  by_cases c1 : v1 < 1
  · exact br_t c1 (br_t c1 ⟨rfl, hI0⟩)
  by_cases c2 : 3 < v1
  · exact br_f c1 (br_t c2 (br_f c1 (br_t c2 ⟨rfl, hI0⟩)))
  obtain ⟨lv, hl1, hl3, rfl⟩ : ∃ lv, 1 ≤ lv ∧ lv ≤ 3 ∧ v1 = nI lv := by
    have hn : ¬ v1 < 0 := fun z => c1 (Int32.lt_trans z (by decide))
    obtain ⟨j, hj, rfl⟩ := nI_of hn
    refine ⟨j, ?_, ?_, rfl⟩
    · rcases Nat.lt_or_ge j 1 with z | z
      · exact absurd (nI_lt z (by omega)) c1
      · exact z
    · rcases Nat.lt_or_ge 3 j with z | z
      · exact absurd (nI_lt (a := 3) z (by omega)) c2
      · exact z
  refine br_f c1 (br_f c2 ?_)
  rcases gr_b (x := v2) (n := S) (by omega) with b2 | ⟨st, hst, rfl⟩
  · refine gr_is0 b2 (br_t rfl (br_f c1 (br_f c2 (br_c (fun _ => ⟨rfl, hI0⟩) (fun c => br_f (fun z => ?_) ⟨rfl, hI0⟩)))))
    exact absurd z (Int32.not_lt.mpr (b2.elim (fun q => absurd q c) id))
  · refine gr_is1 hS hst (br_f (by decide) ?_)
    obtain ⟨G, hGr⟩ := gb_ex (D := D) (V := V) (lv := lv) hJ
    have fin : ∀ gd : Nat → Int32, (∀ u, u < 5 → gd u = nI (G u)) → vp_in (nI st) 5 ∧ wpY_vector (fun r' => r' = gd (nI st).toNatClampNeg ∧ i_Rel (k + 4) ((nI S), (nI db), (nI wb), (nI D), (nI V), (nI cp), f_nodeCount, f_listSize, f_built, f_codeCount, f_splitCount, f_encoder, f_messageLength, a_edgeTarget, a_jumpTarget, gd, a_nodeBase, a_nodeWeight, a_arrows, a_renumber, a_listWord, a_listTarget, a_seenAt, a_seenSum, a_alive, a_codeBase, a_stepWord, a_stepTarget, a_pairNow, a_pairNext, a_sentData, a_sentWord, a_channelWord) ((nI S), (nI D), (nI wb), (nI V), (nI cp), f_built, y_codes, y_made, y_encoder, y_places, y_nodes, a_edges, a_x, a_base, a_weight, a_number, a_arrow, a_mark, a_list, a_sum, a_outW, a_outS, a_sentData, a_sentWord, a_channelWord, a_at, a_pick)) ((nI S), (nI D), (nI wb), (nI V), (nI cp), f_built, y_codes, y_made, y_encoder, y_places, y_nodes, a_edges, a_x, a_base, a_weight, a_number, a_arrow, a_mark, a_list, a_sum, a_outW, a_outS, a_sentData, a_sentWord, a_channelWord, a_at, a_pick) (nI lv) (nI st) := fun gd hgd =>
      ⟨vp_in_nI (by omega) (by omega), gb_v hTY hE hS hV hw (by omega) hl1 hl3 hst hGr ⟨by rw [nI_clamp (by omega), hgd st (by omega)], hI gd⟩⟩
    exact gb_f hD hS hV hl3 hJ hJX hGr (fun gd hgd _ => fin gd hgd) (fun gd hgd _ => fin gd hgd)
theorem i_vc_build {k : Nat} {u : SX} {v : SY} (I : i_Rel k u v) (hk : k + 4 ≤ 2052) : wpX_build (fun r u' => wpY_build (fun r' v' => r' = r ∧ i_Rel (k + 4) u' v') v) u := by
  refine I (fun u v => wpX_build (fun r u' => wpY_build (fun r' v' => r' = r ∧ i_Rel (k + 4) u' v') v) u) ?_ ?_
  · intro S db wb D V cp E f_nodeCount f_listSize f_codeCount f_splitCount f_encoder f_messageLength y_codes y_made y_encoder y_places y_nodes a_edgeTarget a_jumpTarget a_good a_nodeBase a_nodeWeight a_arrows a_renumber a_listWord a_listTarget a_seenAt a_seenSum a_alive a_codeBase a_stepWord a_stepTarget a_pairNow a_pairNext a_sentData a_sentWord a_channelWord a_edges a_x a_base a_weight a_number a_arrow a_mark a_list a_sum a_outW a_outS a_at a_pick hG
    obtain ⟨⟨hS1, hS⟩, hD, ⟨hw1, hw, hV⟩, hcp, hE, hTX, hJX, hTY, hB, hs0⟩ := id hG
    refine gz_b (Q := fun r u' r' v' => r' = r ∧ i_Rel (k + 4) u' v') hS1 hS hD hV hw hcp.2 hE hJX hTY hB hs0 (fun gd xx ba we hB' => ⟨rfl, ?_⟩) ?_
    · exact gr_i0 ⟨⟨hS1, hS⟩, hD, ⟨hw1, hw, hV⟩, hcp, hE, hTX, hJX, hTY, hB', hs0⟩
    · intro C M W T G nc ls gd nb nw ar rn lw lt sa ss al cb sw st nn xx ba we nu yr li sm ow os hOK hal hxx hcb hst hst' hB' hsm
      exact ⟨rfl, gr_i1 (e := 0) (L := 0) (ch := fun _ => 0) ⟨⟨hS1, hS⟩, hD, ⟨hw1, hw, hV⟩, hcp, hE, hTX, hJX, hTY, hB', hsm⟩ ⟨hOK, by have := hOK.1; omega, by omega, hal, hxx, hcb, hst, hst', fun p h => by omega⟩⟩
  · intro S db wb D V cp C M e L E G W T ch f_nodeCount f_listSize y_nodes a_edgeTarget a_jumpTarget a_good a_nodeBase a_nodeWeight a_arrows a_renumber a_listWord a_listTarget a_seenAt a_seenSum a_alive a_codeBase a_stepWord a_stepTarget a_pairNow a_pairNext a_sentData a_sentWord a_channelWord a_edges a_x a_base a_weight a_number a_arrow a_mark a_list a_sum a_outW a_outS a_at a_pick hG hC
    exact br_f (by decide) (br_f (by decide) ⟨rfl, gr_i1 hG hC⟩)
end
section
/-! the owed statements: the code's tables, encoder, message -/
theorem gr_nlt {x : Int32} {n : Nat} (h : x < 0 ∨ nI n ≤ x) (c : ¬ x < 0) : ¬ x < nI n := Int32.not_lt.mpr (h.elim (fun q => absurd q c) id)
section GVC
variable {S db wb D V cp C L : Nat} {f_nodeCount f_listSize f_built f_codeCount f_splitCount f_encoder f_messageLength : Int32} {a_edgeTarget a_jumpTarget a_good a_nodeBase a_nodeWeight a_arrows a_renumber a_listWord a_listTarget a_seenAt a_seenSum a_alive a_codeBase a_stepWord a_stepTarget a_pairNow a_pairNext a_sentData a_sentWord a_channelWord : Nat → Int32}
theorem gr_ic1 {post : Int32 → Prop} {j : Nat} (hC : C ≤ 15) (hj : j < C) (h : post 1) : wpX_isCodeState post ((nI S), (nI db), (nI wb), (nI D), (nI V), (nI cp), f_nodeCount, f_listSize, f_built, (nI C), f_splitCount, f_encoder, f_messageLength, a_edgeTarget, a_jumpTarget, a_good, a_nodeBase, a_nodeWeight, a_arrows, a_renumber, a_listWord, a_listTarget, a_seenAt, a_seenSum, a_alive, a_codeBase, a_stepWord, a_stepTarget, a_pairNow, a_pairNext, a_sentData, a_sentWord, a_channelWord) (nI j) := br_f (nI_pos (by omega)) (pk_le C j (fun z => by omega) (fun _ => h))
theorem gr_ic0 {post : Int32 → Prop} {x : Int32} (hx : x < 0 ∨ nI C ≤ x) (h : post 0) : wpX_isCodeState post ((nI S), (nI db), (nI wb), (nI D), (nI V), (nI cp), f_nodeCount, f_listSize, f_built, (nI C), f_splitCount, f_encoder, f_messageLength, a_edgeTarget, a_jumpTarget, a_good, a_nodeBase, a_nodeWeight, a_arrows, a_renumber, a_listWord, a_listTarget, a_seenAt, a_seenSum, a_alive, a_codeBase, a_stepWord, a_stepTarget, a_pairNow, a_pairNext, a_sentData, a_sentWord, a_channelWord) x := br_c (fun _ => h) (fun c => br_t (hx.elim (fun z => absurd z c) id) h)
theorem gr_id1 {post : Int32 → Prop} {j : Nat} (hD : D ≤ 4) (hj : j < D) (h : post 1) : wpX_isData post ((nI S), (nI db), (nI wb), (nI D), (nI V), (nI cp), f_nodeCount, f_listSize, f_built, f_codeCount, f_splitCount, f_encoder, f_messageLength, a_edgeTarget, a_jumpTarget, a_good, a_nodeBase, a_nodeWeight, a_arrows, a_renumber, a_listWord, a_listTarget, a_seenAt, a_seenSum, a_alive, a_codeBase, a_stepWord, a_stepTarget, a_pairNow, a_pairNext, a_sentData, a_sentWord, a_channelWord) (nI j) := br_f (nI_pos (by omega)) (pk_le D j (fun z => by omega) (fun _ => h))
theorem gr_id0 {post : Int32 → Prop} {x : Int32} (hx : x < 0 ∨ nI D ≤ x) (h : post 0) : wpX_isData post ((nI S), (nI db), (nI wb), (nI D), (nI V), (nI cp), f_nodeCount, f_listSize, f_built, f_codeCount, f_splitCount, f_encoder, f_messageLength, a_edgeTarget, a_jumpTarget, a_good, a_nodeBase, a_nodeWeight, a_arrows, a_renumber, a_listWord, a_listTarget, a_seenAt, a_seenSum, a_alive, a_codeBase, a_stepWord, a_stepTarget, a_pairNow, a_pairNext, a_sentData, a_sentWord, a_channelWord) x := br_c (fun _ => h) (fun c => br_t (hx.elim (fun z => absurd z c) id) h)
theorem gr_ip1 {post : Int32 → Prop} {j : Nat} (hL : L ≤ 32) (hj : j < L) (h : post 1) : wpX_isPlace post ((nI S), (nI db), (nI wb), (nI D), (nI V), (nI cp), f_nodeCount, f_listSize, f_built, f_codeCount, f_splitCount, f_encoder, (nI L), a_edgeTarget, a_jumpTarget, a_good, a_nodeBase, a_nodeWeight, a_arrows, a_renumber, a_listWord, a_listTarget, a_seenAt, a_seenSum, a_alive, a_codeBase, a_stepWord, a_stepTarget, a_pairNow, a_pairNext, a_sentData, a_sentWord, a_channelWord) (nI j) := br_f (nI_pos (by omega)) (pk_le L j (fun z => by omega) (fun _ => h))
theorem gr_ip0 {post : Int32 → Prop} {x : Int32} (hx : x < 0 ∨ nI L ≤ x) (h : post 0) : wpX_isPlace post ((nI S), (nI db), (nI wb), (nI D), (nI V), (nI cp), f_nodeCount, f_listSize, f_built, f_codeCount, f_splitCount, f_encoder, (nI L), a_edgeTarget, a_jumpTarget, a_good, a_nodeBase, a_nodeWeight, a_arrows, a_renumber, a_listWord, a_listTarget, a_seenAt, a_seenSum, a_alive, a_codeBase, a_stepWord, a_stepTarget, a_pairNow, a_pairNext, a_sentData, a_sentWord, a_channelWord) x := br_c (fun _ => h) (fun c => br_t (hx.elim (fun z => absurd z c) id) h)
end GVC
section GVD
variable {S wb D V cp C : Nat} {f_built f_codes f_made f_encoder f_places f_nodes : Int32} {a_edges a_x a_base a_weight a_number a_arrow a_mark a_list a_sum a_outW a_outS a_sent a_own a_chan a_at a_pick : Nat → Int32}
theorem gr_bs0 {post : Int32 → Prop} {j d : Nat} (hC : C ≤ 15) (hD : D ≤ 4) (hj : j < C) (hd : d < D) (h : post 0) : wpY_badStep post ((nI S), (nI D), (nI wb), (nI V), (nI cp), f_built, (nI C), f_made, f_encoder, f_places, f_nodes, a_edges, a_x, a_base, a_weight, a_number, a_arrow, a_mark, a_list, a_sum, a_outW, a_outS, a_sent, a_own, a_chan, a_at, a_pick) (nI j) (nI d) :=
  br_f (nI_pos (by omega)) (pk_le C j (fun z => by omega) (fun _ => br_f (nI_pos (by omega)) (pk_lt d D (fun _ => h) (fun z => by omega))))
theorem gr_bs1 {post : Int32 → Prop} {x y : Int32} (hx : x < 0 ∨ nI C ≤ x) (h : post 1) : wpY_badStep post ((nI S), (nI D), (nI wb), (nI V), (nI cp), f_built, (nI C), f_made, f_encoder, f_places, f_nodes, a_edges, a_x, a_base, a_weight, a_number, a_arrow, a_mark, a_list, a_sum, a_outW, a_outS, a_sent, a_own, a_chan, a_at, a_pick) x y := br_c (fun _ => h) (fun c => br_t (hx.elim (fun z => absurd z c) id) h)
theorem gr_bs2 {post : Int32 → Prop} {j : Nat} {y : Int32} (hC : C ≤ 15) (hj : j < C) (hy : y < 0 ∨ nI D ≤ y) (h : post 1) : wpY_badStep post ((nI S), (nI D), (nI wb), (nI V), (nI cp), f_built, (nI C), f_made, f_encoder, f_places, f_nodes, a_edges, a_x, a_base, a_weight, a_number, a_arrow, a_mark, a_list, a_sum, a_outW, a_outS, a_sent, a_own, a_chan, a_at, a_pick) (nI j) y :=
  br_f (nI_pos (by omega)) (pk_le C j (fun z => by omega) (fun _ => br_c (fun _ => h) (fun c => br_f (gr_nlt hy c) h)))
end GVD
theorem i_vc_baseState {k : Nat} {u : SX} {v : SY} (I : i_Rel k u v) (hk : k + 4 ≤ 2052) (v1 : Int32) : wpX_baseState (fun r => wpY_baseState (fun r' => r' = r ∧ i_Rel (k + 4) u v) v v1) u v1 := by
  refine I (fun u v => wpX_baseState (fun r => wpY_baseState (fun r' => r' = r ∧ i_Rel (k + 4) u v) v v1) u v1) ?_ ?_
  · intro S db wb D V cp E f_nodeCount f_listSize f_codeCount f_splitCount f_encoder f_messageLength y_codes y_made y_encoder y_places y_nodes a_edgeTarget a_jumpTarget a_good a_nodeBase a_nodeWeight a_arrows a_renumber a_listWord a_listTarget a_seenAt a_seenSum a_alive a_codeBase a_stepWord a_stepTarget a_pairNow a_pairNext a_sentData a_sentWord a_channelWord a_edges a_x a_base a_weight a_number a_arrow a_mark a_list a_sum a_outW a_outS a_at a_pick hG
    exact br_t rfl (br_t rfl ⟨rfl, gr_i0 hG⟩)
  · intro S db wb D V cp C M e L E G W T ch f_nodeCount f_listSize y_nodes a_edgeTarget a_jumpTarget a_good a_nodeBase a_nodeWeight a_arrows a_renumber a_listWord a_listTarget a_seenAt a_seenSum a_alive a_codeBase a_stepWord a_stepTarget a_pairNow a_pairNext a_sentData a_sentWord a_channelWord a_edges a_x a_base a_weight a_number a_arrow a_mark a_list a_sum a_outW a_outS a_at a_pick hG hC
    obtain ⟨hOK, he, hL, hal, hxx, hcb, hst, hst', hch⟩ := id hC
    have hC15 := hOK.1
    refine br_f (by decide) ?_
    rcases gr_b (x := v1) (n := C) (by omega) with b | ⟨c, hc, rfl⟩
    · exact gr_ic0 b (br_t rfl (br_f (by decide) (br_c (fun _ => ⟨rfl, gr_i1 hG hC⟩) (fun q => br_f (gr_nlt b q) ⟨rfl, gr_i1 hG hC⟩))))
    · refine gr_ic1 (by omega) hc (br_f (by decide) ⟨vp_in_nI (by omega) (by omega), br_f (by decide) (br_f (nI_pos (by omega)) (pk_lt c C (fun _ => ⟨vp_in_nI (by omega) (by omega), ?_, gr_i1 hG hC⟩) (fun z => by omega)))⟩)
      rw [nI_clamp (by omega)]
      exact (hcb c hc).symm
theorem i_vc_outWord {k : Nat} {u : SX} {v : SY} (I : i_Rel k u v) (hk : k + 4 ≤ 2052) (v1 : Int32) (v2 : Int32) : wpX_outWord (fun r => wpY_outWord (fun r' => r' = r ∧ i_Rel (k + 4) u v) v v1 v2) u v1 v2 := by
  refine I (fun u v => wpX_outWord (fun r => wpY_outWord (fun r' => r' = r ∧ i_Rel (k + 4) u v) v v1 v2) u v1 v2) ?_ ?_
  · intro S db wb D V cp E f_nodeCount f_listSize f_codeCount f_splitCount f_encoder f_messageLength y_codes y_made y_encoder y_places y_nodes a_edgeTarget a_jumpTarget a_good a_nodeBase a_nodeWeight a_arrows a_renumber a_listWord a_listTarget a_seenAt a_seenSum a_alive a_codeBase a_stepWord a_stepTarget a_pairNow a_pairNext a_sentData a_sentWord a_channelWord a_edges a_x a_base a_weight a_number a_arrow a_mark a_list a_sum a_outW a_outS a_at a_pick hG
    exact br_t rfl (br_t rfl ⟨rfl, gr_i0 hG⟩)
  · intro S db wb D V cp C M e L E G W T ch f_nodeCount f_listSize y_nodes a_edgeTarget a_jumpTarget a_good a_nodeBase a_nodeWeight a_arrows a_renumber a_listWord a_listTarget a_seenAt a_seenSum a_alive a_codeBase a_stepWord a_stepTarget a_pairNow a_pairNext a_sentData a_sentWord a_channelWord a_edges a_x a_base a_weight a_number a_arrow a_mark a_list a_sum a_outW a_outS a_at a_pick hG hC
    obtain ⟨hOK, he, hL, hal, hxx, hcb, hst, hst', hch⟩ := id hC
    have hC15 := hOK.1
    have hD4 : D ≤ 4 := by have := hG.2.1; omega
    refine br_f (by decide) ?_
    rcases gr_b (x := v1) (n := C) (by omega) with b | ⟨c, hc, rfl⟩
    · exact gr_ic0 b (br_t rfl (br_f (by decide) (gr_bs1 b (br_f (by decide) ⟨rfl, gr_i1 hG hC⟩))))
    · refine gr_ic1 (by omega) hc (br_f (by decide) ?_)
      rcases gr_b (x := v2) (n := D) (by omega) with b | ⟨d, hd, rfl⟩
      · exact gr_id0 b (br_t rfl (br_f (by decide) (gr_bs2 (by omega) hc b (br_f (by decide) ⟨rfl, gr_i1 hG hC⟩))))
      · refine gr_id1 hD4 hd (br_f (by decide) ⟨gu_in4 (by omega) (by omega), br_f (by decide) (gr_bs0 (by omega) hD4 hc hd (br_t rfl ⟨gu_in4' (by omega) (by omega), ?_, gr_i1 hG hC⟩))⟩)
        rw [gu_c4 (by omega), gu_c4' (by omega), (hst c d hc hd).1, (hst' c d hc hd).1]
theorem i_vc_outState {k : Nat} {u : SX} {v : SY} (I : i_Rel k u v) (hk : k + 4 ≤ 2052) (v1 : Int32) (v2 : Int32) : wpX_outState (fun r => wpY_outState (fun r' => r' = r ∧ i_Rel (k + 4) u v) v v1 v2) u v1 v2 := by
  refine I (fun u v => wpX_outState (fun r => wpY_outState (fun r' => r' = r ∧ i_Rel (k + 4) u v) v v1 v2) u v1 v2) ?_ ?_
  · intro S db wb D V cp E f_nodeCount f_listSize f_codeCount f_splitCount f_encoder f_messageLength y_codes y_made y_encoder y_places y_nodes a_edgeTarget a_jumpTarget a_good a_nodeBase a_nodeWeight a_arrows a_renumber a_listWord a_listTarget a_seenAt a_seenSum a_alive a_codeBase a_stepWord a_stepTarget a_pairNow a_pairNext a_sentData a_sentWord a_channelWord a_edges a_x a_base a_weight a_number a_arrow a_mark a_list a_sum a_outW a_outS a_at a_pick hG
    exact br_t rfl (br_t rfl ⟨rfl, gr_i0 hG⟩)
  · intro S db wb D V cp C M e L E G W T ch f_nodeCount f_listSize y_nodes a_edgeTarget a_jumpTarget a_good a_nodeBase a_nodeWeight a_arrows a_renumber a_listWord a_listTarget a_seenAt a_seenSum a_alive a_codeBase a_stepWord a_stepTarget a_pairNow a_pairNext a_sentData a_sentWord a_channelWord a_edges a_x a_base a_weight a_number a_arrow a_mark a_list a_sum a_outW a_outS a_at a_pick hG hC
    obtain ⟨hOK, he, hL, hal, hxx, hcb, hst, hst', hch⟩ := id hC
    have hC15 := hOK.1
    have hD4 : D ≤ 4 := by have := hG.2.1; omega
    refine br_f (by decide) ?_
    rcases gr_b (x := v1) (n := C) (by omega) with b | ⟨c, hc, rfl⟩
    · exact gr_ic0 b (br_t rfl (br_f (by decide) (gr_bs1 b (br_f (by decide) ⟨rfl, gr_i1 hG hC⟩))))
    · refine gr_ic1 (by omega) hc (br_f (by decide) ?_)
      rcases gr_b (x := v2) (n := D) (by omega) with b | ⟨d, hd, rfl⟩
      · exact gr_id0 b (br_t rfl (br_f (by decide) (gr_bs2 (by omega) hc b (br_f (by decide) ⟨rfl, gr_i1 hG hC⟩))))
      · refine gr_id1 hD4 hd (br_f (by decide) ⟨gu_in4 (by omega) (by omega), br_f (by decide) (gr_bs0 (by omega) hD4 hc hd (br_t rfl ⟨gu_in4' (by omega) (by omega), ?_, gr_i1 hG hC⟩))⟩)
        rw [gu_c4 (by omega), gu_c4' (by omega), (hst c d hc hd).2, (hst' c d hc hd).2]
theorem i_vc_splits {k : Nat} {u : SX} {v : SY} (I : i_Rel k u v) (hk : k + 4 ≤ 2052) : wpX_splits (fun r => wpY_splits (fun r' => r' = r ∧ i_Rel (k + 4) u v) v) u := by
  refine I (fun u v => wpX_splits (fun r => wpY_splits (fun r' => r' = r ∧ i_Rel (k + 4) u v) v) u) ?_ ?_
  · intro S db wb D V cp E f_nodeCount f_listSize f_codeCount f_splitCount f_encoder f_messageLength y_codes y_made y_encoder y_places y_nodes a_edgeTarget a_jumpTarget a_good a_nodeBase a_nodeWeight a_arrows a_renumber a_listWord a_listTarget a_seenAt a_seenSum a_alive a_codeBase a_stepWord a_stepTarget a_pairNow a_pairNext a_sentData a_sentWord a_channelWord a_edges a_x a_base a_weight a_number a_arrow a_mark a_list a_sum a_outW a_outS a_at a_pick hG
    exact br_t rfl (br_t rfl ⟨rfl, gr_i0 hG⟩)
  · intro S db wb D V cp C M e L E G W T ch f_nodeCount f_listSize y_nodes a_edgeTarget a_jumpTarget a_good a_nodeBase a_nodeWeight a_arrows a_renumber a_listWord a_listTarget a_seenAt a_seenSum a_alive a_codeBase a_stepWord a_stepTarget a_pairNow a_pairNext a_sentData a_sentWord a_channelWord a_edges a_x a_base a_weight a_number a_arrow a_mark a_list a_sum a_outW a_outS a_at a_pick hG hC
    exact br_f (by decide) (br_f (by decide) ⟨rfl, gr_i1 hG hC⟩)
theorem i_vc_memory {k : Nat} {u : SX} {v : SY} (I : i_Rel k u v) (hk : k + 4 ≤ 2052) : wpX_memory (fun r => wpY_memory (fun r' v' => r' = r ∧ i_Rel (k + 4) u v') v) u := by
  refine I (fun u v => wpX_memory (fun r => wpY_memory (fun r' v' => r' = r ∧ i_Rel (k + 4) u v') v) u) ?_ ?_
  · intro S db wb D V cp E f_nodeCount f_listSize f_codeCount f_splitCount f_encoder f_messageLength y_codes y_made y_encoder y_places y_nodes a_edgeTarget a_jumpTarget a_good a_nodeBase a_nodeWeight a_arrows a_renumber a_listWord a_listTarget a_seenAt a_seenSum a_alive a_codeBase a_stepWord a_stepTarget a_pairNow a_pairNext a_sentData a_sentWord a_channelWord a_edges a_x a_base a_weight a_number a_arrow a_mark a_list a_sum a_outW a_outS a_at a_pick hG
    exact br_t rfl (br_t rfl ⟨rfl, gr_i0 hG⟩)
  · intro S db wb D V cp C M e L E G W T ch f_nodeCount f_listSize y_nodes a_edgeTarget a_jumpTarget a_good a_nodeBase a_nodeWeight a_arrows a_renumber a_listWord a_listTarget a_seenAt a_seenSum a_alive a_codeBase a_stepWord a_stepTarget a_pairNow a_pairNext a_sentData a_sentWord a_channelWord a_edges a_x a_base a_weight a_number a_arrow a_mark a_list a_sum a_outW a_outS a_at a_pick hG hC
    obtain ⟨hOK, he, hL, hal, hxx, hcb, hst, hst', hch⟩ := id hC
    obtain ⟨⟨hS1, hS⟩, hD, ⟨hw1, hw, hV⟩, hcp, hE, hTX, hJX, hTY, hB, hs0⟩ := id hG
    have hJ : ∀ u w, u < S → (fun u w => ga_j E w wb (u + 1)) u w ≤ S := fun u w hu => ga_jle hE _ _ (by omega)
    obtain ⟨a, hA⟩ := gm_ex (S := S) (V := V) (J := fun u w => ga_j E w wb (u + 1)) (al := gn_B G)
    refine gm_x (by decide) hS hV hJ hJX hal hA (gm_y (by decide) hTY hE hS hV hw hxx fun a' mk hA' => ⟨by rw [gm_un hA hA'], gr_i1 hG hC⟩)
theorem i_vc_anticipation {k : Nat} {u : SX} {v : SY} (I : i_Rel k u v) (hk : k + 4 ≤ 2052) : wpX_anticipation (fun r u' => wpY_anticipation (fun r' v' => r' = r ∧ i_Rel (k + 4) u' v') v) u := by
  refine I (fun u v => wpX_anticipation (fun r u' => wpY_anticipation (fun r' v' => r' = r ∧ i_Rel (k + 4) u' v') v) u) ?_ ?_
  · intro S db wb D V cp E f_nodeCount f_listSize f_codeCount f_splitCount f_encoder f_messageLength y_codes y_made y_encoder y_places y_nodes a_edgeTarget a_jumpTarget a_good a_nodeBase a_nodeWeight a_arrows a_renumber a_listWord a_listTarget a_seenAt a_seenSum a_alive a_codeBase a_stepWord a_stepTarget a_pairNow a_pairNext a_sentData a_sentWord a_channelWord a_edges a_x a_base a_weight a_number a_arrow a_mark a_list a_sum a_outW a_outS a_at a_pick hG
    exact br_t rfl (br_t rfl ⟨rfl, gr_i0 hG⟩)
  · intro S db wb D V cp C M e L E G W T ch f_nodeCount f_listSize y_nodes a_edgeTarget a_jumpTarget a_good a_nodeBase a_nodeWeight a_arrows a_renumber a_listWord a_listTarget a_seenAt a_seenSum a_alive a_codeBase a_stepWord a_stepTarget a_pairNow a_pairNext a_sentData a_sentWord a_channelWord a_edges a_x a_base a_weight a_number a_arrow a_mark a_list a_sum a_outW a_outS a_at a_pick hG hC
    obtain ⟨hOK, he, hL, hal, hxx, hcb, hst, hst', hch⟩ := id hC
    obtain ⟨⟨hS1, hS⟩, hD, ⟨hw1, hw, hV⟩, hcp, hE, hTX, hJX, hTY, hB, hs0⟩ := id hG
    obtain ⟨a, hA⟩ := gp_ex hOK
    refine gp_x (by decide) hOK (by omega) hV hst hA fun pn px => gp_y (by decide) hOK (by omega) hV hst' fun a' mk hA' => ⟨by rw [gp_un hA hA'], gr_i1 hG hC⟩
theorem i_vc_restart {k : Nat} {u : SX} {v : SY} (I : i_Rel k u v) (hk : k + 4 ≤ 2052) (v1 : Int32) : wpX_restart (fun r u' => wpY_restart (fun r' v' => r' = r ∧ i_Rel (k + 4) u' v') v v1) u v1 := by
  refine I (fun u v => wpX_restart (fun r u' => wpY_restart (fun r' v' => r' = r ∧ i_Rel (k + 4) u' v') v v1) u v1) ?_ ?_
  · intro S db wb D V cp E f_nodeCount f_listSize f_codeCount f_splitCount f_encoder f_messageLength y_codes y_made y_encoder y_places y_nodes a_edgeTarget a_jumpTarget a_good a_nodeBase a_nodeWeight a_arrows a_renumber a_listWord a_listTarget a_seenAt a_seenSum a_alive a_codeBase a_stepWord a_stepTarget a_pairNow a_pairNext a_sentData a_sentWord a_channelWord a_edges a_x a_base a_weight a_number a_arrow a_mark a_list a_sum a_outW a_outS a_at a_pick hG
    exact br_t rfl (br_t rfl ⟨rfl, gr_i0 hG⟩)
  · intro S db wb D V cp C M e L E G W T ch f_nodeCount f_listSize y_nodes a_edgeTarget a_jumpTarget a_good a_nodeBase a_nodeWeight a_arrows a_renumber a_listWord a_listTarget a_seenAt a_seenSum a_alive a_codeBase a_stepWord a_stepTarget a_pairNow a_pairNext a_sentData a_sentWord a_channelWord a_edges a_x a_base a_weight a_number a_arrow a_mark a_list a_sum a_outW a_outS a_at a_pick hG hC
    obtain ⟨hOK, he, hL, hal, hxx, hcb, hst, hst', hch⟩ := id hC
    have hC15 := hOK.1
    refine br_f (by decide) ?_
    rcases gr_b (x := v1) (n := C) (by omega) with b | ⟨c, hc, rfl⟩
    · exact gr_ic0 b (br_t rfl (br_f (by decide) (br_c (fun _ => ⟨rfl, gr_i1 hG hC⟩) (fun q => br_f (gr_nlt b q) ⟨rfl, gr_i1 hG hC⟩))))
    · exact gr_ic1 (by omega) hc (br_f (by decide) (br_f (by decide) (br_f (nI_pos (by omega)) (pk_lt c C (fun _ => ⟨rfl, gr_i1 (e := c) (L := 0) (ch := ch) hG ⟨hOK, hc, by omega, hal, hxx, hcb, hst, hst', fun p h => by omega⟩⟩) (fun z => by omega)))))
theorem i_vc_encoderState {k : Nat} {u : SX} {v : SY} (I : i_Rel k u v) (hk : k + 4 ≤ 2052) : wpX_encoderState (fun r => wpY_encoderState (fun r' => r' = r ∧ i_Rel (k + 4) u v) v) u := by
  refine I (fun u v => wpX_encoderState (fun r => wpY_encoderState (fun r' => r' = r ∧ i_Rel (k + 4) u v) v) u) ?_ ?_
  · intro S db wb D V cp E f_nodeCount f_listSize f_codeCount f_splitCount f_encoder f_messageLength y_codes y_made y_encoder y_places y_nodes a_edgeTarget a_jumpTarget a_good a_nodeBase a_nodeWeight a_arrows a_renumber a_listWord a_listTarget a_seenAt a_seenSum a_alive a_codeBase a_stepWord a_stepTarget a_pairNow a_pairNext a_sentData a_sentWord a_channelWord a_edges a_x a_base a_weight a_number a_arrow a_mark a_list a_sum a_outW a_outS a_at a_pick hG
    exact br_t rfl (br_t rfl ⟨rfl, gr_i0 hG⟩)
  · intro S db wb D V cp C M e L E G W T ch f_nodeCount f_listSize y_nodes a_edgeTarget a_jumpTarget a_good a_nodeBase a_nodeWeight a_arrows a_renumber a_listWord a_listTarget a_seenAt a_seenSum a_alive a_codeBase a_stepWord a_stepTarget a_pairNow a_pairNext a_sentData a_sentWord a_channelWord a_edges a_x a_base a_weight a_number a_arrow a_mark a_list a_sum a_outW a_outS a_at a_pick hG hC
    exact br_f (by decide) (br_f (by decide) ⟨rfl, gr_i1 hG hC⟩)
theorem i_vc_send {k : Nat} {u : SX} {v : SY} (I : i_Rel k u v) (hk : k + 4 ≤ 2052) (v1 : Int32) : wpX_send (fun r u' => wpY_send (fun r' v' => r' = r ∧ i_Rel (k + 4) u' v') v v1) u v1 := by
  refine I (fun u v => wpX_send (fun r u' => wpY_send (fun r' v' => r' = r ∧ i_Rel (k + 4) u' v') v v1) u v1) ?_ ?_
  · intro S db wb D V cp E f_nodeCount f_listSize f_codeCount f_splitCount f_encoder f_messageLength y_codes y_made y_encoder y_places y_nodes a_edgeTarget a_jumpTarget a_good a_nodeBase a_nodeWeight a_arrows a_renumber a_listWord a_listTarget a_seenAt a_seenSum a_alive a_codeBase a_stepWord a_stepTarget a_pairNow a_pairNext a_sentData a_sentWord a_channelWord a_edges a_x a_base a_weight a_number a_arrow a_mark a_list a_sum a_outW a_outS a_at a_pick hG
    exact br_t rfl (br_t rfl ⟨rfl, gr_i0 hG⟩)
  · intro S db wb D V cp C M e L E G W T ch f_nodeCount f_listSize y_nodes a_edgeTarget a_jumpTarget a_good a_nodeBase a_nodeWeight a_arrows a_renumber a_listWord a_listTarget a_seenAt a_seenSum a_alive a_codeBase a_stepWord a_stepTarget a_pairNow a_pairNext a_sentData a_sentWord a_channelWord a_edges a_x a_base a_weight a_number a_arrow a_mark a_list a_sum a_outW a_outS a_at a_pick hG hC
    obtain ⟨hOK, he, hL, hal, hxx, hcb, hst, hst', hch⟩ := id hC
    have hC15 := hOK.1
    have hD4 : D ≤ 4 := by have := hG.2.1; omega
    refine br_f (by decide) ?_
    rcases gr_b (x := v1) (n := D) (by omega) with b | ⟨d, hd, rfl⟩
    · exact gr_id0 b (br_t rfl (br_f (by decide) (br_c (fun _ => ⟨rfl, gr_i1 hG hC⟩) (fun q => br_f (gr_nlt b q) ⟨rfl, gr_i1 hG hC⟩))))
    · refine gr_id1 hD4 hd (br_f (by decide) (pk_lt L 32 (fun hl => ?_) (fun hl => br_f (by decide) (br_f (nI_pos (by omega)) (pk_lt d D (fun _ => pk_lt L 32 (fun z => by omega) (fun _ => ⟨rfl, gr_i1 hG hC⟩)) (fun z => by omega))))))
      obtain ⟨s1, s2⟩ := hst e d he hd
      obtain ⟨t1, t2⟩ := hst' e d he hd
      obtain ⟨o1, o2⟩ := hOK.2.1 e d he hd
      have cx : (nI (4 * e + d)).toNatClampNeg = 4 * e + d := nI_clamp (by omega)
      have cL : (nI L).toNatClampNeg = L := nI_clamp (by omega)
      refine nm_r (gu_4 e d) ⟨vp_in_nI (by omega) (by omega), nm_r (e' := nI (W e d)) (by rw [cx, s1]) ⟨vp_in_nI (by omega) (by omega), nm_r (e' := upd a_sentData L (nI d)) (by rw [cL]) ⟨vp_in_nI (by omega) (by omega), nm_r (e' := upd a_sentWord L (nI (W e d))) (by rw [cL]) ⟨vp_in_nI (by omega) (by omega), nm_r (e' := upd a_channelWord L (nI (W e d))) (by rw [cL]) (nm_r (nI_1 L) ⟨vp_in_nI (by omega) (by omega), nm_r (e' := nI (T e d)) (by rw [cx, s2]) ?_⟩)⟩⟩⟩⟩
      have cy : ((nI e * 4) + nI d).toNatClampNeg = 4 * e + d := gu_c4' (by omega)
      refine br_f (by decide) (br_f (nI_pos (by omega)) (pk_lt d D (fun _ => pk_lt L 32 (fun _ => ⟨gu_in4' (by omega) (by omega), nm_r (e' := nI (W e d)) (by rw [cy, t1]) ⟨vp_in_nI (by omega) (by omega), nm_r (e' := upd a_sentData L (nI d)) (by rw [cL]) ⟨vp_in_nI (by omega) (by omega), nm_r (e' := upd a_sentWord L (nI (W e d))) (by rw [cL]) ⟨vp_in_nI (by omega) (by omega), nm_r (e' := upd a_channelWord L (nI (W e d))) (by rw [cL]) (nm_r (nI_1 L) ⟨gu_in4' (by omega) (by omega), nm_r (e' := nI (T e d)) (by rw [cy, t2]) ⟨rfl, ?_⟩⟩)⟩⟩⟩⟩) (fun z => by omega)) (fun z => by omega)))
      refine gr_i1 (e := T e d) (L := L + 1) (ch := fun p => if p = L then W e d else ch p) hG ⟨hOK, o2, by omega, hal, hxx, hcb, hst, hst', fun p hp => ?_⟩
      by_cases c : p = L
      · subst c; rw [pk_us]; dsimp only; rw [if_pos rfl]; exact ⟨rfl, o1⟩
      · rw [pk_un c]; dsimp only; rw [if_neg c]; exact hch p (by omega)
theorem i_vc_length {k : Nat} {u : SX} {v : SY} (I : i_Rel k u v) (hk : k + 4 ≤ 2052) : wpX_length (fun r => wpY_length (fun r' => r' = r ∧ i_Rel (k + 4) u v) v) u := by
  refine I (fun u v => wpX_length (fun r => wpY_length (fun r' => r' = r ∧ i_Rel (k + 4) u v) v) u) ?_ ?_
  · intro S db wb D V cp E f_nodeCount f_listSize f_codeCount f_splitCount f_encoder f_messageLength y_codes y_made y_encoder y_places y_nodes a_edgeTarget a_jumpTarget a_good a_nodeBase a_nodeWeight a_arrows a_renumber a_listWord a_listTarget a_seenAt a_seenSum a_alive a_codeBase a_stepWord a_stepTarget a_pairNow a_pairNext a_sentData a_sentWord a_channelWord a_edges a_x a_base a_weight a_number a_arrow a_mark a_list a_sum a_outW a_outS a_at a_pick hG
    exact br_t rfl (br_t rfl ⟨rfl, gr_i0 hG⟩)
  · intro S db wb D V cp C M e L E G W T ch f_nodeCount f_listSize y_nodes a_edgeTarget a_jumpTarget a_good a_nodeBase a_nodeWeight a_arrows a_renumber a_listWord a_listTarget a_seenAt a_seenSum a_alive a_codeBase a_stepWord a_stepTarget a_pairNow a_pairNext a_sentData a_sentWord a_channelWord a_edges a_x a_base a_weight a_number a_arrow a_mark a_list a_sum a_outW a_outS a_at a_pick hG hC
    exact br_f (by decide) (br_f (by decide) ⟨rfl, gr_i1 hG hC⟩)
theorem i_vc_message {k : Nat} {u : SX} {v : SY} (I : i_Rel k u v) (hk : k + 4 ≤ 2052) (v1 : Int32) : wpX_message (fun r => wpY_message (fun r' => r' = r ∧ i_Rel (k + 4) u v) v v1) u v1 := by
  refine I (fun u v => wpX_message (fun r => wpY_message (fun r' => r' = r ∧ i_Rel (k + 4) u v) v v1) u v1) ?_ ?_
  · intro S db wb D V cp E f_nodeCount f_listSize f_codeCount f_splitCount f_encoder f_messageLength y_codes y_made y_encoder y_places y_nodes a_edgeTarget a_jumpTarget a_good a_nodeBase a_nodeWeight a_arrows a_renumber a_listWord a_listTarget a_seenAt a_seenSum a_alive a_codeBase a_stepWord a_stepTarget a_pairNow a_pairNext a_sentData a_sentWord a_channelWord a_edges a_x a_base a_weight a_number a_arrow a_mark a_list a_sum a_outW a_outS a_at a_pick hG
    exact br_t rfl (br_t rfl ⟨rfl, gr_i0 hG⟩)
  · intro S db wb D V cp C M e L E G W T ch f_nodeCount f_listSize y_nodes a_edgeTarget a_jumpTarget a_good a_nodeBase a_nodeWeight a_arrows a_renumber a_listWord a_listTarget a_seenAt a_seenSum a_alive a_codeBase a_stepWord a_stepTarget a_pairNow a_pairNext a_sentData a_sentWord a_channelWord a_edges a_x a_base a_weight a_number a_arrow a_mark a_list a_sum a_outW a_outS a_at a_pick hG hC
    have hL := hC.2.2.1
    refine br_f (by decide) ?_
    rcases gr_b (x := v1) (n := L) (by omega) with b | ⟨c, hc, rfl⟩
    · exact gr_ip0 b (br_t rfl (br_f (by decide) (br_c (fun _ => ⟨rfl, gr_i1 hG hC⟩) (fun q => br_f (gr_nlt b q) ⟨rfl, gr_i1 hG hC⟩))))
    · exact gr_ip1 hL hc (br_f (by decide) ⟨vp_in_nI (by omega) (by omega), br_f (by decide) (br_f (nI_pos (by omega)) (pk_lt c L (fun _ => ⟨vp_in_nI (by omega) (by omega), rfl, gr_i1 hG hC⟩) (fun z => by omega)))⟩)
theorem i_vc_channel {k : Nat} {u : SX} {v : SY} (I : i_Rel k u v) (hk : k + 4 ≤ 2052) (v1 : Int32) : wpX_channel (fun r => wpY_channel (fun r' => r' = r ∧ i_Rel (k + 4) u v) v v1) u v1 := by
  refine I (fun u v => wpX_channel (fun r => wpY_channel (fun r' => r' = r ∧ i_Rel (k + 4) u v) v v1) u v1) ?_ ?_
  · intro S db wb D V cp E f_nodeCount f_listSize f_codeCount f_splitCount f_encoder f_messageLength y_codes y_made y_encoder y_places y_nodes a_edgeTarget a_jumpTarget a_good a_nodeBase a_nodeWeight a_arrows a_renumber a_listWord a_listTarget a_seenAt a_seenSum a_alive a_codeBase a_stepWord a_stepTarget a_pairNow a_pairNext a_sentData a_sentWord a_channelWord a_edges a_x a_base a_weight a_number a_arrow a_mark a_list a_sum a_outW a_outS a_at a_pick hG
    exact br_t rfl (br_t rfl ⟨rfl, gr_i0 hG⟩)
  · intro S db wb D V cp C M e L E G W T ch f_nodeCount f_listSize y_nodes a_edgeTarget a_jumpTarget a_good a_nodeBase a_nodeWeight a_arrows a_renumber a_listWord a_listTarget a_seenAt a_seenSum a_alive a_codeBase a_stepWord a_stepTarget a_pairNow a_pairNext a_sentData a_sentWord a_channelWord a_edges a_x a_base a_weight a_number a_arrow a_mark a_list a_sum a_outW a_outS a_at a_pick hG hC
    have hL := hC.2.2.1
    refine br_f (by decide) ?_
    rcases gr_b (x := v1) (n := L) (by omega) with b | ⟨c, hc, rfl⟩
    · exact gr_ip0 b (br_t rfl (br_f (by decide) (br_c (fun _ => ⟨rfl, gr_i1 hG hC⟩) (fun q => br_f (gr_nlt b q) ⟨rfl, gr_i1 hG hC⟩))))
    · exact gr_ip1 hL hc (br_f (by decide) ⟨vp_in_nI (by omega) (by omega), br_f (by decide) (br_f (nI_pos (by omega)) (pk_lt c L (fun _ => ⟨vp_in_nI (by omega) (by omega), rfl, gr_i1 hG hC⟩) (fun z => by omega)))⟩)
theorem i_vc_corrupt {k : Nat} {u : SX} {v : SY} (I : i_Rel k u v) (hk : k + 4 ≤ 2052) (v1 : Int32) (v2 : Int32) : wpX_corrupt (fun r u' => wpY_corrupt (fun r' v' => r' = r ∧ i_Rel (k + 4) u' v') v v1 v2) u v1 v2 := by
  refine I (fun u v => wpX_corrupt (fun r u' => wpY_corrupt (fun r' v' => r' = r ∧ i_Rel (k + 4) u' v') v v1 v2) u v1 v2) ?_ ?_
  · intro S db wb D V cp E f_nodeCount f_listSize f_codeCount f_splitCount f_encoder f_messageLength y_codes y_made y_encoder y_places y_nodes a_edgeTarget a_jumpTarget a_good a_nodeBase a_nodeWeight a_arrows a_renumber a_listWord a_listTarget a_seenAt a_seenSum a_alive a_codeBase a_stepWord a_stepTarget a_pairNow a_pairNext a_sentData a_sentWord a_channelWord a_edges a_x a_base a_weight a_number a_arrow a_mark a_list a_sum a_outW a_outS a_at a_pick hG
    exact br_t rfl (br_t rfl ⟨rfl, gr_i0 hG⟩)
  · intro S db wb D V cp C M e L E G W T ch f_nodeCount f_listSize y_nodes a_edgeTarget a_jumpTarget a_good a_nodeBase a_nodeWeight a_arrows a_renumber a_listWord a_listTarget a_seenAt a_seenSum a_alive a_codeBase a_stepWord a_stepTarget a_pairNow a_pairNext a_sentData a_sentWord a_channelWord a_edges a_x a_base a_weight a_number a_arrow a_mark a_list a_sum a_outW a_outS a_at a_pick hG hC
    obtain ⟨hOK, he, hL, hal, hxx, hcb, hst, hst', hch⟩ := id hC
    have hV := hG.2.2.1.2.2
    refine br_f (by decide) ?_
    rcases gr_b (x := v1) (n := L) (by omega) with b | ⟨p, hp, rfl⟩
    · exact gr_ip0 b (br_t rfl (br_f (by decide) (br_c (fun _ => ⟨rfl, gr_i1 hG hC⟩) (fun q => br_t (b.elim (fun z => absurd z q) id) ⟨rfl, gr_i1 hG hC⟩))))
    · refine gr_ip1 hL hp (br_f (by decide) ?_)
      rcases gr_b (x := v2) (n := V) (by omega) with b | ⟨w, hw, rfl⟩
      · have yb : wpY_corrupt (fun r' v' => r' = -1 ∧ i_Rel (k + 4) ((nI S), (nI db), (nI wb), (nI D), (nI V), (nI cp), f_nodeCount, f_listSize, 1, (nI C), (nI M), (nI e), (nI L), a_edgeTarget, a_jumpTarget, a_good, a_nodeBase, a_nodeWeight, a_arrows, a_renumber, a_listWord, a_listTarget, a_seenAt, a_seenSum, a_alive, a_codeBase, a_stepWord, a_stepTarget, a_pairNow, a_pairNext, a_sentData, a_sentWord, a_channelWord) v') ((nI S), (nI D), (nI wb), (nI V), (nI cp), 1, (nI C), (nI M), (nI e), (nI L), y_nodes, a_edges, a_x, a_base, a_weight, a_number, a_arrow, a_mark, a_list, a_sum, a_outW, a_outS, a_sentData, a_sentWord, a_channelWord, a_at, a_pick) (nI p) v2 :=
          br_f (by decide) (br_f (nI_pos (by omega)) (pk_le L p (fun z => by omega) (fun _ => br_c (fun _ => ⟨rfl, gr_i1 hG hC⟩) (fun q => br_f (gr_nlt b q) ⟨rfl, gr_i1 hG hC⟩))))
        exact br_c (fun _ => yb) (fun q => br_f (gr_nlt b q) yb)
      · have cp' : (nI p).toNatClampNeg = p := nI_clamp (by omega)
        refine br_f (nI_pos (by omega)) (pk_lt w V (fun _ => ⟨vp_in_nI (by omega) (by omega), nm_e ⟨vp_in_nI (by omega) (by omega), nm_e ?_⟩⟩) (fun z => by omega))
        refine br_f (by decide) (br_f (nI_pos (by omega)) (pk_le L p (fun z => by omega) (fun _ => br_f (nI_pos (by omega)) (pk_lt w V (fun _ => ⟨vp_in_nI (by omega) (by omega), nm_e ⟨vp_in_nI (by omega) (by omega), nm_e ⟨rfl, ?_⟩⟩⟩) (fun z => by omega)))))
        refine gr_i1 (ch := fun q => if q = p then w else ch q) hG ⟨hOK, he, hL, hal, hxx, hcb, hst, hst', fun q hq => ?_⟩
        rw [cp']
        by_cases c : q = p
        · subst c; rw [pk_us]; dsimp only; rw [if_pos rfl]; exact ⟨rfl, hw⟩
        · rw [pk_un c]; dsimp only; rw [if_neg c]; exact hch q hq
theorem i_vc_wrongWords {k : Nat} {u : SX} {v : SY} (I : i_Rel k u v) (hk : k + 4 ≤ 2052) : wpX_wrongWords (fun r => wpY_wrongWords (fun r' => r' = r ∧ i_Rel (k + 4) u v) v) u := by
  refine I (fun u v => wpX_wrongWords (fun r => wpY_wrongWords (fun r' => r' = r ∧ i_Rel (k + 4) u v) v) u) ?_ ?_
  · intro S db wb D V cp E f_nodeCount f_listSize f_codeCount f_splitCount f_encoder f_messageLength y_codes y_made y_encoder y_places y_nodes a_edgeTarget a_jumpTarget a_good a_nodeBase a_nodeWeight a_arrows a_renumber a_listWord a_listTarget a_seenAt a_seenSum a_alive a_codeBase a_stepWord a_stepTarget a_pairNow a_pairNext a_sentData a_sentWord a_channelWord a_edges a_x a_base a_weight a_number a_arrow a_mark a_list a_sum a_outW a_outS a_at a_pick hG
    exact br_t rfl (br_t rfl ⟨rfl, gr_i0 hG⟩)
  · intro S db wb D V cp C M e L E G W T ch f_nodeCount f_listSize y_nodes a_edgeTarget a_jumpTarget a_good a_nodeBase a_nodeWeight a_arrows a_renumber a_listWord a_listTarget a_seenAt a_seenSum a_alive a_codeBase a_stepWord a_stepTarget a_pairNow a_pairNext a_sentData a_sentWord a_channelWord a_edges a_x a_base a_weight a_number a_arrow a_mark a_list a_sum a_outW a_outS a_at a_pick hG hC
    have hL := hC.2.2.1
    exact br_f (by decide) ⟨L + 1, gl_xw hL (br_f (by decide) ⟨L + 1, gl_yw hL ⟨rfl, gr_i1 hG hC⟩ (L + 1) 0 (by omega) (by omega)⟩) (L + 1) 0 (by omega) (by omega)⟩
theorem i_vc_legalRun {k : Nat} {u : SX} {v : SY} (I : i_Rel k u v) (hk : k + 4 ≤ 2052) (v1 : Int32) : wpX_legalRun (fun r => wpY_legalRun (fun r' => r' = r ∧ i_Rel (k + 4) u v) v v1) u v1 := by
  refine I (fun u v => wpX_legalRun (fun r => wpY_legalRun (fun r' => r' = r ∧ i_Rel (k + 4) u v) v v1) u v1) ?_ ?_
  · intro S db wb D V cp E f_nodeCount f_listSize f_codeCount f_splitCount f_encoder f_messageLength y_codes y_made y_encoder y_places y_nodes a_edgeTarget a_jumpTarget a_good a_nodeBase a_nodeWeight a_arrows a_renumber a_listWord a_listTarget a_seenAt a_seenSum a_alive a_codeBase a_stepWord a_stepTarget a_pairNow a_pairNext a_sentData a_sentWord a_channelWord a_edges a_x a_base a_weight a_number a_arrow a_mark a_list a_sum a_outW a_outS a_at a_pick hG
    exact br_t rfl (br_t rfl ⟨rfl, gr_i0 hG⟩)
  · intro S db wb D V cp C M e L E G W T ch f_nodeCount f_listSize y_nodes a_edgeTarget a_jumpTarget a_good a_nodeBase a_nodeWeight a_arrows a_renumber a_listWord a_listTarget a_seenAt a_seenSum a_alive a_codeBase a_stepWord a_stepTarget a_pairNow a_pairNext a_sentData a_sentWord a_channelWord a_edges a_x a_base a_weight a_number a_arrow a_mark a_list a_sum a_outW a_outS a_at a_pick hG hC
    obtain ⟨hOK, he, hL, hal, hxx, hcb, hst, hst', hch⟩ := id hC
    obtain ⟨⟨hS1, hS⟩, hD, ⟨hw1, hw, hV⟩, hcp, hE, hTX, hJX, hTY, hB, hs0⟩ := id hG
    have hJ : ∀ u w, u < S → (fun u w => ga_j E w wb (u + 1)) u w ≤ S := fun u w hu => ga_jle hE _ _ (by omega)
    refine br_f (by decide) ?_
    by_cases c1 : v1 < 0
    · exact br_t c1 (br_f (by decide) (br_t c1 ⟨rfl, gr_i1 hG hC⟩))
    by_cases c2 : v1 ≤ nI L
    · obtain ⟨p, hp, rfl⟩ := nI_of c1
      have hpL : p ≤ L := (nI_leI hp (by omega)).mp c2
      refine br_f c1 (br_t c2 ⟨S + 1, gl_x28 hS hV hL hpL hJ hJX hch ?_ (S + 1) 0 (by omega) (by omega)⟩)
      exact br_f (by decide) (br_f c1 (br_t c2 ⟨S + 1, gl_y28 hTY hE hS hV hw hL hpL hch ⟨rfl, gr_i1 hG hC⟩ (S + 1) 0 (by omega) (by omega)⟩))
    · exact br_f c1 (br_f c2 (br_f (by decide) (br_f c1 (br_f c2 ⟨rfl, gr_i1 hG hC⟩))))
end
section
/-! the owed statements: decode, errors -/
section GEY
variable {S wb D V cp C M L : Nat} {W T : Nat → Nat → Nat} {ch : Nat → Nat} {f back ahead : Nat} {f_built f_made f_encoder f_nodes : Int32} {a_edges a_x a_base a_weight a_number a_arrow a_mark a_list a_sum a_outW a_outS a_sent a_own a_chan a_at a_pick : Nat → Int32}
theorem ge_y {post : Int32 → SY → Prop} (hb : ¬ f_built = 0) (hOK : gc_OK D V C M W T) (hD : D ≤ 4) (hV : V ≤ 8) (hL : L ≤ 32) (hk : f + back + ahead < L) (hch : ∀ p, p < L → a_chan p = nI (ch p) ∧ ch p < V)
    (hst : ∀ c d, c < C → d < D → a_outW (4 * c + d) = nI (W c d) ∧ a_outS (4 * c + d) = nI (T c d))
    (hp : ∀ r aa pk, gd_A (gd_D C D W T ch f back ahead) r → post r ((nI S), (nI D), (nI wb), (nI V), (nI cp), f_built, (nI C), f_made, f_encoder, (nI L), f_nodes, a_edges, a_x, a_base, a_weight, a_number, a_arrow, a_mark, a_list, a_sum, a_outW, a_outS, a_sent, a_own, a_chan, aa, pk)) : wpY_decode post ((nI S), (nI D), (nI wb), (nI V), (nI cp), f_built, (nI C), f_made, f_encoder, (nI L), f_nodes, a_edges, a_x, a_base, a_weight, a_number, a_arrow, a_mark, a_list, a_sum, a_outW, a_outS, a_sent, a_own, a_chan, a_at, a_pick) (nI (f + back)) (nI back) (nI ahead) := by
  obtain ⟨L', rfl⟩ : ∃ L', L = L' + 1 := ⟨L - 1, by omega⟩
  refine br_f hb (br_f (nI_pos (by omega)) (pk_le (L' + 1) (f + back) (fun z => by omega) (fun _ => br_f (nI_pos (by omega)) (pk_le back 32 (fun _ => br_f (nI_pos (by omega)) (pk_le ahead 32 (fun _ => ?_) (fun z => by omega))) (fun z => by omega)))))
  refine br_f (by rw [pk_sub (by omega)]; exact nI_pos (by omega)) ?_
  refine pk_le (f + back + ahead) L' (fun _ => ⟨C + 1, ?_⟩) (fun z => by omega) (nI_add _ _) (nI_pred L')
  exact gd_74 hOK hD hV (by omega) (fun p hp => hch p (by omega)) hst hp (C + 1) 0 (-9) a_at a_pick (by omega) (by omega) (Or.inl ⟨rfl, fun d ⟨c, h, _⟩ => by omega⟩)
end GEY
theorem ge_of {x : Int32} (h : ¬ x < 0) (h2 : x ≤ 32) : ∃ j : Nat, j ≤ 32 ∧ x = nI j := by
  obtain ⟨j, hj, rfl⟩ := nI_of h
  exact ⟨j, (nI_leI (b := 32) hj (by omega)).mp h2, rfl⟩
theorem i_vc_decode {k : Nat} {u : SX} {v : SY} (I : i_Rel k u v) (hk : k + 4 ≤ 2052) (v1 : Int32) (v2 : Int32) (v3 : Int32) : wpX_decode (fun r => wpY_decode (fun r' v' => r' = r ∧ i_Rel (k + 4) u v') v v1 v2 v3) u v1 v2 v3 := by
  refine I (fun u v => wpX_decode (fun r => wpY_decode (fun r' v' => r' = r ∧ i_Rel (k + 4) u v') v v1 v2 v3) u v1 v2 v3) ?_ ?_
  · intro S db wb D V cp E f_nodeCount f_listSize f_codeCount f_splitCount f_encoder f_messageLength y_codes y_made y_encoder y_places y_nodes a_edgeTarget a_jumpTarget a_good a_nodeBase a_nodeWeight a_arrows a_renumber a_listWord a_listTarget a_seenAt a_seenSum a_alive a_codeBase a_stepWord a_stepTarget a_pairNow a_pairNext a_sentData a_sentWord a_channelWord a_edges a_x a_base a_weight a_number a_arrow a_mark a_list a_sum a_outW a_outS a_at a_pick hG
    exact br_t rfl (br_t rfl ⟨rfl, gr_i0 hG⟩)
  · intro S db wb D V cp C M e L E G W T ch f_nodeCount f_listSize y_nodes a_edgeTarget a_jumpTarget a_good a_nodeBase a_nodeWeight a_arrows a_renumber a_listWord a_listTarget a_seenAt a_seenSum a_alive a_codeBase a_stepWord a_stepTarget a_pairNow a_pairNext a_sentData a_sentWord a_channelWord a_edges a_x a_base a_weight a_number a_arrow a_mark a_list a_sum a_outW a_outS a_at a_pick hG hC
    obtain ⟨hOK, he, hL, hal, hxx, hcb, hst, hst', hch⟩ := id hC
    obtain ⟨⟨hS1, hS⟩, hD, ⟨hw1, hw, hV⟩, hcp, hE, hTX, hJX, hTY, hB, hs0⟩ := id hG
    refine br_f (by decide) ?_
    rcases gr_b (x := v1) (n := L) (by omega) with b | ⟨p, hp, rfl⟩
    · exact gr_ip0 b (br_t rfl (br_f (by decide) (br_c (fun _ => ⟨rfl, gr_i1 hG hC⟩) (fun q => br_t (b.elim (fun z => absurd z q) id) ⟨rfl, gr_i1 hG hC⟩))))
    · have hp0 : ¬ nI p < 0 := nI_pos (by omega)
      have hpL : ¬ nI L ≤ nI p := nI_ge hp (by omega)
      refine gr_ip1 hL hp (br_f (by decide) ?_)
      by_cases c1 : v2 < 0
      · exact br_t c1 (br_f (by decide) (br_f hp0 (br_f hpL (br_t c1 ⟨rfl, gr_i1 hG hC⟩))))
      by_cases c2 : v2 ≤ 32
      · by_cases c3 : v3 < 0
        · exact br_f c1 (br_f (Int32.not_lt.mpr c2) (br_t c3 (br_f (by decide) (br_f hp0 (br_f hpL (br_f c1 (br_t c2 (br_t c3 ⟨rfl, gr_i1 hG hC⟩))))))))
        by_cases c4 : v3 ≤ 32
        · obtain ⟨b, hb, rfl⟩ := ge_of c1 c2
          obtain ⟨a, ha, rfl⟩ := ge_of c3 c4
          refine br_f c1 (br_f (Int32.not_lt.mpr c2) (br_f c3 (br_t c4 ?_)))
          by_cases c5 : p < b
          · have neg := pk_sneg (a := p) (b := b) (by omega) c5
            exact br_t neg (br_f (by decide) (br_f hp0 (br_f hpL (br_f c1 (br_t c2 (br_f c3 (br_t c4 (br_t neg ⟨rfl, gr_i1 hG hC⟩))))))))
          · obtain ⟨f, rfl⟩ : ∃ f, p = f + b := ⟨p - b, by omega⟩
            have nn : ¬ nI (f + b) - nI b < 0 := by rw [pk_sub (by omega)]; exact nI_pos (by omega)
            obtain ⟨L', rfl⟩ : ∃ L', L = L' + 1 := ⟨L - 1, by omega⟩
            refine br_f nn ?_
            by_cases c6 : f + b + a ≤ L'
            · have le : nI (f + b) + nI a ≤ nI (L' + 1) - 1 := by rw [nI_add, nI_pred]; exact nI_le c6 (by omega)
              refine br_t le ?_
              have e1 : nI (f + b) - nI b = nI f := by rw [pk_sub (by omega)]; congr 1; omega
              rw [e1, nI_add]
              refine gd_x hOK (by omega) hV (by omega) (fun q hq => hch q (by omega)) hst fun r hr => ?_
              exact ge_y (by decide) hOK (by omega) hV hL (by omega) hch hst' fun r' aa pk hr' => ⟨gd_Aun hr' hr, gr_i1 hG hC⟩
            · have le : ¬ nI (f + b) + nI a ≤ nI (L' + 1) - 1 := by rw [nI_add, nI_pred]; exact nI_ge (by omega) (by omega)
              exact br_f le (br_f (by decide) (br_f hp0 (br_f hpL (br_f c1 (br_t c2 (br_f c3 (br_t c4 (br_f nn (br_f le ⟨rfl, gr_i1 hG hC⟩)))))))))
        · exact br_f c1 (br_f (Int32.not_lt.mpr c2) (br_f c3 (br_f c4 (br_f (by decide) (br_f hp0 (br_f hpL (br_f c1 (br_t c2 (br_f c3 (br_f c4 ⟨rfl, gr_i1 hG hC⟩))))))))))
      · exact br_f c1 (br_t (Int32.not_le.mp c2) (br_f (by decide) (br_f hp0 (br_f hpL (br_f c1 (br_f c2 ⟨rfl, gr_i1 hG hC⟩))))))
/-! errors -/
theorem gd_Aex (Q : Nat → Prop) : ∃ r, gd_A Q r := by
  by_cases h : ∃ d, Q d
  · obtain ⟨d, hd⟩ := h
    by_cases h2 : ∃ e, Q e ∧ d ≠ e
    · obtain ⟨e, q1, q2⟩ := h2
      exact ⟨-10, Or.inr (Or.inr ⟨rfl, d, e, hd, q1, q2⟩)⟩
    · exact ⟨nI d, Or.inr (Or.inl ⟨d, rfl, hd, fun e q => Classical.byContradiction fun z => h2 ⟨e, q, fun w => z w.symm⟩⟩)⟩
  · exact ⟨-9, Or.inl ⟨rfl, fun d q => h ⟨d, q⟩⟩⟩
def ge_c (rr sd : Nat → Int32) (b : Nat) : Nat → Nat
  | 0 => 0
  | j + 1 => if rr j = sd (j + b) then ge_c rr sd b j else ge_c rr sd b j + 1
theorem ge_cle {rr sd : Nat → Int32} {b : Nat} : ∀ j, ge_c rr sd b j ≤ j := by
  intro j
  induction j with
  | zero => exact Nat.le_refl _
  | succ j ih =>
    show (if rr j = sd (j + b) then ge_c rr sd b j else ge_c rr sd b j + 1) ≤ j + 1
    split <;> omega
theorem ge_s : ∀ L, L < 33 → ∀ M, M < 11 → nI L - 1 - nI M = nI L - nI (1 + M) := by decide +kernel
theorem ge_lm {L M k : Nat} (hL : L ≤ 32) (hM : M ≤ 10) (hk : k ≤ 100) : nI L - 1 - nI M < nI k ↔ L < k + M + 1 := by
  rw [ge_s L (by omega) M (by omega), Int32.lt_iff_toInt_lt, pk_sub_toInt (by omega) (by omega), nI_toInt (by omega)]
  omega
section GEX
variable {S db wb D V cp C M L b : Nat} {W T : Nat → Nat → Nat} {ch : Nat → Nat} {rr : Nat → Int32} {f_nodeCount f_listSize f_built f_encoder : Int32} {a_edgeTarget a_jumpTarget a_good a_nodeBase a_nodeWeight a_arrows a_renumber a_listWord a_listTarget a_seenAt a_seenSum a_alive a_codeBase a_stepWord a_stepTarget a_pairNow a_pairNext a_sentData a_sentWord a_channelWord : Nat → Int32}
theorem ge_28 {post : Int32 → Prop} (hOK : gc_OK D V C M W T) (hD : D ≤ 4) (hV : V ≤ 8) (hL : L ≤ 32) (hb : b ≤ 10) (hch : ∀ p, p < L → a_channelWord p = nI (ch p) ∧ ch p < V)
    (hst : ∀ c d, c < C → d < D → a_stepWord (4 * c + d) = nI (W c d) ∧ a_stepTarget (4 * c + d) = nI (T c d)) (hrr : ∀ f, gd_A (gd_D C D W T ch f b M) (rr f))
    (hp : post (nI (ge_c rr a_sentData b (L - M - b)))) :
    ∀ n j, L - M - b < n + j → j ≤ L - M - b → wX_errors_28 post (nI b) (nI S) (nI db) (nI wb) (nI D) (nI V) (nI cp) f_nodeCount f_listSize f_built (nI C) (nI M) f_encoder (nI L) a_edgeTarget a_jumpTarget a_good a_nodeBase a_nodeWeight a_arrows a_renumber a_listWord a_listTarget a_seenAt a_seenSum a_alive a_codeBase a_stepWord a_stepTarget a_pairNow a_pairNext a_sentData a_sentWord a_channelWord n (nI (ge_c rr a_sentData b j)) (nI (j + b)) := by
  have hM := hOK.1
  intro n
  induction n with
  | zero => intro j z1 z2; omega
  | succ n ih =>
    intro j z1 z2
    have e : ge_c rr a_sentData b (j + 1) = if rr j = a_sentData (j + b) then ge_c rr a_sentData b j else ge_c rr a_sentData b j + 1 := rfl
    by_cases c : L < j + b + M + 1
    · have ej : j = L - M - b := by omega
      subst ej
      exact br_t ((ge_lm hL (by omega) (by omega)).mpr c) hp
    · refine br_f (fun z => c ((ge_lm hL (by omega) (by omega)).mp z)) ?_
      have e1 : nI (j + b) - nI b = nI j := by rw [pk_sub (by omega)]; congr 1; omega
      rw [e1, nI_add]
      refine gd_x hOK hD hV (by omega) (fun q hq => hch q (by omega)) hst fun r hr => ⟨vp_in_nI (by omega) (by omega), ?_⟩
      rw [nI_clamp (by omega), gd_Aun hr (hrr j)]
      have := ih (j + 1) (by omega) (by omega)
      have en : nI (j + b) + 1 = nI (j + 1 + b) := by rw [nI_1]; congr 1; omega
      refine br_c (fun q => nm_r en ?_) (fun q => nm_r (nI_1 _) (nm_r en ?_))
      · rw [e, if_pos q] at this; exact this
      · rw [e, if_neg q] at this; exact this
end GEX
section GEZ
variable {S wb D V cp C M L b : Nat} {W T : Nat → Nat → Nat} {ch : Nat → Nat} {rr : Nat → Int32} {f_built f_encoder f_nodes : Int32} {a_edges a_x a_base a_weight a_number a_arrow a_mark a_list a_sum a_outW a_outS a_sent a_own a_chan a_at a_pick : Nat → Int32}
theorem ge_15 {post : Int32 → SY → Prop} (hbt : ¬ f_built = 0) (hOK : gc_OK D V C M W T) (hD : D ≤ 4) (hV : V ≤ 8) (hL : L ≤ 32) (hb : b ≤ 10) (hch : ∀ p, p < L → a_chan p = nI (ch p) ∧ ch p < V)
    (hst : ∀ c d, c < C → d < D → a_outW (4 * c + d) = nI (W c d) ∧ a_outS (4 * c + d) = nI (T c d)) (hrr : ∀ f, gd_A (gd_D C D W T ch f b M) (rr f))
    (hp : ∀ aa pk, post (nI (ge_c rr a_sent b (L - M - b))) ((nI S), (nI D), (nI wb), (nI V), (nI cp), f_built, (nI C), (nI M), f_encoder, (nI L), f_nodes, a_edges, a_x, a_base, a_weight, a_number, a_arrow, a_mark, a_list, a_sum, a_outW, a_outS, a_sent, a_own, a_chan, aa, pk)) :
    ∀ n j aa pk, L - M - b < n + j → j ≤ L - M - b → wY_errors_15 post (nI b) n (nI (ge_c rr a_sent b j)) (nI (j + b)) (nI S) (nI D) (nI wb) (nI V) (nI cp) f_built (nI C) (nI M) f_encoder (nI L) f_nodes a_edges a_x a_base a_weight a_number a_arrow a_mark a_list a_sum a_outW a_outS a_sent a_own a_chan aa pk := by
  have hM := hOK.1
  intro n
  induction n with
  | zero => intro j aa pk z1 z2; omega
  | succ n ih =>
    intro j aa pk z1 z2
    have e : ge_c rr a_sent b (j + 1) = if rr j = a_sent (j + b) then ge_c rr a_sent b j else ge_c rr a_sent b j + 1 := rfl
    by_cases c : L < j + b + M + 1
    · have ej : j = L - M - b := by omega
      subst ej
      exact br_t ((ge_lm hL (by omega) (by omega)).mpr c) (hp aa pk)
    · refine br_f (fun z => c ((ge_lm hL (by omega) (by omega)).mp z)) ?_
      refine ge_y hbt hOK hD hV hL (by omega) hch hst fun r aa' pk' hr => ⟨vp_in_nI (by omega) (by omega), ?_⟩
      rw [nI_clamp (by omega), gd_Aun hr (hrr j)]
      have := ih (j + 1) aa' pk' (by omega) (by omega)
      have en : nI (j + b) + 1 = nI (j + 1 + b) := by rw [nI_1]; congr 1; omega
      refine br_c (fun q => nm_r en ?_) (fun q => nm_r (nI_1 _) (nm_r en ?_))
      · rw [e, if_pos q] at this; exact this
      · rw [e, if_neg q] at this; exact this
end GEZ
theorem i_vc_errors {k : Nat} {u : SX} {v : SY} (I : i_Rel k u v) (hk : k + 4 ≤ 2052) : wpX_errors (fun r => wpY_errors (fun r' v' => r' = r ∧ i_Rel (k + 4) u v') v) u := by
  refine I (fun u v => wpX_errors (fun r => wpY_errors (fun r' v' => r' = r ∧ i_Rel (k + 4) u v') v) u) ?_ ?_
  · intro S db wb D V cp E f_nodeCount f_listSize f_codeCount f_splitCount f_encoder f_messageLength y_codes y_made y_encoder y_places y_nodes a_edgeTarget a_jumpTarget a_good a_nodeBase a_nodeWeight a_arrows a_renumber a_listWord a_listTarget a_seenAt a_seenSum a_alive a_codeBase a_stepWord a_stepTarget a_pairNow a_pairNext a_sentData a_sentWord a_channelWord a_edges a_x a_base a_weight a_number a_arrow a_mark a_list a_sum a_outW a_outS a_at a_pick hG
    exact br_t rfl (br_t rfl (br_f (by decide) ⟨rfl, gr_i0 hG⟩))
  · intro S db wb D V cp C M e L E G W T ch f_nodeCount f_listSize y_nodes a_edgeTarget a_jumpTarget a_good a_nodeBase a_nodeWeight a_arrows a_renumber a_listWord a_listTarget a_seenAt a_seenSum a_alive a_codeBase a_stepWord a_stepTarget a_pairNow a_pairNext a_sentData a_sentWord a_channelWord a_edges a_x a_base a_weight a_number a_arrow a_mark a_list a_sum a_outW a_outS a_at a_pick hG hC
    obtain ⟨hOK, he, hL, hal, hxx, hcb, hst, hst', hch⟩ := id hC
    obtain ⟨⟨hS1, hS⟩, hD, ⟨hw1, hw, hV⟩, hcp, hE, hTX, hJX, hTY, hB, hs0⟩ := id hG
    have hJ : ∀ u w, u < S → (fun u w => ga_j E w wb (u + 1)) u w ≤ S := fun u w hu => ga_jle hE _ _ (by omega)
    obtain ⟨a, hA⟩ := gm_ex (S := S) (V := V) (J := fun u w => ga_j E w wb (u + 1)) (al := gn_B G)
    refine br_f (by decide) (gm_x (by decide) hS hV hJ hJX hal hA ?_)
    have ev : gm_v a = if a ≤ 10 then nI a else -11 := rfl
    by_cases c : a ≤ 10
    · rw [if_pos c] at ev
      obtain ⟨rr, hrr⟩ := Classical.axiomOfChoice (fun f => gd_Aex (gd_D C D W T ch f a M))
      rw [ev]
      have h11 : ¬ nI a = -11 := fun z => by
        have q := nI_pos (n := a) (by omega)
        rw [z] at q
        exact absurd q (by decide)
      refine br_f h11 ⟨L - M - a + 1, ?_⟩
      have st := ge_28 (rr := rr) (post := fun r => wpY_errors (fun r' v' => r' = r ∧ i_Rel (k + 4) ((nI S), (nI db), (nI wb), (nI D), (nI V), (nI cp), f_nodeCount, f_listSize, 1, (nI C), (nI M), (nI e), (nI L), a_edgeTarget, a_jumpTarget, a_good, a_nodeBase, a_nodeWeight, a_arrows, a_renumber, a_listWord, a_listTarget, a_seenAt, a_seenSum, a_alive, a_codeBase, a_stepWord, a_stepTarget, a_pairNow, a_pairNext, a_sentData, a_sentWord, a_channelWord) v') ((nI S), (nI D), (nI wb), (nI V), (nI cp), 1, (nI C), (nI M), (nI e), (nI L), y_nodes, a_edges, a_x, a_base, a_weight, a_number, a_arrow, a_mark, a_list, a_sum, a_outW, a_outS, a_sentData, a_sentWord, a_channelWord, a_at, a_pick)) (db := db) (wb := wb) (S := S) (cp := cp) (f_nodeCount := f_nodeCount) (f_listSize := f_listSize) (f_built := 1) (f_encoder := nI e) (a_edgeTarget := a_edgeTarget) (a_jumpTarget := a_jumpTarget) (a_good := a_good) (a_nodeBase := a_nodeBase) (a_nodeWeight := a_nodeWeight) (a_arrows := a_arrows) (a_renumber := a_renumber) (a_listWord := a_listWord) (a_listTarget := a_listTarget) (a_seenAt := a_seenAt) (a_seenSum := a_seenSum) (a_alive := a_alive) (a_codeBase := a_codeBase) (a_pairNow := a_pairNow) (a_pairNext := a_pairNext) (a_sentData := a_sentData) (a_sentWord := a_sentWord) hOK (by omega) hV hL c hch hst hrr ?_ (L - M - a + 1) 0 (by omega) (by omega)
      · rw [Nat.zero_add] at st
        exact st
      · unfold wpY_errors
        refine gm_y (by decide) hTY hE hS hV hw hxx fun a' mk hA' => ?_
        have ea : a' = a := gm_un hA' hA
        subst ea
        show (0 ≤ gm_v a' → _) ∧ (¬ 0 ≤ gm_v a' → _)
        rw [ev]
        refine br_t (nI_pos' (by omega)) ⟨L - M - a' + 1, ?_⟩
        have sy := ge_15 (rr := rr) (post := fun r' v' => r' = nI (ge_c rr a_sentData a' (L - M - a')) ∧ i_Rel (k + 4) ((nI S), (nI db), (nI wb), (nI D), (nI V), (nI cp), f_nodeCount, f_listSize, 1, (nI C), (nI M), (nI e), (nI L), a_edgeTarget, a_jumpTarget, a_good, a_nodeBase, a_nodeWeight, a_arrows, a_renumber, a_listWord, a_listTarget, a_seenAt, a_seenSum, a_alive, a_codeBase, a_stepWord, a_stepTarget, a_pairNow, a_pairNext, a_sentData, a_sentWord, a_channelWord) v') (wb := wb) (S := S) (cp := cp) (f_built := 1) (f_encoder := nI e) (f_nodes := y_nodes) (a_edges := a_edges) (a_x := a_x) (a_base := a_base) (a_weight := a_weight) (a_number := a_number) (a_arrow := a_arrow) (a_mark := mk) (a_list := a_list) (a_sum := a_sum) (a_sent := a_sentData) (a_own := a_sentWord) (by decide) hOK (by omega) hV hL c hch hst' hrr (fun aa pk => ⟨rfl, gr_i1 hG hC⟩) (L - M - a' + 1) 0 a_at a_pick (by omega) (by omega)
        rw [Nat.zero_add] at sy
        exact sy
    · rw [if_neg c] at ev
      rw [ev]
      refine br_t rfl ?_
      show wpY_errors _ _
      unfold wpY_errors
      refine gm_y (by decide) hTY hE hS hV hw hxx fun a' mk hA' => ?_
      have ea : a' = a := gm_un hA' hA
      subst ea
      show (0 ≤ gm_v a' → _) ∧ (¬ 0 ≤ gm_v a' → _)
      rw [ev]
      exact br_f (by decide) ⟨rfl, gr_i1 hG hC⟩
end
