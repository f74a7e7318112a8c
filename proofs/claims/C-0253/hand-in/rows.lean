section
theorem pk_us {f : Nat → Int32} {k : Nat} {x : Int32} : upd f k x k = x := if_pos rfl
theorem pk_un {f : Nat → Int32} {k j : Nat} {x : Int32} (h : j ≠ k) : upd f k x j = f j := if_neg h
theorem pk_sub {a b : Nat} (h : b ≤ a) : nI a - nI b = nI (a - b) := by
  obtain ⟨c, rfl⟩ : ∃ c, a = c + b := ⟨a - b, by omega⟩
  rw [← nI_add, Int32.add_sub_cancel, Nat.add_sub_cancel]
theorem pk_m1 (n : Nat) : nI (n + 1) + (-1) = nI n := by
  rw [← nI_1, Int32.add_assoc, show (1 : Int32) + (-1) = 0 from rfl, Int32.add_zero]
theorem pk_mul (a b : Nat) : nI a * nI b = nI (a * b) := (Int32.ofNat_mul a b).symm
theorem pk_div {a d : Nat} (ha : a < 2 ^ 31) (h0 : 0 < d) (hd : d < 2 ^ 31) : nI a / nI d = nI (a / d) := by
  apply Int32.toInt_inj.mp
  rw [lg_idiv_nonneg (by rw [nI_toInt ha]; omega) (by rw [nI_toInt hd]; omega), nI_toInt ha, nI_toInt hd, nI_toInt (Nat.lt_of_le_of_lt (Nat.div_le_self a d) ha)]
  first | rfl | exact (Int.natCast_ediv _ _).symm
theorem pk_rem {a d : Nat} (ha : a < 2 ^ 31) (h0 : 0 < d) (hd : d < 2 ^ 31) : nI a - nI a / nI d * nI d = nI (a % d) := by
  rw [pk_div ha h0 hd, pk_mul, pk_sub (Nat.div_mul_le_self a d)]
  exact congrArg nI (by have := Nat.div_add_mod' a d; omega)
theorem pk_sub_toInt {a b : Nat} (ha : a < 2 ^ 30) (hb : b < 2 ^ 30) : (nI a - nI b).toInt = (a : Int) - b := by
  rw [Int32.toInt_sub, nI_toInt (by omega), nI_toInt (by omega)]
  exact Int.bmod_eq_of_le (by omega) (by omega)
theorem pk_sneg {a b : Nat} (hb : b < 2 ^ 30) (h : a < b) : nI a - nI b < 0 := by
  rw [Int32.lt_iff_toInt_lt, pk_sub_toInt (by omega) hb, show (0 : Int32).toInt = 0 from by decide]
  omega
theorem pk_ix (x : Int32) {n : Nat} (hn : n < 2 ^ 31) : x < 0 ∨ nI n ≤ x ∨ ∃ j : Nat, j < n ∧ x = nI j := by
  by_cases h : x < 0
  · exact Or.inl h
  · obtain ⟨j, hj, rfl⟩ := nI_of h
    by_cases h2 : j < n
    · exact Or.inr (Or.inr ⟨j, h2, rfl⟩)
    · exact Or.inr (Or.inl (nI_le (by omega) hj))
theorem pk_le {x y : Int32} {A B : Prop} (a b : Nat) (f : a ≤ b → A) (g : b < a → B) (hx : x = nI a := by rfl) (hy : y = nI b := by rfl) (ha : a < 2 ^ 31 := by omega) (hb : b < 2 ^ 31 := by omega) : (x ≤ y → A) ∧ (¬ x ≤ y → B) := by
  subst hx hy
  rw [nI_leI ha hb]
  exact ⟨f, fun z => g (by omega)⟩
theorem pk_lt {x y : Int32} {A B : Prop} (a b : Nat) (f : a < b → A) (g : b ≤ a → B) (hx : x = nI a := by rfl) (hy : y = nI b := by rfl) (ha : a < 2 ^ 31 := by omega) (hb : b < 2 ^ 31 := by omega) : (x < y → A) ∧ (¬ x < y → B) := by
  subst hx hy
  rw [nI_ltI ha hb]
  exact ⟨f, fun z => g (by omega)⟩
theorem pk_eq {x y : Int32} {A B : Prop} (a b : Nat) (f : a = b → A) (g : a ≠ b → B) (hx : x = nI a := by rfl) (hy : y = nI b := by rfl) (ha : a < 2 ^ 31 := by omega) (hb : b < 2 ^ 31 := by omega) : (x = y → A) ∧ (¬ x = y → B) := by
  subst hx hy
  rw [nI_eq ha hb]
  exact ⟨f, g⟩
theorem pk_in {x : Int32} (n N : Nat) (h : n < N) (hx : x = nI n := by rfl) (hN : N < 2 ^ 31 := by omega) : vp_in x N := by
  subst hx
  exact vp_in_nI h hN
theorem pk_cl {x : Int32} (n : Nat) (hx : x = nI n := by rfl) (h : n < 2 ^ 31 := by omega) : x.toNatClampNeg = n := by
  subst hx
  exact nI_clamp h
theorem pk_tn {n : Nat} (h : n < 2 ^ 32) : (nI n).toBitVec.toNat = n := Nat.mod_eq_of_lt h
theorem pk_and (x : Int32) {m : Int32} (k : Nat) (hm : m.toBitVec.toNat = 2 ^ k - 1) : x &&& m = nI (x.toBitVec.toNat % 2 ^ k) := by
  apply Int32.toBitVec_inj.mp
  apply BitVec.eq_of_toNat_eq
  rw [Int32.toBitVec_and, BitVec.toNat_and, hm, Nat.and_two_pow_sub_one_eq_mod]
  show _ = (BitVec.ofNat 32 _).toNat
  rw [BitVec.toNat_ofNat]
  exact (Nat.mod_eq_of_lt (Nat.lt_of_le_of_lt (Nat.mod_le _ _) x.toBitVec.isLt)).symm
theorem pk_andN {n : Nat} (h : n < 2 ^ 32) {m : Int32} (k : Nat) (hm : m.toBitVec.toNat = 2 ^ k - 1) : nI n &&& m = nI (n % 2 ^ k) := by
  rw [pk_and _ k hm, pk_tn h]
theorem pk_andE (x : Int32) {m : Int32} (k : Nat) (hm : m.toBitVec.toNat = 2 ^ k - 1) : ∃ j : Nat, j < 2 ^ k ∧ x &&& m = nI j := ⟨_, Nat.mod_lt _ (Nat.two_pow_pos k), pk_and x k hm⟩
theorem pk_andIn (x : Int32) {m : Int32} (k : Nat) (hm : m.toBitVec.toNat = 2 ^ k - 1) (hk : k ≤ 30) : vp_in (x &&& m) (2 ^ k) := by
  obtain ⟨j, hj, e⟩ := pk_andE x k hm
  rw [e]
  exact vp_in_nI hj (Nat.lt_of_le_of_lt (Nat.pow_le_pow_right (by decide) hk) (by decide))
theorem pk_shl (a s : Int32) (k : Nat) (hs : (s.toBitVec.smod 32).toNat = k) : (a <<< s).toBitVec.toNat = a.toBitVec.toNat * 2 ^ k % 2 ^ 32 := by
  show (a.toBitVec <<< (s.toBitVec.smod 32).toNat).toNat = _
  rw [hs, BitVec.toNat_shiftLeft, Nat.shiftLeft_eq]
theorem pk_shlN {n : Nat} (s : Int32) (k : Nat) (hs : (s.toBitVec.smod 32).toNat = k) (h : n * 2 ^ k < 2 ^ 32) : nI n <<< s = nI (n * 2 ^ k) := by
  apply Int32.toBitVec_inj.mp
  apply BitVec.eq_of_toNat_eq
  have hn : n < 2 ^ 32 := Nat.lt_of_le_of_lt (Nat.le_mul_of_pos_right n (Nat.two_pow_pos k)) h
  rw [pk_shl _ _ k hs, pk_tn hn, pk_tn h, Nat.mod_eq_of_lt h]
theorem pk_shr (a s : Int32) (k : Nat) (hs : (s.toBitVec.smod 32).toNat = k) : (a >>> s).toInt = a.toInt >>> k := by
  show (a.toBitVec.sshiftRight (s.toBitVec.smod 32).toNat).toInt = _
  rw [hs, BitVec.toInt_sshiftRight]
  rfl
theorem pk_shrN {n : Nat} (h : n < 2 ^ 31) (s : Int32) (k : Nat) (hs : (s.toBitVec.smod 32).toNat = k) : nI n >>> s = nI (n / 2 ^ k) := by
  apply Int32.toInt_inj.mp
  have h2 : n / 2 ^ k ≤ n := Nat.div_le_self _ _
  rw [pk_shr _ _ k hs, nI_toInt h, nI_toInt (by omega), Int.shiftRight_eq_div_pow]
  rfl
theorem pk_ushr (x s : Int32) (k : Nat) (hs : ((s.toUInt32 &&& Int32.toUInt32 31).toBitVec % 32).toNat = k) : (x.toUInt32 >>> (s.toUInt32 &&& Int32.toUInt32 31)).toInt32.toBitVec.toNat = x.toBitVec.toNat / 2 ^ k := by
  have e : (x.toUInt32 >>> (s.toUInt32 &&& Int32.toUInt32 31)).toInt32.toBitVec = x.toBitVec >>> k := by
    rw [← hs]
    exact UInt32.toBitVec_shiftRight _ _
  rw [e, BitVec.toNat_ushiftRight, Nat.shiftRight_eq_div_pow]
theorem pk_ushrN {n : Nat} (hn : n < 2 ^ 32) (s : Int32) (k : Nat) (hs : ((s.toUInt32 &&& Int32.toUInt32 31).toBitVec % 32).toNat = k) : ((nI n).toUInt32 >>> (s.toUInt32 &&& Int32.toUInt32 31)).toInt32 = nI (n / 2 ^ k) := by
  apply Int32.toBitVec_inj.mp
  apply BitVec.eq_of_toNat_eq
  rw [pk_ushr _ s k hs, pk_tn hn, pk_tn (Nat.lt_of_le_of_lt (Nat.div_le_self _ _) hn)]
/-! ===== Int32 by its bits: bt x i ===== -/
def bt (x : Int32) (i : Nat) : Bool := x.toBitVec.getLsbD i
theorem b_ext {x y : Int32} (h : ∀ i, i < 32 → bt x i = bt y i) : x = y := Int32.toBitVec_inj.mp (BitVec.eq_of_getLsbD_eq (fun i hi => h i hi))
theorem b_or (x y : Int32) (i : Nat) : bt (x ||| y) i = (bt x i || bt y i) := by unfold bt; rw [Int32.toBitVec_or, BitVec.getLsbD_or]
theorem b_and (x y : Int32) (i : Nat) : bt (x &&& y) i = (bt x i && bt y i) := by unfold bt; rw [Int32.toBitVec_and, BitVec.getLsbD_and]
theorem b_xor (x y : Int32) (i : Nat) : bt (x ^^^ y) i = (bt x i ^^ bt y i) := by unfold bt; rw [Int32.toBitVec_xor, BitVec.getLsbD_xor]
theorem b_big {x : Int32} {i : Nat} (h : 32 ≤ i) : bt x i = false := BitVec.getLsbD_of_ge _ _ h
theorem b_255 (i : Nat) : bt 255 i = decide (i < 8) := by
  rcases Nat.lt_or_ge i 32 with h | h
  · exact (by decide +kernel : ∀ i, i < 32 → bt 255 i = decide (i < 8)) i h
  · rw [b_big h, decide_eq_false (by omega)]
theorem b_65535 (i : Nat) : bt 65535 i = decide (i < 16) := by
  rcases Nat.lt_or_ge i 32 with h | h
  · exact (by decide +kernel : ∀ i, i < 32 → bt 65535 i = decide (i < 16)) i h
  · rw [b_big h, decide_eq_false (by omega)]
theorem b_m1 : ∀ i, i < 32 → bt (-1) i = true := by decide +kernel
theorem b_0 (i : Nat) : bt 0 i = false := BitVec.getLsbD_zero
theorem s_l : ∀ n, n < 32 → ((nI n &&& 31).toBitVec.smod 32).toNat = n := by decide +kernel
theorem s_u : ∀ n, n < 32 → (((nI n).toUInt32 &&& Int32.toUInt32 31).toBitVec % 32).toNat = n := by decide +kernel
theorem b_shl (n : Nat) (hn : n < 32) (x : Int32) {i : Nat} (hi : i < 32) : bt (x <<< (nI n &&& 31)) i = (decide (n ≤ i) && bt x (i - n)) := by
  unfold bt
  rw [Int32.toBitVec_shiftLeft]
  show (x.toBitVec <<< ((nI n &&& 31).toBitVec.smod 32).toNat).getLsbD i = _
  rw [s_l n hn, BitVec.getLsbD_shiftLeft]
  rcases Nat.lt_or_ge i n with h | h
  · simp [h, Nat.not_le.mpr h]
  · simp [hi, h, Nat.not_lt.mpr h]
theorem b_ushr (n : Nat) (hn : n < 32) (x : Int32) (i : Nat) : bt ((x.toUInt32 >>> ((nI n).toUInt32 &&& Int32.toUInt32 31)).toInt32) i = bt x (n + i) := by
  show (x.toUInt32 >>> ((nI n).toUInt32 &&& Int32.toUInt32 31)).toBitVec.getLsbD i = x.toUInt32.toBitVec.getLsbD (n + i)
  rw [UInt32.toBitVec_shiftRight]
  show (x.toUInt32.toBitVec >>> (((nI n).toUInt32 &&& Int32.toUInt32 31).toBitVec % 32).toNat).getLsbD i = _
  rw [s_u n hn, BitVec.getLsbD_ushiftRight]
theorem b_sshr (n : Nat) (hn : n < 32) (x : Int32) {i : Nat} (hi : i < 32) : bt (x >>> (nI n &&& 31)) i = if n + i < 32 then bt x (n + i) else bt x 31 := by
  unfold bt
  rw [Int32.toBitVec_shiftRight]
  show (x.toBitVec.sshiftRight ((nI n &&& 31).toBitVec.smod 32).toNat).getLsbD i = _
  rw [s_l n hn, BitVec.getLsbD_sshiftRight, BitVec.msb_eq_getLsbD_last]
  simp [hi]
theorem b_shl8 (x : Int32) {i : Nat} (hi : i < 32) : bt (x <<< ((8 : Int32) &&& 31)) i = (decide (8 ≤ i) && bt x (i - 8)) := b_shl 8 (by omega) x hi
theorem b_shl16 (x : Int32) {i : Nat} (hi : i < 32) : bt (x <<< ((16 : Int32) &&& 31)) i = (decide (16 ≤ i) && bt x (i - 16)) := b_shl 16 (by omega) x hi
theorem b_shl24 (x : Int32) {i : Nat} (hi : i < 32) : bt (x <<< ((24 : Int32) &&& 31)) i = (decide (24 ≤ i) && bt x (i - 24)) := b_shl 24 (by omega) x hi
theorem b_sshr8 (x : Int32) {i : Nat} (hi : i < 32) : bt (x >>> ((8 : Int32) &&& 31)) i = if 8 + i < 32 then bt x (8 + i) else bt x 31 := b_sshr 8 (by omega) x hi
/-! ===== nI under and, xor, >>>, one bit, 65535 ===== -/
theorem nx_and (a b : Nat) : nI a &&& nI b = nI (a &&& b) := by
  apply Int32.toBitVec_inj.1
  show BitVec.ofNat 32 a &&& BitVec.ofNat 32 b = BitVec.ofNat 32 (a &&& b)
  apply BitVec.eq_of_getLsbD_eq
  intro i hi
  simp [hi]
theorem nx_xor (a b : Nat) : nI a ^^^ nI b = nI (a ^^^ b) := by
  apply Int32.toBitVec_inj.1
  show BitVec.ofNat 32 a ^^^ BitVec.ofNat 32 b = BitVec.ofNat 32 (a ^^^ b)
  apply BitVec.eq_of_getLsbD_eq
  intro i hi
  simp [hi]
theorem nx_cnt : ∀ j : Fin 32, (UInt32.ofNat j.val &&& Int32.toUInt32 31).toNat % 32 = j.val := by decide +kernel
theorem nx_ush {k j : Nat} (hk : k < 65536) (hj : j < 32) : ((nI k).toUInt32 >>> ((nI j).toUInt32 &&& Int32.toUInt32 31)).toInt32 = nI (k >>> j) := by
  have hs : k >>> j ≤ k := by
    rw [Nat.shiftRight_eq_div_pow]
    exact Nat.div_le_self _ _
  have e2 : UInt32.ofNat k >>> (UInt32.ofNat j &&& Int32.toUInt32 31) = UInt32.ofNat (k >>> j) := by
    apply UInt32.toNat_inj.1
    have h1 : (UInt32.ofNat k).toNat = k := Nat.mod_eq_of_lt (by omega)
    have h2 : (UInt32.ofNat (k >>> j)).toNat = k >>> j := Nat.mod_eq_of_lt (by omega)
    rw [UInt32.toNat_shiftRight, nx_cnt ⟨j, hj⟩, h1, h2]
  show (UInt32.ofNat k >>> (UInt32.ofNat j &&& Int32.toUInt32 31)).toInt32 = _
  rw [e2]
  rfl
theorem nx_bit {k j : Nat} (hk : k < 65536) (hj : j < 16) : (((nI k).toUInt32 >>> ((nI j).toUInt32 &&& Int32.toUInt32 31)).toInt32 &&& 1) = 0 ↔ k.testBit j = false := by
  rw [nx_ush hk (by omega)]
  show nI (k >>> j) &&& nI 1 = 0 ↔ _
  rw [nx_and, Nat.and_one_is_mod, ← nI_0, nI_eq (by omega) (by omega), Nat.testBit_eq_decide_div_mod_eq, Nat.shiftRight_eq_div_pow, decide_eq_false_iff_not]
  generalize k / 2 ^ j = z
  omega
theorem nx_mod (k : Nat) : nI k &&& 65535 = nI (k % 65536) := by
  show nI k &&& nI 65535 = _
  rw [nx_and, show (65535 : Nat) = 2 ^ 16 - 1 from rfl, Nat.and_two_pow_sub_one_eq_mod]
theorem nx_m16 {k : Nat} (h : k < 65536) : nI k &&& 65535 = nI k := by rw [nx_mod, Nat.mod_eq_of_lt h]
theorem nx_mask (x : Int32) : ∃ k, k < 65536 ∧ x &&& 65535 = nI k := by
  have e : x = nI x.toBitVec.toNat := by
    apply Int32.toBitVec_inj.1
    show x.toBitVec = BitVec.ofNat 32 x.toBitVec.toNat
    simp
  refine ⟨x.toBitVec.toNat % 65536, Nat.mod_lt _ (by omega), ?_⟩
  rw [← nx_mod, ← e]
/-! ===== Int32 as a set of bits: test, set ===== -/
def nf_M (m : Int32) : Nat := 4294967296 - m.toBitVec.toNat
theorem nf_sh : ∀ l, l < 32 → ((1 : Int32) <<< (nI l &&& 31)).toBitVec = BitVec.twoPow 32 l := by decide +kernel
theorem nf_sl : ∀ l, l < 32 → (((nI l).toUInt32 &&& Int32.toUInt32 31).toBitVec % 32).toNat = l := by decide +kernel
theorem nf_tp : ∀ l, l < 32 → BitVec.twoPow 32 l ≠ 0#32 := by decide +kernel
theorem nf_bit (m : Int32) (l : Nat) (hl : l < 32) : ((m.toUInt32 >>> ((nI l).toUInt32 &&& Int32.toUInt32 31)).toInt32 &&& 1) = 0 ↔ (m &&& ((1 : Int32) <<< (nI l &&& 31))) = 0 := by
  have e : ((m.toUInt32 >>> ((nI l).toUInt32 &&& Int32.toUInt32 31)).toInt32).toBitVec = m.toBitVec >>> l := by
    show m.toBitVec >>> (((nI l).toUInt32 &&& Int32.toUInt32 31).toBitVec % 32) = m.toBitVec >>> l
    rw [BitVec.ushiftRight_eq', nf_sl l hl]
  rw [← Int32.toBitVec_inj, ← Int32.toBitVec_inj, Int32.toBitVec_and, Int32.toBitVec_and, nf_sh l hl, e, BitVec.and_twoPow]
  show (m.toBitVec >>> l &&& 1#32) = 0#32 ↔ _ = 0#32
  rw [BitVec.and_one_eq_setWidth_ofBool_getLsbD, BitVec.getLsbD_ushiftRight, Nat.add_zero]
  cases hb : m.toBitVec.getLsbD l
  · exact ⟨fun _ => by simp, fun _ => by decide⟩
  · exact ⟨fun z => absurd z (by decide), fun z => absurd ((if_pos rfl).symm.trans z) (nf_tp l hl)⟩
theorem nf_gr (m k : Int32) (h : m &&& k = 0) (hk : k ≠ 0) : nf_M (m ||| k) < nf_M m := by
  have hm := m.toBitVec.isLt
  have hm' := (m ||| k).toBitVec.isLt
  have h1 : m.toBitVec.toNat ≤ (m ||| k).toBitVec.toNat := by
    rw [Int32.toBitVec_or, BitVec.toNat_or]
    exact Nat.left_le_or
  have h2 : m.toBitVec.toNat ≠ (m ||| k).toBitVec.toNat := by
    intro e
    have e2 : m = m ||| k := Int32.toBitVec_inj.mp (BitVec.eq_of_toNat_eq e)
    apply hk
    apply Int32.toBitVec_inj.mp
    show k.toBitVec = 0#32
    apply BitVec.eq_of_getLsbD_eq
    intro i hi
    have a : m.toBitVec.getLsbD i = (m.toBitVec.getLsbD i || k.toBitVec.getLsbD i) := by rw [← BitVec.getLsbD_or, ← Int32.toBitVec_or, ← e2]
    have b : (m.toBitVec.getLsbD i && k.toBitVec.getLsbD i) = false := by
      rw [← BitVec.getLsbD_and, ← Int32.toBitVec_and, h]
      exact BitVec.getLsbD_zero
    rw [BitVec.getLsbD_zero]
    revert a b
    cases m.toBitVec.getLsbD i <;> cases k.toBitVec.getLsbD i <;> simp
  unfold nf_M
  omega
theorem wb_of32 (x : Int32) : ∃ n, n < 2 ^ 32 ∧ x = nI n := ⟨x.toBitVec.toNat, x.toBitVec.isLt, Int32.toBitVec_inj.mp (by show _ = BitVec.ofNat 32 _; simp)⟩
end
section
/-! ===== counting true places, and segments ===== -/
/-- the number of true places below n -/
def rc_cn (b : Nat → Bool) : Nat → Nat
  | 0 => 0
  | n + 1 => rc_cn b n + (b n).toNat
theorem rc_cn0 (b : Nat → Bool) : rc_cn b 0 = 0 := rfl
theorem rc_cnS (b : Nat → Bool) (n : Nat) : rc_cn b (n + 1) = rc_cn b n + (b n).toNat := rfl
theorem rc_cnT {b : Nat → Bool} {n : Nat} (h : b n = true) : rc_cn b (n + 1) = rc_cn b n + 1 := by rw [rc_cnS, h]; rfl
theorem rc_cnF {b : Nat → Bool} {n : Nat} (h : b n = false) : rc_cn b (n + 1) = rc_cn b n := by rw [rc_cnS, h]; rfl
theorem rc_cn_le (b : Nat → Bool) (n : Nat) : rc_cn b n ≤ n := by
  induction n with
  | zero => exact Nat.le_refl 0
  | succ n ih => rw [rc_cnS]; have := Bool.toNat_le (b n); omega
theorem rc_cn_mono (b : Nat → Bool) {m n : Nat} (h : m ≤ n) : rc_cn b m ≤ rc_cn b n := by
  induction n with
  | zero =>
    have e : m = 0 := by omega
    subst e; exact Nat.le_refl _
  | succ n ih =>
    rcases Nat.lt_or_ge n m with h2 | h2
    · have e : m = n + 1 := by omega
      subst e; exact Nat.le_refl _
    · have := ih h2
      rw [rc_cnS]; omega
theorem rc_cn_add (b : Nat → Bool) (m n : Nat) : rc_cn b (m + n) = rc_cn b m + rc_cn (fun x => b (m + x)) n := by
  induction n with
  | zero => rfl
  | succ n ih => rw [← Nat.add_assoc, rc_cnS, rc_cnS, ih, Nat.add_assoc]
theorem rc_cn_ext {b c : Nat → Bool} {n : Nat} (h : ∀ x, x < n → b x = c x) : rc_cn b n = rc_cn c n := by
  induction n with
  | zero => rfl
  | succ n ih => rw [rc_cnS, rc_cnS, ih (fun x hx => h x (by omega)), h n (by omega)]
theorem rc_cn_f {b : Nat → Bool} {m : Nat} (d : Nat) (h : ∀ y, m ≤ y → y < m + d → b y = false) : rc_cn b (m + d) = rc_cn b m := by
  induction d with
  | zero => rfl
  | succ d ih => rw [← Nat.add_assoc, rc_cnF (h (m + d) (by omega) (by omega)), ih (fun y h1 h2 => h y h1 (by omega))]
theorem rc_cn_t {b : Nat → Bool} {m : Nat} (d : Nat) (h : ∀ y, m ≤ y → y < m + d → b y = true) : rc_cn b (m + d) = rc_cn b m + d := by
  induction d with
  | zero => rfl
  | succ d ih => rw [← Nat.add_assoc, rc_cnT (h (m + d) (by omega) (by omega)), ih (fun y h1 h2 => h y h1 (by omega)), Nat.add_assoc]
theorem rc_cn_fr {b : Nat → Bool} {m n : Nat} (hmn : m ≤ n) (h : ∀ y, m ≤ y → y < n → b y = false) : rc_cn b n = rc_cn b m := by
  obtain ⟨d, rfl⟩ : ∃ d, n = m + d := ⟨n - m, by omega⟩
  exact rc_cn_f d h
theorem rc_cn_tr {b : Nat → Bool} {m n : Nat} (hmn : m ≤ n) (h : ∀ y, m ≤ y → y < n → b y = true) : rc_cn b n = rc_cn b m + (n - m) := by
  obtain ⟨d, rfl⟩ : ∃ d, n = m + d := ⟨n - m, by omega⟩
  rw [rc_cn_t d h, Nat.add_sub_cancel_left]
theorem rc_cn_lt {b : Nat → Bool} {x n : Nat} (h : b x = true) (hx : x < n) : rc_cn b x < rc_cn b n := by
  have := rc_cn_mono b (show x + 1 ≤ n from hx)
  rw [rc_cnT h] at this; omega
theorem rc_cn_inj {b : Nat → Bool} {x y : Nat} (hx : b x = true) (hy : b y = true) (h : rc_cn b x = rc_cn b y) : x = y := by
  rcases Nat.lt_trichotomy x y with z | z | z
  · have := rc_cn_lt hx z; omega
  · exact z
  · have := rc_cn_lt hy z; omega
/-- the start of a run -/
def rc_st (b : Nat → Bool) (x : Nat) : Bool := b x && (decide (x = 0) || !b (x - 1))
theorem rc_nt {x : Bool} (h : ¬ x = true) : x = false := by cases x <;> first | rfl | exact absurd rfl h
theorem rc_nf {x : Bool} (h : ¬ x = false) : x = true := by cases x <;> first | rfl | exact absurd rfl h
/-- b below x, by n segments: false from E i to st i, true from st i to E (i + 1), false from E n on -/
def rc_Sg (b : Nat → Bool) (n : Nat) (st E : Nat → Nat) (x : Nat) : Prop :=
  E 0 = 0 ∧ (∀ i, i < n → E i ≤ st i ∧ st i < E (i + 1) ∧ E (i + 1) ≤ x ∧ (∀ y, E i ≤ y → y < st i → b y = false) ∧ (∀ y, st i ≤ y → y < E (i + 1) → b y = true)) ∧ (∀ y, E n ≤ y → y < x → b y = false)
section
variable {b : Nat → Bool} {n x : Nat} {st E : Nat → Nat}
theorem rc_Sg_E (S : rc_Sg b n st E x) {i : Nat} (hi : i ≤ n) : E i ≤ x := by
  cases i with
  | zero => rw [S.1]; exact Nat.zero_le _
  | succ i => exact (S.2.1 i hi).2.2.1
theorem rc_Sg_0 (b : Nat → Bool) (st : Nat → Nat) : rc_Sg b 0 st (fun _ => 0) 0 :=
  ⟨rfl, fun i hi => absurd hi (Nat.not_lt_zero i), fun y _ hy => absurd hy (Nat.not_lt_zero y)⟩
theorem rc_Sg_skip (S : rc_Sg b n st E x) (hb : b x = false) : rc_Sg b n st E (x + 1) := by
  refine ⟨S.1, fun i hi => ?_, fun y h1 h2 => ?_⟩
  · obtain ⟨a1, a2, a3, a4, a5⟩ := S.2.1 i hi
    exact ⟨a1, a2, by omega, a4, a5⟩
  · rcases Nat.lt_or_ge y x with h | h
    · exact S.2.2 y h1 h
    · have e : y = x := by omega
      rw [e]; exact hb
theorem rc_Sg_push (S : rc_Sg b n st E x) (hb : b x = true) : rc_Sg b (n + 1) (fun i => if i = n then x else st i) (fun i => if i = n + 1 then x + 1 else E i) (x + 1) := by
  have hE := rc_Sg_E S (Nat.le_refl n)
  refine ⟨?_, fun i hi => ?_, fun y h1 h2 => ?_⟩
  · show (if 0 = n + 1 then x + 1 else E 0) = 0
    rw [if_neg (by omega)]; exact S.1
  · show (if i = n + 1 then x + 1 else E i) ≤ (if i = n then x else st i) ∧ (if i = n then x else st i) < (if i + 1 = n + 1 then x + 1 else E (i + 1)) ∧ (if i + 1 = n + 1 then x + 1 else E (i + 1)) ≤ x + 1 ∧ (∀ y, (if i = n + 1 then x + 1 else E i) ≤ y → y < (if i = n then x else st i) → b y = false) ∧ (∀ y, (if i = n then x else st i) ≤ y → y < (if i + 1 = n + 1 then x + 1 else E (i + 1)) → b y = true)
    rw [if_neg (show ¬ i = n + 1 by omega)]
    rcases Nat.lt_or_ge i n with h | h
    · rw [if_neg (show ¬ i = n by omega), if_neg (show ¬ i + 1 = n + 1 by omega)]
      obtain ⟨a1, a2, a3, a4, a5⟩ := S.2.1 i h
      exact ⟨a1, a2, by omega, a4, a5⟩
    · have e : i = n := by omega
      subst e
      rw [if_pos rfl, if_pos rfl]
      refine ⟨hE, by omega, by omega, fun y h1 h2 => S.2.2 y h1 h2, fun y h1 h2 => ?_⟩
      have e : y = x := by omega
      rw [e]; exact hb
  · have h3 : x + 1 ≤ y := by
      have h4 : (if n + 1 = n + 1 then x + 1 else E (n + 1)) ≤ y := h1
      rw [if_pos rfl] at h4; exact h4
    omega
theorem rc_Sg_last (S : rc_Sg b n st E x) (h0 : 0 < x) (hb : b (x - 1) = true) : E n = x ∧ 0 < n := by
  have hE := rc_Sg_E S (Nat.le_refl n)
  have h1 : E n = x := by
    rcases Nat.lt_or_ge (E n) x with h | h
    · have := S.2.2 (x - 1) (by omega) (by omega)
      rw [hb] at this; exact absurd this (by decide)
    · omega
  refine ⟨h1, ?_⟩
  rcases Nat.eq_zero_or_pos n with h | h
  · subst h
    have := S.1; omega
  · exact h
theorem rc_Sg_ext (S : rc_Sg b n st E x) (hb : b x = true) (h0 : 0 < x) (hp : b (x - 1) = true) : rc_Sg b n st (fun i => if i = n then x + 1 else E i) (x + 1) := by
  obtain ⟨hE, hn⟩ := rc_Sg_last S h0 hp
  refine ⟨?_, fun i hi => ?_, fun y h1 h2 => ?_⟩
  · show (if 0 = n then x + 1 else E 0) = 0
    rw [if_neg (by omega)]; exact S.1
  · show (if i = n then x + 1 else E i) ≤ st i ∧ st i < (if i + 1 = n then x + 1 else E (i + 1)) ∧ (if i + 1 = n then x + 1 else E (i + 1)) ≤ x + 1 ∧ (∀ y, (if i = n then x + 1 else E i) ≤ y → y < st i → b y = false) ∧ (∀ y, st i ≤ y → y < (if i + 1 = n then x + 1 else E (i + 1)) → b y = true)
    rw [if_neg (show ¬ i = n by omega)]
    obtain ⟨a1, a2, a3, a4, a5⟩ := S.2.1 i hi
    rcases Nat.lt_or_ge (i + 1) n with h | h
    · rw [if_neg (show ¬ i + 1 = n by omega)]
      exact ⟨a1, a2, by omega, a4, a5⟩
    · have e : i + 1 = n := by omega
      rw [if_pos e]
      rw [e] at a2 a3 a5
      refine ⟨a1, by omega, by omega, a4, fun y h1 h2 => ?_⟩
      rcases Nat.lt_or_ge y x with h3 | h3
      · exact a5 y h1 (by omega)
      · have e : y = x := by omega
        rw [e]; exact hb
  · have h4 : (if n = n then x + 1 else E n) ≤ y := h1
    rw [if_pos rfl] at h4
    omega
theorem rc_Sg_congr {c : Nat → Bool} (h : ∀ y, y < x → b y = c y) (S : rc_Sg b n st E x) : rc_Sg c n st E x := by
  refine ⟨S.1, fun i hi => ?_, fun y h1 h2 => ?_⟩
  · obtain ⟨a1, a2, a3, a4, a5⟩ := S.2.1 i hi
    exact ⟨a1, a2, a3, fun y h1 h2 => by rw [← h y (by omega)]; exact a4 y h1 h2, fun y h1 h2 => by rw [← h y (by omega)]; exact a5 y h1 h2⟩
  · rw [← h y h2]; exact S.2.2 y h1 h2
theorem rc_Sg_step (S : rc_Sg b n st E x) {i y : Nat} (hi : i < n) : (b y && decide (y < E (i + 1))) = ((b y && decide (y < E i)) || (decide (st i ≤ y) && decide (y < E (i + 1)))) := by
  obtain ⟨a1, a2, a3, a4, a5⟩ := S.2.1 i hi
  rcases Nat.lt_or_ge y (E i) with h | h
  · rw [decide_eq_true (show y < E (i + 1) by omega), decide_eq_true h, decide_eq_false (show ¬ st i ≤ y by omega)]
    cases b y <;> rfl
  · rw [decide_eq_false (show ¬ y < E i by omega)]
    rcases Nat.lt_or_ge y (st i) with h2 | h2
    · rw [a4 y h h2, decide_eq_false (show ¬ st i ≤ y by omega)]; rfl
    · rw [decide_eq_true h2]
      rcases Nat.lt_or_ge y (E (i + 1)) with h3 | h3
      · rw [a5 y h2 h3]; rfl
      · rw [decide_eq_false (show ¬ y < E (i + 1) by omega)]; cases b y <;> rfl
theorem rc_Sg_fin (S : rc_Sg b n st E x) {y : Nat} (hy : y < x) : (b y && decide (y < E n)) = b y := by
  rcases Nat.lt_or_ge y (E n) with h | h
  · rw [decide_eq_true h]; cases b y <;> rfl
  · rw [S.2.2 y h hy]; rfl
theorem rc_Sg_c0 (S : rc_Sg b n st E x) {i y : Nat} (hi : i < n) (h1 : E i ≤ y) (h2 : y ≤ st i) : rc_cn b y = rc_cn b (E i) :=
  rc_cn_fr h1 (fun z h3 h4 => (S.2.1 i hi).2.2.2.1 z h3 (by omega))
theorem rc_Sg_c1 (S : rc_Sg b n st E x) {i y : Nat} (hi : i < n) (h1 : st i ≤ y) (h2 : y ≤ E (i + 1)) : rc_cn b y = rc_cn b (E i) + (y - st i) := by
  rw [← rc_Sg_c0 S hi (S.2.1 i hi).1 (Nat.le_refl _)]
  exact rc_cn_tr h1 (fun z h3 h4 => (S.2.1 i hi).2.2.2.2 z h3 (by omega))
theorem rc_Sg_c2 (S : rc_Sg b n st E x) {y : Nat} (h1 : E n ≤ y) (h2 : y ≤ x) : rc_cn b y = rc_cn b (E n) :=
  rc_cn_fr h1 (fun z h3 h4 => S.2.2 z h3 (by omega))
theorem rc_Sg_mono (S : rc_Sg b n st E x) {j : Nat} (hj : j ≤ n) : ∀ d i, i + d = j → E i ≤ E j := by
  intro d
  induction d with
  | zero => intro i e; have e2 : i = j := by omega
            rw [e2]; exact Nat.le_refl _
  | succ d ih =>
    intro i e
    have := ih (i + 1) (by omega)
    have h := S.2.1 i (by omega)
    omega
theorem rc_Sg_li (S : rc_Sg b n st E x) (hs : ∀ i, i < n → E (i + 1) = st i + 1) : ∀ i, i ≤ n → rc_cn b (E i) = i := by
  intro i
  induction i with
  | zero => intro _; rw [S.1]; rfl
  | succ i ih =>
    intro hi
    rw [rc_Sg_c1 S hi (by have := S.2.1 i hi; omega) (Nat.le_refl _), ih (by omega), hs i hi]
    omega
end
end
section
/-! ===== bits: one bit, words, masks, the count of ones ===== -/
theorem rc_bit1 : ∀ i, i < 32 → bt 1 i = decide (i = 0) := by decide +kernel
theorem rc_sh1 (l : Nat) (hl : l < 32) (i : Nat) : bt ((1 : Int32) <<< (nI l &&& 31)) i = decide (i = l) := by
  unfold bt
  rw [nf_sh l hl, BitVec.getLsbD_twoPow]
  by_cases h : i = l
  · subst h; simp [hl]
  · have h2 : ¬ l = i := fun e => h e.symm
    simp [h, h2]
theorem rc_tst (w : Int32) (l : Nat) (hl : l < 32) : ((w.toUInt32 >>> ((nI l).toUInt32 &&& Int32.toUInt32 31)).toInt32 &&& 1) = 1 ↔ bt w l = true := by
  have h0 : bt ((w.toUInt32 >>> ((nI l).toUInt32 &&& Int32.toUInt32 31)).toInt32) 0 = bt w l := b_ushr l hl w 0
  have e1 : bt 1 0 = true := by decide +kernel
  constructor
  · intro h
    have t : bt ((w.toUInt32 >>> ((nI l).toUInt32 &&& Int32.toUInt32 31)).toInt32 &&& 1) 0 = bt 1 0 := by rw [h]
    rw [b_and, h0, e1, Bool.and_true] at t
    exact t
  · intro h
    apply b_ext
    intro i hi
    rw [b_and, rc_bit1 i hi]
    by_cases z : i = 0
    · subst z; rw [h0, h]; rfl
    · rw [decide_eq_false z, Bool.and_false]
theorem rc_m2 (a : Nat) : 2 * nI a = nI (2 * a) := pk_mul 2 a
theorem rc_m4 (a : Nat) : 4 * nI a = nI (4 * a) := pk_mul 4 a
theorem rc_m8 (a : Nat) : 8 * nI a = nI (8 * a) := pk_mul 8 a
theorem rc_m32 (a : Nat) : 32 * nI a = nI (32 * a) := pk_mul 32 a
theorem rc_m128 (a : Nat) : 128 * nI a = nI (128 * a) := pk_mul 128 a
theorem rc_m512 (a : Nat) : 512 * nI a = nI (512 * a) := pk_mul 512 a
theorem rc_a128 (a : Nat) : nI a + 128 = nI (a + 128) := nI_add a 128
theorem rc_a4 (a : Nat) : nI a + 4 = nI (a + 4) := nI_add a 4
theorem rc_4a (a : Nat) : 4 + nI a = nI (4 + a) := nI_add 4 a
theorem rc_s1 {a : Nat} (h : 1 ≤ a) : nI a - 1 = nI (a - 1) := pk_sub h
theorem rc_shr5 {a : Nat} (h : a < 2 ^ 31) : nI a >>> ((5 : Int32) &&& 31) = nI (a / 32) := pk_shrN h _ 5 (by decide)
theorem rc_shr7 {a : Nat} (h : a < 2 ^ 31) : nI a >>> ((7 : Int32) &&& 31) = nI (a / 128) := pk_shrN h _ 7 (by decide)
theorem rc_and31 {a : Nat} (h : a < 2 ^ 32) : nI a &&& 31 = nI (a % 32) := pk_andN h 5 (by decide)
theorem rc_and127 {a : Nat} (h : a < 2 ^ 32) : nI a &&& 127 = nI (a % 128) := pk_andN h 7 (by decide)
theorem rc_le4 {a : Nat} (h : a < 2 ^ 31) : (4 ≤ nI a) ↔ 4 ≤ a := nI_leI (a := 4) (by omega) h
theorem rc_le16 {a : Nat} (h : a < 2 ^ 31) : (16 ≤ nI a) ↔ 16 ≤ a := nI_leI (a := 16) (by omega) h
theorem rc_le128 {a : Nat} (h : a < 2 ^ 31) : (128 ≤ nI a) ↔ 128 ≤ a := nI_leI (a := 128) (by omega) h
theorem rc_le512 {a : Nat} (h : a < 2 ^ 31) : (512 ≤ nI a) ↔ 512 ≤ a := nI_leI (a := 512) (by omega) h
theorem rc_le511 {a : Nat} (h : a < 2 ^ 31) : (511 ≤ nI a) ↔ 511 ≤ a := nI_leI (a := 511) (by omega) h
theorem rc_lt511 {a : Nat} (h : a < 2 ^ 31) : (511 < nI a) ↔ 511 < a := nI_ltI (a := 511) (by omega) h
theorem rc_lt2 {a : Nat} (h : a < 2 ^ 31) : (2 < nI a) ↔ 2 < a := nI_ltI (a := 2) (by omega) h
theorem rc_lt4 {a : Nat} (h : a < 2 ^ 31) : (4 < nI a) ↔ 4 < a := nI_ltI (a := 4) (by omega) h
theorem rc_lt8 {a : Nat} (h : a < 2 ^ 31) : (8 < nI a) ↔ 8 < a := nI_ltI (a := 8) (by omega) h
theorem rc_l128 {a : Nat} (h : a < 2 ^ 31) : (nI a < 128) ↔ a < 128 := nI_ltI (b := 128) h (by omega)
theorem rc_l511 {a : Nat} (h : a < 2 ^ 31) : (nI a < 511) ↔ a < 511 := nI_ltI (b := 511) h (by omega)
theorem rc_l0 {a : Nat} (h : a < 2 ^ 31) : (nI a < 0) ↔ False := ⟨fun z => nI_pos h z, False.elim⟩
theorem rc_e0 {a : Nat} (h : a < 2 ^ 31) : (nI a = 0) ↔ a = 0 := nI_eq (b := 0) h (by omega)
theorem rc_e1 {a : Nat} (h : a < 2 ^ 31) : (nI a = 1) ↔ a = 1 := nI_eq (b := 1) h (by omega)
/-- bit y of the map whose words stand from o on -/
def rc_bo (w : Nat → Int32) (o y : Nat) : Bool := bt (w (o + y / 32)) (y % 32)
theorem rc_bo_upd (w : Nat → Int32) (o j : Nat) (v : Int32) (y : Nat) : rc_bo (upd w (o + j) v) o y = if y / 32 = j then bt v (y % 32) else rc_bo w o y := by
  unfold rc_bo upd
  by_cases h : y / 32 = j
  · rw [if_pos h, if_pos (by omega)]
  · rw [if_neg h, if_neg (by omega)]
theorem rc_bo_set (w : Nat → Int32) (o x y : Nat) : rc_bo (upd w (o + x / 32) (w (o + x / 32) ||| ((1 : Int32) <<< nI (x % 32 % 32)))) o y = (rc_bo w o y || decide (y = x)) := by
  rw [← rc_and31 (a := x % 32) (by omega), rc_bo_upd]
  by_cases h : y / 32 = x / 32
  · rw [if_pos h, b_or, rc_sh1 _ (by omega)]
    unfold rc_bo
    rw [h]
    by_cases e : y = x
    · rw [decide_eq_true (show y % 32 = x % 32 by omega), decide_eq_true e]
    · rw [decide_eq_false (show ¬ y % 32 = x % 32 by omega), decide_eq_false e]
  · rw [if_neg h, decide_eq_false (show ¬ y = x by omega), Bool.or_false]
theorem rc_bo_ne (w : Nat → Int32) (o j : Nat) (v : Int32) (y : Nat) (h : ¬ j = o + y / 32) : rc_bo (upd w j v) o y = rc_bo w o y := by
  unfold rc_bo upd
  rw [if_neg (fun e => h e.symm)]
/-! the mask -/
theorem rc_hi : ∀ j, j < 31 → ∀ i, i < 32 → bt (((2 : Int32) <<< (nI j &&& 31)) - 1) i = decide (i ≤ j) := by decide +kernel
theorem rc_lo : ∀ j, j < 32 → ∀ i, i < 32 → bt ((((1 : Int32) <<< (nI j &&& 31)) - 1) ^^^ (-1)) i = decide (j ≤ i) := by decide +kernel
theorem rc_lo0 : ∀ i, i < 32 → bt ((0 : Int32) ^^^ (-1)) i = true := by decide +kernel
theorem rc_mask {post : Int32 → Prop} (f t : Int32) (h0 : 0 ≤ t.toInt) (h1 : f.toInt ≤ 31)
    (h : ∀ m, (∀ i, i < 32 → bt m i = (decide (f.toInt ≤ (i : Int)) && decide ((i : Int) ≤ t.toInt))) → post m) : wpX_maskOf post f t := by
  have z0 : (0 : Int32).toInt = 0 := by decide
  have z31 : (31 : Int32).toInt = 31 := by decide
  have K : ∀ z : Int32, (∀ i, i < 32 → bt z i = decide ((i : Int) ≤ t.toInt)) → wX_maskOf_15 post f z := by
    intro z hz
    by_cases c : (0 : Int32) < f
    · have c2 := c
      rw [Int32.lt_iff_toInt_lt, z0] at c2
      obtain ⟨j, hj, rfl⟩ := nI_of (x := f) (by rw [Int32.lt_iff_toInt_lt, z0]; omega)
      rw [nI_toInt hj] at h1 h
      refine br_t c (nm_e (h _ ?_))
      intro i hi
      rw [b_and, hz i hi, rc_lo j (by omega) i hi, Bool.and_comm]
      congr 1
      exact decide_eq_decide.mpr (by omega)
    · refine br_f c (h _ ?_)
      rw [Int32.lt_iff_toInt_lt, z0] at c
      intro i hi
      rw [b_and, hz i hi, rc_lo0 i hi, Bool.and_comm, decide_eq_true (show f.toInt ≤ (i : Int) by omega)]
  by_cases c : t < 31
  · have c2 := c
    rw [Int32.lt_iff_toInt_lt, z31] at c2
    obtain ⟨j, hj, rfl⟩ := nI_of (x := t) (by rw [Int32.lt_iff_toInt_lt, z0]; omega)
    rw [nI_toInt hj] at c2 K
    refine br_t c (K _ ?_)
    intro i hi
    rw [rc_hi j (by omega) i hi]
    exact decide_eq_decide.mpr (by omega)
  · refine br_f c (K _ ?_)
    rw [Int32.lt_iff_toInt_lt, z31] at c
    intro i hi
    rw [b_m1 i hi, decide_eq_true (by omega)]
/-- the mask of the places s .. e as far as they lie in word w -/
theorem rc_maskN {post : Int32 → Prop} {s e w : Nat} (hs : s < 32 * w + 32) (he : 32 * w ≤ e) (h2 : e < 4096)
    (h : ∀ m, (∀ i, i < 32 → bt m i = (decide (s ≤ 32 * w + i) && decide (32 * w + i ≤ e))) → post m) : wpX_maskOf post (nI s - nI (32 * w)) (nI e - nI (32 * w)) := by
  have e1 : (nI s - nI (32 * w)).toInt = (s : Int) - ((32 * w : Nat) : Int) := pk_sub_toInt (by omega) (by omega)
  have e2 : (nI e - nI (32 * w)).toInt = (e : Int) - ((32 * w : Nat) : Int) := pk_sub_toInt (by omega) (by omega)
  refine rc_mask _ _ (by rw [e2]; omega) (by rw [e1]; omega) ?_
  intro m hm
  refine h m (fun i hi => ?_)
  rw [hm i hi, e1, e2]
  congr 1 <;> exact decide_eq_decide.mpr (by omega)
/-! ones -/
theorem rc_land (a b m n : Nat) (ha : a < 256) (hm : m < 256) : (a + 256 * b) &&& (m + 256 * n) = (a &&& m) + 256 * (b &&& n) := by
  have h1 : ((a + 256 * b) &&& (m + 256 * n)) % 2 ^ 8 = ((a + 256 * b) % 2 ^ 8) &&& ((m + 256 * n) % 2 ^ 8) := Nat.and_mod_two_pow
  have h2 : ((a + 256 * b) &&& (m + 256 * n)) / 2 ^ 8 = ((a + 256 * b) / 2 ^ 8) &&& ((m + 256 * n) / 2 ^ 8) := Nat.and_div_two_pow
  rw [show (a + 256 * b) % 2 ^ 8 = a by omega, show (m + 256 * n) % 2 ^ 8 = m by omega] at h1
  rw [show (a + 256 * b) / 2 ^ 8 = b by omega, show (m + 256 * n) / 2 ^ 8 = n by omega] at h2
  have h3 := Nat.div_add_mod ((a + 256 * b) &&& (m + 256 * n)) (2 ^ 8)
  rw [h1, h2] at h3
  omega
def rc_F1 (m w : Nat) : Nat := w - ((w / 2) &&& m)
def rc_F2 (m w : Nat) : Nat := (w &&& m) + ((w / 4) &&& m)
def rc_F3 (m w : Nat) : Nat := (w + w / 16) &&& m
theorem rc_t1 : ∀ a, a < 256 → ∀ t, t < 2 → (a / 2 + 128 * t) &&& 85 = (a / 2) &&& 85 := by decide +kernel
theorem rc_t2 : ∀ a, a < 256 → ∀ t, t < 4 → (a / 4 + 64 * t) &&& 51 = (a / 4) &&& 51 := by decide +kernel
theorem rc_t3 : ∀ a, a < 69 → ∀ t, t < 5 → (a + a / 16 + 16 * t) &&& 15 = (a + a / 16) &&& 15 := by decide +kernel
theorem rc_F1b (a m v : Nat) (ha : a < 256) : rc_F1 (85 + 256 * m) (a + 256 * v) = rc_F1 85 a + 256 * rc_F1 m v := by
  unfold rc_F1
  rw [show (a + 256 * v) / 2 = (a / 2 + 128 * (v % 2)) + 256 * (v / 2) by omega, rc_land _ _ _ _ (by omega) (by omega), rc_t1 a ha _ (by omega)]
  have h1 : (a / 2) &&& 85 ≤ a / 2 := Nat.and_le_left
  have h2 : (v / 2) &&& m ≤ v / 2 := Nat.and_le_left
  omega
theorem rc_F2b (a m v : Nat) (ha : a < 256) : rc_F2 (51 + 256 * m) (a + 256 * v) = rc_F2 51 a + 256 * rc_F2 m v := by
  unfold rc_F2
  rw [show (a + 256 * v) / 4 = (a / 4 + 64 * (v % 4)) + 256 * (v / 4) by omega, rc_land _ _ _ _ ha (by omega), rc_land _ _ _ _ (by omega) (by omega), rc_t2 a ha _ (by omega)]
  omega
theorem rc_F3b (a m v : Nat) (ha : a < 69) (hv : v % 16 < 5) : rc_F3 (15 + 256 * m) (a + 256 * v) = rc_F3 15 a + 256 * rc_F3 m v := by
  unfold rc_F3
  rw [show a + 256 * v + (a + 256 * v) / 16 = (a + a / 16 + 16 * (v % 16)) + 256 * (v + v / 16) by omega, rc_land _ _ _ _ (by omega) (by omega), rc_t3 a ha _ hv]
theorem rc_p1 : ∀ a, a < 256 → rc_F1 85 a < 256 ∧ rc_F2 51 (rc_F1 85 a) < 69 ∧ rc_F2 51 (rc_F1 85 a) % 16 < 5 ∧ rc_F3 15 (rc_F2 51 (rc_F1 85 a)) = rc_cn a.testBit 8 := by decide +kernel
theorem rc_tb (a v n : Nat) (ha : a < 256) : rc_cn (a + 256 * v).testBit (8 + n) = rc_cn a.testBit 8 + rc_cn v.testBit n := by
  rw [rc_cn_add]
  congr 1
  · apply rc_cn_ext
    intro x hx
    have e : a = (a + 256 * v) % 2 ^ 8 := by omega
    have t := Nat.testBit_mod_two_pow (a + 256 * v) 8 x
    rw [← e, decide_eq_true hx, Bool.true_and] at t
    exact t.symm
  · apply rc_cn_ext
    intro x hx
    have e : v = (a + 256 * v) / 2 ^ 8 := by omega
    have t := Nat.testBit_div_two_pow (n := 8) (a + 256 * v) x
    show (a + 256 * v).testBit (8 + x) = v.testBit x
    rw [← e] at t
    rw [t, Nat.add_comm x 8]
theorem rc_p4 (p q r s : Nat) (hp : p ≤ 8) (hq : q ≤ 8) (hr : r ≤ 8) (hs : s ≤ 8) : (p + 256 * (q + 256 * (r + 256 * s))) * 16843009 % 4294967296 / 16777216 = p + q + r + s := by
  have e : (p + 256 * (q + 256 * (r + 256 * s))) * 16843009 = (p + 256 * (p + q) + 65536 * (p + q + r)) + 16777216 * (p + q + r + s) + 4294967296 * ((q + r + s) + 256 * (r + s) + 65536 * s) := by omega
  rw [e, Nat.add_mul_mod_self_left, Nat.mod_eq_of_lt (by omega), Nat.add_mul_div_left _ _ (by decide), Nat.div_eq_of_lt (by omega), Nat.zero_add]
theorem rc_swar (a b c d : Nat) (ha : a < 256) (hb : b < 256) (hc : c < 256) (hd : d < 256) :
    rc_F3 252645135 (rc_F2 858993459 (rc_F1 1431655765 (a + 256 * (b + 256 * (c + 256 * d))))) * 16843009 % 4294967296 / 16777216 = rc_cn (a + 256 * (b + 256 * (c + 256 * d))).testBit 32
    ∧ rc_F2 858993459 (rc_F1 1431655765 (a + 256 * (b + 256 * (c + 256 * d)))) < 2 ^ 32 ∧ rc_F1 1431655765 (a + 256 * (b + 256 * (c + 256 * d))) < 2 ^ 32 ∧ rc_F3 252645135 (rc_F2 858993459 (rc_F1 1431655765 (a + 256 * (b + 256 * (c + 256 * d))))) < 2 ^ 32 := by
  obtain ⟨a1, a2, a3, a4⟩ := rc_p1 a ha
  obtain ⟨b1, b2, b3, b4⟩ := rc_p1 b hb
  obtain ⟨c1, c2, c3, c4⟩ := rc_p1 c hc
  obtain ⟨d1, d2, d3, d4⟩ := rc_p1 d hd
  have E1 : rc_F1 1431655765 (a + 256 * (b + 256 * (c + 256 * d))) = rc_F1 85 a + 256 * (rc_F1 85 b + 256 * (rc_F1 85 c + 256 * rc_F1 85 d)) := by
    rw [show (1431655765 : Nat) = 85 + 256 * (85 + 256 * (85 + 256 * 85)) from by decide, rc_F1b _ _ _ ha, rc_F1b _ _ _ hb, rc_F1b _ _ _ hc]
  rw [E1]
  have E2 : rc_F2 858993459 (rc_F1 85 a + 256 * (rc_F1 85 b + 256 * (rc_F1 85 c + 256 * rc_F1 85 d))) = rc_F2 51 (rc_F1 85 a) + 256 * (rc_F2 51 (rc_F1 85 b) + 256 * (rc_F2 51 (rc_F1 85 c) + 256 * rc_F2 51 (rc_F1 85 d))) := by
    rw [show (858993459 : Nat) = 51 + 256 * (51 + 256 * (51 + 256 * 51)) from by decide, rc_F2b _ _ _ a1, rc_F2b _ _ _ b1, rc_F2b _ _ _ c1]
  rw [E2]
  have E3 : rc_F3 252645135 (rc_F2 51 (rc_F1 85 a) + 256 * (rc_F2 51 (rc_F1 85 b) + 256 * (rc_F2 51 (rc_F1 85 c) + 256 * rc_F2 51 (rc_F1 85 d)))) = rc_cn a.testBit 8 + 256 * (rc_cn b.testBit 8 + 256 * (rc_cn c.testBit 8 + 256 * rc_cn d.testBit 8)) := by
    rw [show (252645135 : Nat) = 15 + 256 * (15 + 256 * (15 + 256 * 15)) from by decide, rc_F3b _ _ _ a2 (by omega), rc_F3b _ _ _ b2 (by omega), rc_F3b _ _ _ c2 d3, a4, b4, c4, d4]
  rw [E3]
  have l1 := rc_cn_le a.testBit 8
  have l2 := rc_cn_le b.testBit 8
  have l3 := rc_cn_le c.testBit 8
  have l4 := rc_cn_le d.testBit 8
  refine ⟨?_, by omega, by omega, by omega⟩
  rw [rc_p4 _ _ _ _ l1 l2 l3 l4, show (32 : Nat) = 8 + (8 + (8 + 8)) from rfl, rc_tb _ _ _ ha, rc_tb _ _ _ hb, rc_tb _ _ _ hc]
  omega
theorem rc_btN (w : Nat) (i : Nat) (hi : i < 32) : bt (nI w) i = w.testBit i := by
  show (BitVec.ofNat 32 w).getLsbD i = _
  rw [BitVec.getLsbD_ofNat, decide_eq_true hi, Bool.true_and]
theorem rc_nmod (n : Nat) : nI n = nI (n % 4294967296) := by
  apply Int32.toBitVec_inj.mp
  show BitVec.ofNat 32 n = BitVec.ofNat 32 (n % 4294967296)
  apply BitVec.eq_of_toNat_eq
  rw [BitVec.toNat_ofNat, BitVec.toNat_ofNat]
  omega
theorem rc_ones {post : Int32 → Prop} (x : Int32) (h : post (nI (rc_cn (bt x) 32))) : wpX_ones post x := by
  obtain ⟨w, hw, rfl⟩ := wb_of32 x
  obtain ⟨a, b, c, d, ha, hb, hc, hd, e⟩ : ∃ a b c d : Nat, a < 256 ∧ b < 256 ∧ c < 256 ∧ d < 256 ∧ w = a + 256 * (b + 256 * (c + 256 * d)) :=
    ⟨w % 256, w / 256 % 256, w / 65536 % 256, w / 16777216, by omega, by omega, by omega, by omega, by omega⟩
  obtain ⟨k1, k2, k3, k4⟩ := rc_swar a b c d ha hb hc hd
  rw [← e] at k1 k2 k3 k4
  have e0 : rc_cn (bt (nI w)) 32 = rc_cn w.testBit 32 := rc_cn_ext (fun i hi => rc_btN w i hi)
  rw [e0, ← k1] at h
  have s1 : nI w - (((nI w).toUInt32 >>> ((1 : Int32).toUInt32 &&& Int32.toUInt32 31)).toInt32 &&& 1431655765) = nI (rc_F1 1431655765 w) := by
    rw [pk_ushrN hw 1 1 (by decide)]
    show nI w - (nI (w / 2 ^ 1) &&& nI 1431655765) = _
    rw [nx_and, pk_sub (Nat.le_trans Nat.and_le_left (Nat.div_le_self _ _))]
    rfl
  have s2 : (nI (rc_F1 1431655765 w) &&& 858993459) + (((nI (rc_F1 1431655765 w)).toUInt32 >>> ((2 : Int32).toUInt32 &&& Int32.toUInt32 31)).toInt32 &&& 858993459) = nI (rc_F2 858993459 (rc_F1 1431655765 w)) := by
    rw [pk_ushrN k3 2 2 (by decide)]
    show (nI (rc_F1 1431655765 w) &&& nI 858993459) + (nI (rc_F1 1431655765 w / 2 ^ 2) &&& nI 858993459) = _
    rw [nx_and, nx_and, nI_add]
    rfl
  have s3 : (nI (rc_F2 858993459 (rc_F1 1431655765 w)) + ((nI (rc_F2 858993459 (rc_F1 1431655765 w))).toUInt32 >>> ((4 : Int32).toUInt32 &&& Int32.toUInt32 31)).toInt32) &&& 252645135 = nI (rc_F3 252645135 (rc_F2 858993459 (rc_F1 1431655765 w))) := by
    rw [pk_ushrN k2 4 4 (by decide)]
    show (nI _ + nI (rc_F2 858993459 (rc_F1 1431655765 w) / 2 ^ 4)) &&& nI 252645135 = _
    rw [nI_add, nx_and]
    rfl
  have s4 : ((nI (rc_F3 252645135 (rc_F2 858993459 (rc_F1 1431655765 w))) * 16843009).toUInt32 >>> ((24 : Int32).toUInt32 &&& Int32.toUInt32 31)).toInt32 = nI (rc_F3 252645135 (rc_F2 858993459 (rc_F1 1431655765 w)) * 16843009 % 4294967296 / 16777216) := by
    rw [show nI (rc_F3 252645135 (rc_F2 858993459 (rc_F1 1431655765 w))) * 16843009 = nI (rc_F3 252645135 (rc_F2 858993459 (rc_F1 1431655765 w)) * 16843009) from pk_mul _ 16843009, rc_nmod, pk_ushrN (Nat.mod_lt _ (by decide)) 24 24 (by decide)]
  refine nm_r s1 (nm_r s2 (nm_r s3 ?_))
  rw [s4]
  exact h
/-! a word's run starts -/
theorem rc_wst (w ca : Int32) (hc : ∀ i, 1 ≤ i → bt ca i = false) (i : Nat) (hi : i < 32) :
    bt (w &&& (((w <<< ((1 : Int32) &&& 31)) ||| ca) ^^^ (-1))) i = (bt w i && !(if i = 0 then bt ca 0 else bt w (i - 1))) := by
  have e : bt (w <<< ((1 : Int32) &&& 31)) i = (decide (1 ≤ i) && bt w (i - 1)) := b_shl 1 (by omega) w hi
  rw [b_and, b_xor, b_or, e, b_m1 i hi]
  by_cases h : i = 0
  · subst h
    rw [if_pos rfl]
    cases bt w 0 <;> cases bt ca 0 <;> rfl
  · rw [if_neg h, hc i (by omega), decide_eq_true (show 1 ≤ i by omega)]
    cases bt w i <;> cases bt w (i - 1) <;> rfl
theorem rc_car (w : Int32) : (∀ i, 1 ≤ i → bt ((w.toUInt32 >>> ((31 : Int32).toUInt32 &&& Int32.toUInt32 31)).toInt32) i = false) ∧ bt ((w.toUInt32 >>> ((31 : Int32).toUInt32 &&& Int32.toUInt32 31)).toInt32) 0 = bt w 31 := by
  have e : ∀ i, bt ((w.toUInt32 >>> ((31 : Int32).toUInt32 &&& Int32.toUInt32 31)).toInt32) i = bt w (31 + i) := fun i => b_ushr 31 (by omega) w i
  exact ⟨fun i hi => by rw [e i]; exact b_big (by omega), e 0⟩
/-- the carry into word j of the map b -/
def rc_Ca (b : Nat → Bool) (j : Nat) (ca : Int32) : Prop := (∀ i, 1 ≤ i → bt ca i = false) ∧ bt ca 0 = (decide (0 < j) && b (32 * j - 1))
theorem rc_Ca0 (b : Nat → Bool) : rc_Ca b 0 0 := ⟨fun i _ => b_0 i, b_0 0⟩
theorem rc_CaS {b : Nat → Bool} {j : Nat} {w : Int32} (h : ∀ i, i < 32 → bt w i = b (32 * j + i)) : rc_Ca b (j + 1) ((w.toUInt32 >>> ((31 : Int32).toUInt32 &&& Int32.toUInt32 31)).toInt32) := by
  refine ⟨(rc_car w).1, ?_⟩
  rw [(rc_car w).2, h 31 (by omega), decide_eq_true (show 0 < j + 1 by omega), Bool.true_and]
  congr 1
theorem rc_cnw {b : Nat → Bool} {j : Nat} {w : Int32} (h : ∀ i, i < 32 → bt w i = b (32 * j + i)) : rc_cn b (32 * (j + 1)) = rc_cn b (32 * j) + rc_cn (bt w) 32 := by
  rw [show 32 * (j + 1) = 32 * j + 32 by omega, rc_cn_add]
  congr 1
  exact rc_cn_ext (fun i hi => (h i hi).symm)
theorem rc_stw {b : Nat → Bool} {j : Nat} {w ca : Int32} (h : ∀ i, i < 32 → bt w i = b (32 * j + i)) (hc : rc_Ca b j ca) : ∀ i, i < 32 → bt (w &&& (((w <<< ((1 : Int32) &&& 31)) ||| ca) ^^^ (-1))) i = rc_st b (32 * j + i) := by
  intro i hi
  rw [rc_wst w ca hc.1 i hi, h i hi]
  unfold rc_st
  congr 1
  by_cases z : i = 0
  · subst z
    rw [if_pos rfl, hc.2, Nat.add_zero]
    by_cases y : j = 0
    · subst y; rfl
    · rw [decide_eq_true (show 0 < j by omega), decide_eq_false (show ¬ 32 * j = 0 by omega), Bool.true_and, Bool.false_or]
  · rw [if_neg z, h (i - 1) (by omega), decide_eq_false (show ¬ 32 * j + i = 0 by omega), Bool.false_or]
    congr 2
    omega
end
section
/-! ===== a chunk, and load ===== -/
def rc_Ls (p : Int32) (d : Nat → Int32) (b : Nat → Bool) : Prop :=
  ∃ (n : Nat) (st E : Nat → Nat), n ≤ 8 ∧ p = nI n ∧ rc_Sg b n st E 128 ∧ ∀ i, i < n → d i = nI (st i) ∧ E (i + 1) = st i + 1
def rc_Rn (p : Int32) (d : Nat → Int32) (b : Nat → Bool) : Prop :=
  ∃ (n : Nat) (st E : Nat → Nat), n ≤ 4 ∧ p = nI n ∧ rc_Sg b n st E 128 ∧ ∀ i, i < n → d (2 * i) = nI (st i) ∧ d (2 * i + 1) = nI (E (i + 1) - 1)
/-- a chunk's form, size, parts and cells stand for the numbers b (below 128) -/
def rc_ck (f z p : Int32) (d : Nat → Int32) (b : Nat → Bool) : Prop :=
  z = nI (rc_cn b 128) ∧ ((f = 1 ∧ p = 4 ∧ ∀ y, y < 128 → rc_bo d 0 y = b y) ∨ (f = 0 ∧ rc_Ls p d b) ∨ (f = 2 ∧ rc_Rn p d b))
def rc_CK (fo sz pa da : Nat → Int32) (k : Nat) (b : Nat → Bool) : Prop := rc_ck (fo k) (sz k) (pa k) (fun i => da (8 * k + i)) b
theorem rc_ck_congr {f z p : Int32} {d : Nat → Int32} {b c : Nat → Bool} (h : ∀ y, y < 128 → b y = c y) (H : rc_ck f z p d b) : rc_ck f z p d c := by
  obtain ⟨hz, H⟩ := H
  refine ⟨by rw [hz, rc_cn_ext h], ?_⟩
  rcases H with ⟨h1, h2, h3⟩ | ⟨h1, n, st, E, h2, h3, h4, h5⟩ | ⟨h1, n, st, E, h2, h3, h4, h5⟩
  · exact Or.inl ⟨h1, h2, fun y hy => by rw [h3 y hy, h y hy]⟩
  · exact Or.inr (Or.inl ⟨h1, n, st, E, h2, h3, rc_Sg_congr h h4, h5⟩)
  · exact Or.inr (Or.inr ⟨h1, n, st, E, h2, h3, rc_Sg_congr h h4, h5⟩)
section
variable {tp : Int32} {fo sz pa da bu wh ta : Nat → Int32}
variable {k o : Nat} {b : Nat → Bool} {post : SX → Prop}
theorem rc_load179 {J : Int32 → (Nat → Int32) → (Nat → Int32) → (Nat → Int32) → (Nat → Int32) → (Nat → Int32) → (Nat → Int32) → (Nat → Int32) → Prop} {x1 : Int32} {s e i : Nat} (hs : s ≤ e) (he : e < 128) (ho : o + 4 ≤ 8) (bu0 : Nat → Int32)
    (h : ∀ bu', (∀ y, y < 128 → rc_bo bu' o y = (rc_bo bu0 o y || (decide (s ≤ y) && decide (y ≤ e)))) → (∀ j, (j < o ∨ o + 4 ≤ j) → bu' j = bu0 j) → J (nI (i + 1)) fo sz pa da bu' wh ta) :
    ∀ m w, w + m = e / 32 + 1 → s / 32 ≤ w → ∀ bu, (∀ y, y < 128 → rc_bo bu o y = (rc_bo bu0 o y || (decide (s ≤ y) && decide (y ≤ e) && decide (y / 32 < w)))) → (∀ j, (j < o ∨ o + 4 ≤ j) → bu j = bu0 j) →
      wX_load_179 post J x1 (nI o) (nI i) (nI s) (nI e) tp (m + 1) (nI w) fo sz pa da bu wh ta := by
  intro m
  induction m with
  | zero =>
    intro w hw hsw bu hI hF
    have hlt : e / 32 < w := by omega
    rw [wX_load_179]
    simp (disch := omega) only [nI_1, nI_add, rc_m2, rc_m4, rc_m8, rc_m32, rc_m128, rc_m512, rc_a128, rc_a4, rc_4a, rc_shr5, rc_shr7, rc_and31, rc_and127, nI_clamp, vp_in_nI, nI_leI, nI_ltI, nI_eq, rc_le4, rc_le16, rc_le128, rc_le512, rc_le511, rc_lt511, rc_lt2, rc_lt4, rc_lt8, rc_l128, rc_l511, rc_l0, rc_e0, rc_e1, false_implies, true_implies, not_false_eq_true, not_true_eq_false, true_and, and_true, implies_true, forall_eq, hlt]
    refine h bu (fun y hy => ?_) hF
    rw [hI y hy]
    by_cases c : y ≤ e
    · rw [decide_eq_true (show y / 32 < w by omega), Bool.and_true]
    · rw [decide_eq_false c, Bool.and_false, Bool.false_and]
  | succ m ih =>
    intro w hw hsw bu hI hF
    have hlt : ¬ e / 32 < w := by omega
    rw [wX_load_179]
    simp (disch := omega) only [nI_1, nI_add, rc_m2, rc_m4, rc_m8, rc_m32, rc_m128, rc_m512, rc_a128, rc_a4, rc_4a, rc_shr5, rc_shr7, rc_and31, rc_and127, nI_clamp, vp_in_nI, nI_leI, nI_ltI, nI_eq, rc_le4, rc_le16, rc_le128, rc_le512, rc_le511, rc_lt511, rc_lt2, rc_lt4, rc_lt8, rc_l128, rc_l511, rc_l0, rc_e0, rc_e1, false_implies, true_implies, not_false_eq_true, not_true_eq_false, true_and, and_true, implies_true, forall_eq, hlt]
    refine rc_maskN (by omega) (by omega) (by omega) (fun v hv => ?_)
    refine ih (w + 1) (by omega) (by omega) _ (fun y hy => ?_) (fun j hj => ?_)
    · rw [rc_bo_upd]
      by_cases c : y / 32 = w
      · rw [if_pos c, b_or, hv _ (by omega), show 32 * w + y % 32 = y by omega]
        have t := hI y hy
        rw [decide_eq_false (show ¬ y / 32 < w by omega), Bool.and_false, Bool.or_false] at t
        rw [← t, decide_eq_true (show y / 32 < w + 1 by omega), Bool.and_true]
        unfold rc_bo
        rw [c]
      · rw [if_neg c, hI y hy]
        have e1 : decide (y / 32 < w + 1) = decide (y / 32 < w) := decide_eq_decide.mpr (by omega)
        rw [e1]
    · rw [pk_un (by omega)]; exact hF j hj
theorem rc_load131 {n : Nat} {st E : Nat → Nat} (hk : k < 12) (ho : o + 4 ≤ 8) (hn : n ≤ 4) (hp : pa k = nI n) (S : rc_Sg b n st E 128)
    (hd : ∀ i, i < n → da (8 * k + 2 * i) = nI (st i) ∧ da (8 * k + 2 * i + 1) = nI (E (i + 1) - 1)) (bu0 : Nat → Int32)
    (h : ∀ bu', (∀ y, y < 128 → rc_bo bu' o y = b y) → (∀ j, (j < o ∨ o + 4 ≤ j) → bu' j = bu0 j) → post (tp, fo, sz, pa, da, bu', wh, ta)) :
    ∀ m i, i + m = n → ∀ bu, (∀ y, y < 128 → rc_bo bu o y = (b y && decide (y < E i))) → (∀ j, (j < o ∨ o + 4 ≤ j) → bu j = bu0 j) →
      wX_load_131 post (nI k) (nI o) tp (m + 1) (nI i) fo sz pa da bu wh ta := by
  intro m
  induction m with
  | zero =>
    intro i hi bu hI hF
    have e : i = n := by omega
    subst e
    have hle : i ≤ i := Nat.le_refl i
    rw [wX_load_131]
    simp (disch := omega) only [nI_1, nI_add, rc_m2, rc_m4, rc_m8, rc_m32, rc_m128, rc_m512, rc_a128, rc_a4, rc_4a, rc_shr5, rc_shr7, rc_and31, rc_and127, nI_clamp, vp_in_nI, nI_leI, nI_ltI, nI_eq, rc_le4, rc_le16, rc_le128, rc_le512, rc_le511, rc_lt511, rc_lt2, rc_lt4, rc_lt8, rc_l128, rc_l511, rc_l0, rc_e0, rc_e1, false_implies, true_implies, not_false_eq_true, not_true_eq_false, true_and, and_true, implies_true, forall_eq, hp, Nat.le_refl]
    exact h bu (fun y hy => by rw [hI y hy, rc_Sg_fin S hy]) hF
  | succ m ih =>
    intro i hi bu hI hF
    have hin : i < n := by omega
    have hle : ¬ n ≤ i := by omega
    obtain ⟨d1, d2⟩ := hd i hin
    obtain ⟨a1, a2, a3, a4, a5⟩ := S.2.1 i hin
    rw [wX_load_131]
    simp (disch := omega) only [nI_1, nI_add, rc_m2, rc_m4, rc_m8, rc_m32, rc_m128, rc_m512, rc_a128, rc_a4, rc_4a, rc_shr5, rc_shr7, rc_and31, rc_and127, nI_clamp, vp_in_nI, nI_leI, nI_ltI, nI_eq, rc_le4, rc_le16, rc_le128, rc_le512, rc_le511, rc_lt511, rc_lt2, rc_lt4, rc_lt8, rc_l128, rc_l511, rc_l0, rc_e0, rc_e1, false_implies, true_implies, not_false_eq_true, not_true_eq_false, true_and, and_true, implies_true, forall_eq, hp, hle, d1, d2]
    refine ⟨_, rc_load179 (s := st i) (e := E (i + 1) - 1) (i := i) (by omega) (by omega) ho bu ?_ ((E (i + 1) - 1) / 32 + 1 - st i / 32) (st i / 32) (by omega) (Nat.le_refl _) bu ?_ (fun j _ => rfl)⟩
    · intro bu' h1 h2
      refine ih (i + 1) (by omega) bu' (fun y hy => ?_) (fun j hj => by rw [h2 j hj]; exact hF j hj)
      rw [h1 y hy, hI y hy, rc_Sg_step S hin]
      have e1 : decide (y ≤ E (i + 1) - 1) = decide (y < E (i + 1)) := decide_eq_decide.mpr (by omega)
      rw [e1]
    · intro y hy
      by_cases c : st i ≤ y
      · rw [decide_eq_false (show ¬ y / 32 < st i / 32 by omega), Bool.and_false, Bool.or_false]
      · rw [decide_eq_false c, Bool.false_and, Bool.false_and, Bool.or_false]
theorem rc_load57 {n : Nat} {st E : Nat → Nat} (hk : k < 12) (ho : o + 4 ≤ 8) (hn : n ≤ 8) (hp : pa k = nI n) (S : rc_Sg b n st E 128)
    (hd : ∀ i, i < n → da (8 * k + i) = nI (st i) ∧ E (i + 1) = st i + 1) (bu0 : Nat → Int32)
    (h : ∀ bu', (∀ y, y < 128 → rc_bo bu' o y = b y) → (∀ j, (j < o ∨ o + 4 ≤ j) → bu' j = bu0 j) → post (tp, fo, sz, pa, da, bu', wh, ta)) :
    ∀ m i, i + m = n → ∀ bu, (∀ y, y < 128 → rc_bo bu o y = (b y && decide (y < E i))) → (∀ j, (j < o ∨ o + 4 ≤ j) → bu j = bu0 j) →
      wX_load_57 post (nI k) (nI o) tp (m + 1) (nI i) fo sz pa da bu wh ta := by
  intro m
  induction m with
  | zero =>
    intro i hi bu hI hF
    have e : i = n := by omega
    subst e
    rw [wX_load_57]
    simp (disch := omega) only [nI_1, nI_add, rc_m2, rc_m4, rc_m8, rc_m32, rc_m128, rc_m512, rc_a128, rc_a4, rc_4a, rc_shr5, rc_shr7, rc_and31, rc_and127, nI_clamp, vp_in_nI, nI_leI, nI_ltI, nI_eq, rc_le4, rc_le16, rc_le128, rc_le512, rc_le511, rc_lt511, rc_lt2, rc_lt4, rc_lt8, rc_l128, rc_l511, rc_l0, rc_e0, rc_e1, false_implies, true_implies, not_false_eq_true, not_true_eq_false, true_and, and_true, implies_true, forall_eq, hp, Nat.le_refl]
    exact h bu (fun y hy => by rw [hI y hy, rc_Sg_fin S hy]) hF
  | succ m ih =>
    intro i hi bu hI hF
    have hin : i < n := by omega
    have hle : ¬ n ≤ i := by omega
    obtain ⟨d1, d2⟩ := hd i hin
    obtain ⟨a1, a2, a3, a4, a5⟩ := S.2.1 i hin
    rw [wX_load_57]
    simp (disch := omega) only [nI_1, nI_add, rc_m2, rc_m4, rc_m8, rc_m32, rc_m128, rc_m512, rc_a128, rc_a4, rc_4a, rc_shr5, rc_shr7, rc_and31, rc_and127, nI_clamp, vp_in_nI, nI_leI, nI_ltI, nI_eq, rc_le4, rc_le16, rc_le128, rc_le512, rc_le511, rc_lt511, rc_lt2, rc_lt4, rc_lt8, rc_l128, rc_l511, rc_l0, rc_e0, rc_e1, false_implies, true_implies, not_false_eq_true, not_true_eq_false, true_and, and_true, implies_true, forall_eq, hp, hle, d1]
    refine ih (i + 1) (by omega) _ (fun y hy => ?_) (fun j hj => ?_)
    · rw [rc_bo_set, hI y hy, rc_Sg_step S hin, d2]
      congr 1
      by_cases c : y = st i
      · rw [decide_eq_true c, decide_eq_true (show st i ≤ y by omega), decide_eq_true (show y < st i + 1 by omega)]; rfl
      · rw [decide_eq_false c]
        by_cases c2 : st i ≤ y
        · rw [decide_eq_false (show ¬ y < st i + 1 by omega), Bool.and_false]
        · rw [decide_eq_false c2, Bool.false_and]
    · rw [pk_un (by omega)]; exact hF j hj
theorem rc_load2 {v : Nat → Int32} (hk : k < 12) (ho : o + 4 ≤ 8) (hv : (fo k = 1 ∧ ∀ j, v j = da (8 * k + j)) ∨ (¬ fo k = 1 ∧ ∀ j, v j = 0)) (bu0 : Nat → Int32)
    (hX : ∀ n bu', (∀ j, j < 4 → bu' (o + j) = v j) → (∀ j, (j < o ∨ o + 4 ≤ j) → bu' j = bu0 j) → wX_load_2 post (nI k) (nI o) tp (n + 1) (nI 4) fo sz pa da bu' wh ta) :
    ∀ m w, w + m = 4 → ∀ bu, (∀ j, j < w → bu (o + j) = v j) → (∀ j, (j < o ∨ o + 4 ≤ j) → bu j = bu0 j) →
      wX_load_2 post (nI k) (nI o) tp (m + 1) (nI w) fo sz pa da bu wh ta := by
  intro m
  induction m with
  | zero =>
    intro w hw bu hI hF
    have e : w = 4 := by omega
    subst e
    exact hX 0 bu hI hF
  | succ m ih =>
    intro w hw bu hI hF
    have hle : ¬ 4 ≤ w := by omega
    have K : ∀ x, x = v w → wX_load_2 post (nI k) (nI o) tp (m + 1) (nI (w + 1)) fo sz pa da (upd bu (o + w) x) wh ta := by
      intro x hx
      refine ih (w + 1) (by omega) _ (fun j hj => ?_) (fun j hj => ?_)
      · by_cases c : j = w
        · subst c; rw [pk_us]; exact hx
        · rw [pk_un (by omega)]; exact hI j (by omega)
      · rw [pk_un (by omega)]; exact hF j hj
    rcases hv with ⟨hf, hv⟩ | ⟨hf, hv⟩
    · rw [wX_load_2]
      simp (disch := omega) only [nI_1, nI_add, rc_m2, rc_m4, rc_m8, rc_m32, rc_m128, rc_m512, rc_a128, rc_a4, rc_4a, rc_shr5, rc_shr7, rc_and31, rc_and127, nI_clamp, vp_in_nI, nI_leI, nI_ltI, nI_eq, rc_le4, rc_le16, rc_le128, rc_le512, rc_le511, rc_lt511, rc_lt2, rc_lt4, rc_lt8, rc_l128, rc_l511, rc_l0, rc_e0, rc_e1, false_implies, true_implies, not_false_eq_true, not_true_eq_false, true_and, and_true, implies_true, forall_eq, hle, hf]
      exact K _ (hv w).symm
    · rw [wX_load_2]
      simp (disch := omega) only [nI_1, nI_add, rc_m2, rc_m4, rc_m8, rc_m32, rc_m128, rc_m512, rc_a128, rc_a4, rc_4a, rc_shr5, rc_shr7, rc_and31, rc_and127, nI_clamp, vp_in_nI, nI_leI, nI_ltI, nI_eq, rc_le4, rc_le16, rc_le128, rc_le512, rc_le511, rc_lt511, rc_lt2, rc_lt4, rc_lt8, rc_l128, rc_l511, rc_l0, rc_e0, rc_e1, false_implies, true_implies, not_false_eq_true, not_true_eq_false, true_and, and_true, implies_true, forall_eq, hle, hf]
      exact K _ (hv w).symm
theorem rc_load (hk : k < 12) (ho : o + 4 ≤ 8) (H : rc_CK fo sz pa da k b)
    (h : ∀ bu', (∀ y, y < 128 → rc_bo bu' o y = b y) → (∀ j, (j < o ∨ o + 4 ≤ j) → bu' j = bu j) → post (tp, fo, sz, pa, da, bu', wh, ta)) :
    wpX_load post (tp, fo, sz, pa, da, bu, wh, ta) (nI k) (nI o) := by
  unfold wpX_load
  dsimp only
  obtain ⟨hz, H⟩ := H
  have l4 : (4 : Nat) ≤ 4 := Nat.le_refl 4
  rcases H with ⟨h1, h2, h3⟩ | ⟨h1, n, st, E, h2, h3, h4, h5⟩ | ⟨h1, n, st, E, h2, h3, h4, h5⟩
  · refine ⟨5, rc_load2 (v := fun j => da (8 * k + j)) hk ho (Or.inl ⟨h1, fun j => rfl⟩) bu ?_ 4 0 rfl bu (fun j hj => absurd hj (Nat.not_lt_zero j)) (fun j _ => rfl)⟩
    intro n bu' hI hF
    have n0 : ¬ ((1 : Int32) = 0) := by decide
    have n2 : ¬ ((1 : Int32) = 2) := by decide
    rw [wX_load_2]
    simp (disch := omega) only [nI_1, nI_add, rc_m2, rc_m4, rc_m8, rc_m32, rc_m128, rc_m512, rc_a128, rc_a4, rc_4a, rc_shr5, rc_shr7, rc_and31, rc_and127, nI_clamp, vp_in_nI, nI_leI, nI_ltI, nI_eq, rc_le4, rc_le16, rc_le128, rc_le512, rc_le511, rc_lt511, rc_lt2, rc_lt4, rc_lt8, rc_l128, rc_l511, rc_l0, rc_e0, rc_e1, false_implies, true_implies, not_false_eq_true, not_true_eq_false, true_and, and_true, implies_true, forall_eq, h1, n0, n2, l4]
    refine h bu' (fun y hy => ?_) hF
    rw [← h3 y hy]
    unfold rc_bo
    rw [hI _ (by omega), Nat.zero_add]
  · have n1 : ¬ ((0 : Int32) = 1) := by decide
    refine ⟨5, rc_load2 (v := fun _ => 0) hk ho (Or.inr ⟨by rw [h1]; exact n1, fun j => rfl⟩) bu ?_ 4 0 rfl bu (fun j hj => absurd hj (Nat.not_lt_zero j)) (fun j _ => rfl)⟩
    intro m bu' hI hF
    rw [wX_load_2]
    simp (disch := omega) only [nI_1, nI_add, rc_m2, rc_m4, rc_m8, rc_m32, rc_m128, rc_m512, rc_a128, rc_a4, rc_4a, rc_shr5, rc_shr7, rc_and31, rc_and127, nI_clamp, vp_in_nI, nI_leI, nI_ltI, nI_eq, rc_le4, rc_le16, rc_le128, rc_le512, rc_le511, rc_lt511, rc_lt2, rc_lt4, rc_lt8, rc_l128, rc_l511, rc_l0, rc_e0, rc_e1, false_implies, true_implies, not_false_eq_true, not_true_eq_false, true_and, and_true, implies_true, forall_eq, h1, l4]
    refine ⟨n + 1, rc_load57 hk ho h2 h3 h4 h5 bu h n 0 (by omega) bu' (fun y hy => ?_) hF⟩
    rw [h4.1, decide_eq_false (Nat.not_lt_zero y), Bool.and_false]
    unfold rc_bo
    rw [hI _ (by omega)]
    exact b_0 _
  · have n1 : ¬ ((2 : Int32) = 1) := by decide
    have n0 : ¬ ((2 : Int32) = 0) := by decide
    refine ⟨5, rc_load2 (v := fun _ => 0) hk ho (Or.inr ⟨by rw [h1]; exact n1, fun j => rfl⟩) bu ?_ 4 0 rfl bu (fun j hj => absurd hj (Nat.not_lt_zero j)) (fun j _ => rfl)⟩
    intro m bu' hI hF
    rw [wX_load_2]
    simp (disch := omega) only [nI_1, nI_add, rc_m2, rc_m4, rc_m8, rc_m32, rc_m128, rc_m512, rc_a128, rc_a4, rc_4a, rc_shr5, rc_shr7, rc_and31, rc_and127, nI_clamp, vp_in_nI, nI_leI, nI_ltI, nI_eq, rc_le4, rc_le16, rc_le128, rc_le512, rc_le511, rc_lt511, rc_lt2, rc_lt4, rc_lt8, rc_l128, rc_l511, rc_l0, rc_e0, rc_e1, false_implies, true_implies, not_false_eq_true, not_true_eq_false, true_and, and_true, implies_true, forall_eq, h1, n0, l4]
    refine ⟨n + 1, rc_load131 hk ho h2 h3 h4 h5 bu h n 0 (by omega) bu' (fun y hy => ?_) hF⟩
    rw [h4.1, decide_eq_false (Nat.not_lt_zero y), Bool.and_false]
    unfold rc_bo
    rw [hI _ (by omega)]
    exact b_0 _
end
end
section
/-! ===== save ===== -/
/-- the runs found below x -/
def rc_IR (b : Nat → Bool) (k x : Nat) (pa0 da0 pa da : Nat → Int32) (n : Nat) (st E : Nat → Nat) : Prop :=
  n = rc_cn (rc_st b) x ∧ pa k = nI n ∧ rc_Sg b n st E x ∧ (∀ i, i < n → da (8 * k + 2 * i) = nI (st i) ∧ da (8 * k + 2 * i + 1) = nI (E (i + 1) - 1)) ∧ (∀ j, j ≠ k → pa j = pa0 j) ∧ (∀ j, (j < 8 * k ∨ 8 * k + 8 ≤ j) → da j = da0 j)
/-- the numbers listed below x -/
def rc_IL (b : Nat → Bool) (k x : Nat) (pa0 da0 pa da : Nat → Int32) (n : Nat) (st E : Nat → Nat) : Prop :=
  n = rc_cn b x ∧ pa k = nI n ∧ rc_Sg b n st E x ∧ (∀ i, i < n → da (8 * k + i) = nI (st i) ∧ E (i + 1) = st i + 1) ∧ (∀ j, j ≠ k → pa j = pa0 j) ∧ (∀ j, (j < 8 * k ∨ 8 * k + 8 ≤ j) → da j = da0 j)
section
variable {b : Nat → Bool} {k x n : Nat} {pa0 da0 pa da : Nat → Int32} {st E : Nat → Nat}
theorem rc_stT {b : Nat → Bool} {x : Nat} (hb : b x = true) (h : x = 0 ∨ b (x - 1) = false) : rc_st b x = true := by
  unfold rc_st
  rw [hb]
  rcases h with h | h
  · rw [decide_eq_true h]; rfl
  · rw [h]; simp
theorem rc_stF {b : Nat → Bool} {x : Nat} (h : b x = false ∨ (0 < x ∧ b (x - 1) = true)) : rc_st b x = false := by
  unfold rc_st
  rcases h with h | ⟨h, h2⟩
  · rw [h]; rfl
  · rw [h2, decide_eq_false (by omega)]; simp
theorem rc_IR_skip (I : rc_IR b k x pa0 da0 pa da n st E) (hb : b x = false) : rc_IR b k (x + 1) pa0 da0 pa da n st E := by
  obtain ⟨h1, h2, h3, h4, h5, h6⟩ := I
  exact ⟨by rw [h1, rc_cnF (rc_stF (Or.inl hb))], h2, rc_Sg_skip h3 hb, h4, h5, h6⟩
theorem rc_IR_new (I : rc_IR b k x pa0 da0 pa da n st E) (hb : b x = true) (hs : x = 0 ∨ b (x - 1) = false) (hn : n < 4) :
    rc_IR b k (x + 1) pa0 da0 (upd pa k (nI (n + 1))) (upd (upd da (8 * k + 2 * n) (nI x)) (8 * k + 2 * (n + 1) - 1) (nI x)) (n + 1) (fun i => if i = n then x else st i) (fun i => if i = n + 1 then x + 1 else E i) := by
  obtain ⟨h1, h2, h3, h4, h5, h6⟩ := I
  refine ⟨by rw [h1, rc_cnT (rc_stT hb hs)], pk_us, rc_Sg_push h3 hb, fun i hi => ?_, fun j hj => by rw [pk_un hj]; exact h5 j hj, fun j hj => by rw [pk_un (by omega), pk_un (by omega)]; exact h6 j hj⟩
  show _ = nI (if i = n then x else st i) ∧ _ = nI ((if i + 1 = n + 1 then x + 1 else E (i + 1)) - 1)
  by_cases c : i = n
  · subst c
    rw [if_pos rfl, if_pos rfl]
    refine ⟨by rw [pk_un (by omega), pk_us], ?_⟩
    rw [show 8 * k + 2 * (i + 1) - 1 = 8 * k + 2 * i + 1 by omega, pk_us, Nat.add_sub_cancel]
  · rw [if_neg c, if_neg (by omega), pk_un (by omega), pk_un (by omega), pk_un (by omega), pk_un (by omega)]
    exact h4 i (by omega)
theorem rc_IR_ext (I : rc_IR b k x pa0 da0 pa da n st E) (hb : b x = true) (h0 : 0 < x) (hp : b (x - 1) = true) (hn : n ≤ 4) :
    rc_IR b k (x + 1) pa0 da0 pa (upd da (8 * k + 2 * n - 1) (nI x)) n st (fun i => if i = n then x + 1 else E i) := by
  obtain ⟨h1, h2, h3, h4, h5, h6⟩ := I
  have hn0 := (rc_Sg_last h3 h0 hp).2
  refine ⟨by rw [h1, rc_cnF (rc_stF (Or.inr ⟨h0, hp⟩))], h2, rc_Sg_ext h3 hb h0 hp, fun i hi => ?_, h5, fun j hj => by rw [pk_un (by omega)]; exact h6 j hj⟩
  show _ = nI (st i) ∧ _ = nI ((if i + 1 = n then x + 1 else E (i + 1)) - 1)
  rw [pk_un (by omega)]
  refine ⟨(h4 i hi).1, ?_⟩
  by_cases c : i + 1 = n
  · rw [if_pos c, show 8 * k + 2 * n - 1 = 8 * k + 2 * i + 1 by omega, pk_us, Nat.add_sub_cancel]
  · rw [if_neg c, pk_un (by omega)]
    exact (h4 i hi).2
theorem rc_IL_skip (I : rc_IL b k x pa0 da0 pa da n st E) (hb : b x = false) : rc_IL b k (x + 1) pa0 da0 pa da n st E := by
  obtain ⟨h1, h2, h3, h4, h5, h6⟩ := I
  exact ⟨by rw [h1, rc_cnF hb], h2, rc_Sg_skip h3 hb, h4, h5, h6⟩
theorem rc_IL_new (I : rc_IL b k x pa0 da0 pa da n st E) (hb : b x = true) (hn : n < 8) :
    rc_IL b k (x + 1) pa0 da0 (upd pa k (nI (n + 1))) (upd da (8 * k + n) (nI x)) (n + 1) (fun i => if i = n then x else st i) (fun i => if i = n + 1 then x + 1 else E i) := by
  obtain ⟨h1, h2, h3, h4, h5, h6⟩ := I
  refine ⟨by rw [h1, rc_cnT hb], pk_us, rc_Sg_push h3 hb, fun i hi => ?_, fun j hj => by rw [pk_un hj]; exact h5 j hj, fun j hj => by rw [pk_un (by omega)]; exact h6 j hj⟩
  show _ = nI (if i = n then x else st i) ∧ (if i + 1 = n + 1 then x + 1 else E (i + 1)) = (if i = n then x else st i) + 1
  by_cases c : i = n
  · subst c
    rw [if_pos rfl, if_pos rfl]
    exact ⟨pk_us, rfl⟩
  · rw [if_neg c, if_neg (by omega), pk_un (by omega)]
    exact h4 i (by omega)
end
section
variable {tp : Int32} {fo sz pa da bu wh ta : Nat → Int32}
variable {k : Nat} {b : Nat → Bool} {post : SX → Prop}
theorem rc_inb {q : Int32 → Prop} {x : Nat} (hx : x < 128) (hb : ∀ y, y < 128 → rc_bo bu 0 y = b y) (h1 : b x = true → q 1) (h0 : b x = false → q 0) : wpX_inBuffer q (tp, fo, sz, pa, da, bu, wh, ta) (nI x) := by
  unfold wpX_inBuffer
  dsimp only
  have e : rc_bo bu 0 x = bt (bu (x / 32)) (x % 32) := by unfold rc_bo; rw [Nat.zero_add]
  have t := rc_tst (bu (x / 32)) (x % 32) (by omega)
  rw [← e, hb x hx] at t
  simp (disch := omega) only [nI_1, nI_add, rc_m2, rc_m4, rc_m8, rc_m32, rc_m128, rc_m512, rc_a128, rc_a4, rc_4a, rc_shr5, rc_shr7, rc_and31, rc_and127, nI_clamp, vp_in_nI, nI_leI, nI_ltI, nI_eq, rc_le4, rc_le16, rc_le128, rc_le512, rc_le511, rc_lt511, rc_lt2, rc_lt4, rc_lt8, rc_l128, rc_l511, rc_l0, rc_e0, rc_e1, false_implies, true_implies, not_false_eq_true, not_true_eq_false, true_and, and_true, implies_true, forall_eq, t]
  exact ⟨h1, fun z => h0 (rc_nt z)⟩
theorem rc_saveRuns2 (hk : k < 12) (hb : ∀ y, y < 128 → rc_bo bu 0 y = b y) (h4 : rc_cn (rc_st b) 128 ≤ 4) (pa0 da0 : Nat → Int32)
    (h : ∀ pa' da' n st E, rc_IR b k 128 pa0 da0 pa' da' n st E → post (tp, fo, sz, pa', da', bu, wh, ta)) :
    ∀ m x, x + m = 128 → ∀ pa da n st E, rc_IR b k x pa0 da0 pa da n st E → wX_saveRuns_2 post (nI k) tp (m + 1) (nI x) fo sz pa da bu wh ta := by
  intro m
  induction m with
  | zero =>
    intro x hx pa da n st E I
    have e : x = 128 := by omega
    subst e
    exact br_t (nI_le (Nat.le_refl 128) (by omega)) (h pa da n st E I)
  | succ m ih =>
    intro x hx pa da n st E I
    have hle : ¬ 128 ≤ x := by omega
    have I0 := I
    obtain ⟨i1, i2, i3, i4, i5, i6⟩ := I0
    have hn4 : n ≤ 4 := by
      have := rc_cn_mono (rc_st b) (show x ≤ 128 by omega)
      omega
    rw [wX_saveRuns_2]
    simp (disch := omega) only [nI_1, nI_add, rc_m2, rc_m4, rc_m8, rc_m32, rc_m128, rc_m512, rc_a128, rc_a4, rc_4a, rc_shr5, rc_shr7, rc_and31, rc_and127, nI_clamp, vp_in_nI, nI_leI, nI_ltI, nI_eq, rc_le4, rc_le16, rc_le128, rc_le512, rc_le511, rc_lt511, rc_lt2, rc_lt4, rc_lt8, rc_l128, rc_l511, rc_l0, rc_e0, rc_e1, false_implies, true_implies, not_false_eq_true, not_true_eq_false, true_and, and_true, implies_true, forall_eq, hle]
    have KN : b x = true → (x = 0 ∨ b (x - 1) = false) → wX_saveRuns_31 post (wX_saveRuns_2 post (nI k) tp (m + 1)) (nI k) (nI x) tp fo sz pa da bu wh ta := by
      intro hbx hs
      have hn3 : n < 4 := by
        have := rc_cn_mono (rc_st b) (show x + 1 ≤ 128 by omega)
        rw [rc_cnT (rc_stT hbx hs)] at this
        omega
      have l1 : 1 ≤ 8 * k + 2 * (n + 1) := by omega
      unfold wX_saveRuns_31 wX_saveRuns_60
      simp (disch := omega) only [nI_1, nI_add, rc_m2, rc_m4, rc_m8, rc_m32, rc_m128, rc_m512, rc_a128, rc_a4, rc_4a, rc_shr5, rc_shr7, rc_and31, rc_and127, nI_clamp, vp_in_nI, nI_leI, nI_ltI, nI_eq, rc_le4, rc_le16, rc_le128, rc_le512, rc_le511, rc_lt511, rc_lt2, rc_lt4, rc_lt8, rc_l128, rc_l511, rc_l0, rc_e0, rc_e1, false_implies, true_implies, not_false_eq_true, not_true_eq_false, true_and, and_true, implies_true, forall_eq, i2, pk_us, rc_s1]
      exact ih (x + 1) (by omega) _ _ _ _ _ (rc_IR_new I hbx hs hn3)
    refine rc_inb (b := b) (by omega) hb (fun hbx => ?_) (fun hbx => ?_)
    · refine br_f (by decide) ?_
      by_cases c : x = 0
      · refine br_t c (KN hbx (Or.inl c))
      · refine br_f c ?_
        rw [rc_s1 (by omega)]
        refine rc_inb (b := b) (by omega) hb (fun hp => ?_) (fun hp => ?_)
        · refine br_f (by decide) ?_
          have hn0 := (rc_Sg_last i3 (by omega) hp).2
          unfold wX_saveRuns_60
          simp (disch := omega) only [nI_1, nI_add, rc_m2, rc_m4, rc_m8, rc_m32, rc_m128, rc_m512, rc_a128, rc_a4, rc_4a, rc_shr5, rc_shr7, rc_and31, rc_and127, nI_clamp, vp_in_nI, nI_leI, nI_ltI, nI_eq, rc_le4, rc_le16, rc_le128, rc_le512, rc_le511, rc_lt511, rc_lt2, rc_lt4, rc_lt8, rc_l128, rc_l511, rc_l0, rc_e0, rc_e1, false_implies, true_implies, not_false_eq_true, not_true_eq_false, true_and, and_true, implies_true, forall_eq, i2, rc_s1]
          exact ih (x + 1) (by omega) _ _ _ _ _ (rc_IR_ext I hbx (by omega) hp hn4)
        · refine br_t rfl (KN hbx (Or.inr hp))
    · refine br_t rfl ?_
      exact ih (x + 1) (by omega) _ _ _ _ _ (rc_IR_skip I hbx)
theorem rc_save139 (hk : k < 12) (hb : ∀ y, y < 128 → rc_bo bu 0 y = b y) (h8 : rc_cn b 128 ≤ 8) (pa0 da0 : Nat → Int32)
    (h : ∀ pa' da' n st E, rc_IL b k 128 pa0 da0 pa' da' n st E → post (tp, fo, sz, pa', da', bu, wh, ta)) :
    ∀ m x, x + m = 128 → ∀ pa da n st E, rc_IL b k x pa0 da0 pa da n st E → wX_save_139 post (nI k) tp (m + 1) (nI x) fo sz pa da bu wh ta := by
  intro m
  induction m with
  | zero =>
    intro x hx pa da n st E I
    have e : x = 128 := by omega
    subst e
    exact br_t (nI_le (Nat.le_refl 128) (by omega)) (h pa da n st E I)
  | succ m ih =>
    intro x hx pa da n st E I
    have hle : ¬ 128 ≤ x := by omega
    have I0 := I
    obtain ⟨i1, i2, i3, i4, i5, i6⟩ := I0
    have hn4 : n ≤ 8 := by
      have := rc_cn_mono b (show x ≤ 128 by omega)
      omega
    rw [wX_save_139]
    simp (disch := omega) only [nI_1, nI_add, rc_m2, rc_m4, rc_m8, rc_m32, rc_m128, rc_m512, rc_a128, rc_a4, rc_4a, rc_shr5, rc_shr7, rc_and31, rc_and127, nI_clamp, vp_in_nI, nI_leI, nI_ltI, nI_eq, rc_le4, rc_le16, rc_le128, rc_le512, rc_le511, rc_lt511, rc_lt2, rc_lt4, rc_lt8, rc_l128, rc_l511, rc_l0, rc_e0, rc_e1, false_implies, true_implies, not_false_eq_true, not_true_eq_false, true_and, and_true, implies_true, forall_eq, hle]
    refine rc_inb (b := b) (by omega) hb (fun hbx => ?_) (fun hbx => ?_)
    · refine br_f (by decide) ?_
      have hn3 : n < 8 := by
        have := rc_cn_mono b (show x + 1 ≤ 128 by omega)
        rw [rc_cnT hbx] at this
        omega
      simp (disch := omega) only [nI_1, nI_add, rc_m2, rc_m4, rc_m8, rc_m32, rc_m128, rc_m512, rc_a128, rc_a4, rc_4a, rc_shr5, rc_shr7, rc_and31, rc_and127, nI_clamp, vp_in_nI, nI_leI, nI_ltI, nI_eq, rc_le4, rc_le16, rc_le128, rc_le512, rc_le511, rc_lt511, rc_lt2, rc_lt4, rc_lt8, rc_l128, rc_l511, rc_l0, rc_e0, rc_e1, false_implies, true_implies, not_false_eq_true, not_true_eq_false, true_and, and_true, implies_true, forall_eq, i2]
      exact ih (x + 1) (by omega) _ _ _ _ _ (rc_IL_new I hbx hn3)
    · refine br_t rfl ?_
      exact ih (x + 1) (by omega) _ _ _ _ _ (rc_IL_skip I hbx)
theorem rc_save210 (hk : k < 12) (da0 : Nat → Int32)
    (h : ∀ da', (∀ j, j < 4 → da' (8 * k + j) = bu j) → (∀ j, (j < 8 * k ∨ 8 * k + 8 ≤ j) → da' j = da0 j) → post (tp, fo, sz, pa, da', bu, wh, ta)) :
    ∀ m w, w + m = 4 → ∀ da, (∀ j, j < w → da (8 * k + j) = bu j) → (∀ j, (j < 8 * k ∨ 8 * k + 8 ≤ j) → da j = da0 j) → wX_save_210 post (nI k) tp (m + 1) (nI w) fo sz pa da bu wh ta := by
  intro m
  induction m with
  | zero =>
    intro w hw da hI hF
    have e : w = 4 := by omega
    subst e
    exact br_t (nI_le (Nat.le_refl 4) (by omega)) (h da hI hF)
  | succ m ih =>
    intro w hw da hI hF
    have hle : ¬ 4 ≤ w := by omega
    rw [wX_save_210]
    simp (disch := omega) only [nI_1, nI_add, rc_m2, rc_m4, rc_m8, rc_m32, rc_m128, rc_m512, rc_a128, rc_a4, rc_4a, rc_shr5, rc_shr7, rc_and31, rc_and127, nI_clamp, vp_in_nI, nI_leI, nI_ltI, nI_eq, rc_le4, rc_le16, rc_le128, rc_le512, rc_le511, rc_lt511, rc_lt2, rc_lt4, rc_lt8, rc_l128, rc_l511, rc_l0, rc_e0, rc_e1, false_implies, true_implies, not_false_eq_true, not_true_eq_false, true_and, and_true, implies_true, forall_eq, hle]
    refine ih (w + 1) (by omega) _ (fun j hj => ?_) (fun j hj => ?_)
    · by_cases c : j = w
      · subst c; exact pk_us
      · rw [pk_un (by omega)]; exact hI j (by omega)
    · rw [pk_un (by omega)]; exact hF j hj
/-- all but chunk k is as it was -/
def rc_Fr (k : Nat) (fo sz pa da fo' sz' pa' da' : Nat → Int32) : Prop :=
  (∀ j, j ≠ k → fo' j = fo j ∧ sz' j = sz j ∧ pa' j = pa j) ∧ (∀ j, (j < 8 * k ∨ 8 * k + 8 ≤ j) → da' j = da j)
theorem rc_save_116 (hk : k < 12) (hb : ∀ y, y < 128 → rc_bo bu 0 y = b y) (sz0 : Nat → Int32) (hz : sz k = nI (rc_cn b 128)) (hz2 : ∀ j, j ≠ k → sz j = sz0 j)
    (h : ∀ fo' sz' pa' da', rc_CK fo' sz' pa' da' k b → rc_Fr k fo sz0 pa da fo' sz' pa' da' → post (tp, fo', sz', pa', da', bu, wh, ta)) :
    wX_save_116 post (nI k) (nI (rc_cn b 128)) tp fo sz pa da bu wh ta := by
  have hc := rc_cn_le b 128
  unfold wX_save_116
  by_cases c : 8 < rc_cn b 128
  · have c2 : ¬ rc_cn b 128 ≤ 8 := by omega
    simp (disch := omega) only [nI_1, nI_add, rc_m2, rc_m4, rc_m8, rc_m32, rc_m128, rc_m512, rc_a128, rc_a4, rc_4a, rc_shr5, rc_shr7, rc_and31, rc_and127, nI_clamp, vp_in_nI, nI_leI, nI_ltI, nI_eq, rc_le4, rc_le16, rc_le128, rc_le512, rc_le511, rc_lt511, rc_lt2, rc_lt4, rc_lt8, rc_l128, rc_l511, rc_l0, rc_e0, rc_e1, false_implies, true_implies, not_false_eq_true, not_true_eq_false, true_and, and_true, implies_true, forall_eq, c]
    refine ⟨5, rc_save210 hk da ?_ 4 0 rfl da (fun j hj => absurd hj (Nat.not_lt_zero j)) (fun j _ => rfl)⟩
    intro da' d1 d2
    refine h _ _ _ _ ⟨hz, Or.inl ⟨pk_us, pk_us, fun y hy => ?_⟩⟩ ⟨fun j hj => ⟨pk_un hj, hz2 j hj, pk_un hj⟩, d2⟩
    rw [← hb y hy]
    unfold rc_bo
    rw [Nat.zero_add]
    show bt (da' (8 * k + y / 32)) (y % 32) = _
    rw [d1 _ (by omega)]
  · simp (disch := omega) only [nI_1, nI_add, rc_m2, rc_m4, rc_m8, rc_m32, rc_m128, rc_m512, rc_a128, rc_a4, rc_4a, rc_shr5, rc_shr7, rc_and31, rc_and127, nI_clamp, vp_in_nI, nI_leI, nI_ltI, nI_eq, rc_le4, rc_le16, rc_le128, rc_le512, rc_le511, rc_lt511, rc_lt2, rc_lt4, rc_lt8, rc_l128, rc_l511, rc_l0, rc_e0, rc_e1, false_implies, true_implies, not_false_eq_true, not_true_eq_false, true_and, and_true, implies_true, forall_eq, c]
    refine ⟨129, rc_save139 (b := b) hk hb (by omega) pa da ?_ 128 0 rfl _ _ 0 (fun _ => 0) (fun _ => 0) ⟨rfl, pk_us, rc_Sg_0 b _, fun i hi => absurd hi (Nat.not_lt_zero i), fun j hj => pk_un hj, fun j _ => rfl⟩⟩
    intro pa' da' n st E ⟨i1, i2, i3, i4, i5, i6⟩
    exact h _ _ _ _ ⟨hz, Or.inr (Or.inl ⟨pk_us, n, st, E, by omega, i2, i3, i4⟩)⟩ ⟨fun j hj => ⟨pk_un hj, hz2 j hj, i5 j hj⟩, i6⟩
theorem rc_save10 (hk : k < 12) (hb : ∀ y, y < 128 → rc_bo bu 0 y = b y)
    (hX : ∀ n ca, wX_save_10 post (nI k) tp fo sz pa da bu wh ta (n + 1) (nI (rc_cn b 128)) (nI (rc_cn (rc_st b) 128)) ca (nI 4)) :
    ∀ m w, w + m = 4 → ∀ ca, rc_Ca b w ca → wX_save_10 post (nI k) tp fo sz pa da bu wh ta (m + 1) (nI (rc_cn b (32 * w))) (nI (rc_cn (rc_st b) (32 * w))) ca (nI w) := by
  intro m
  induction m with
  | zero =>
    intro w hw ca hc
    have e : w = 4 := by omega
    subst e
    exact hX 0 ca
  | succ m ih =>
    intro w hw ca hc
    have hle : ¬ 4 ≤ w := by omega
    have hw2 : ∀ i, i < 32 → bt (bu w) i = b (32 * w + i) := by
      intro i hi
      rw [← hb _ (by omega)]
      unfold rc_bo
      rw [Nat.zero_add, show (32 * w + i) / 32 = w by omega, show (32 * w + i) % 32 = i by omega]
    rw [wX_save_10]
    simp (disch := omega) only [nI_1, nI_add, rc_m2, rc_m4, rc_m8, rc_m32, rc_m128, rc_m512, rc_a128, rc_a4, rc_4a, rc_shr5, rc_shr7, rc_and31, rc_and127, nI_clamp, vp_in_nI, nI_leI, nI_ltI, nI_eq, rc_le4, rc_le16, rc_le128, rc_le512, rc_le511, rc_lt511, rc_lt2, rc_lt4, rc_lt8, rc_l128, rc_l511, rc_l0, rc_e0, rc_e1, false_implies, true_implies, not_false_eq_true, not_true_eq_false, true_and, and_true, implies_true, forall_eq, hle]
    refine rc_ones _ ?_
    simp (disch := omega) only [nI_1, nI_add, rc_m2, rc_m4, rc_m8, rc_m32, rc_m128, rc_m512, rc_a128, rc_a4, rc_4a, rc_shr5, rc_shr7, rc_and31, rc_and127, nI_clamp, vp_in_nI, nI_leI, nI_ltI, nI_eq, rc_le4, rc_le16, rc_le128, rc_le512, rc_le511, rc_lt511, rc_lt2, rc_lt4, rc_lt8, rc_l128, rc_l511, rc_l0, rc_e0, rc_e1, false_implies, true_implies, not_false_eq_true, not_true_eq_false, true_and, and_true, implies_true, forall_eq]
    refine rc_ones _ ?_
    simp (disch := omega) only [nI_1, nI_add, rc_m2, rc_m4, rc_m8, rc_m32, rc_m128, rc_m512, rc_a128, rc_a4, rc_4a, rc_shr5, rc_shr7, rc_and31, rc_and127, nI_clamp, vp_in_nI, nI_leI, nI_ltI, nI_eq, rc_le4, rc_le16, rc_le128, rc_le512, rc_le511, rc_lt511, rc_lt2, rc_lt4, rc_lt8, rc_l128, rc_l511, rc_l0, rc_e0, rc_e1, false_implies, true_implies, not_false_eq_true, not_true_eq_false, true_and, and_true, implies_true, forall_eq]
    rw [rc_cn_ext (b := bt (bu w &&& _)) (rc_stw hw2 hc)]
    have e1 := rc_cnw hw2
    have e2 : rc_cn (rc_st b) (32 * (w + 1)) = rc_cn (rc_st b) (32 * w) + rc_cn (fun i => rc_st b (32 * w + i)) 32 := by
      rw [show 32 * (w + 1) = 32 * w + 32 by omega, rc_cn_add]
    rw [← e1, ← e2]
    exact ih (w + 1) (by omega) _ (rc_CaS hw2)
theorem rc_save (hk : k < 12) (hb : ∀ y, y < 128 → rc_bo bu 0 y = b y)
    (h : ∀ fo' sz' pa' da', rc_CK fo' sz' pa' da' k b → rc_Fr k fo sz pa da fo' sz' pa' da' → post (tp, fo', sz', pa', da', bu, wh, ta)) :
    wpX_save post (tp, fo, sz, pa, da, bu, wh, ta) (nI k) := by
  unfold wpX_save
  dsimp only
  refine ⟨5, rc_save10 (b := b) hk hb ?_ 4 0 rfl 0 (rc_Ca0 b)⟩
  intro n ca
  have l4 : (4 : Nat) ≤ 4 := Nat.le_refl 4
  have hc := rc_cn_le b 128
  have hc2 := rc_cn_le (rc_st b) 128
  rw [wX_save_10]
  simp (disch := omega) only [nI_1, nI_add, rc_m2, rc_m4, rc_m8, rc_m32, rc_m128, rc_m512, rc_a128, rc_a4, rc_4a, rc_shr5, rc_shr7, rc_and31, rc_and127, nI_clamp, vp_in_nI, nI_leI, nI_ltI, nI_eq, rc_le4, rc_le16, rc_le128, rc_le512, rc_le511, rc_lt511, rc_lt2, rc_lt4, rc_lt8, rc_l128, rc_l511, rc_l0, rc_e0, rc_e1, false_implies, true_implies, not_false_eq_true, not_true_eq_false, true_and, and_true, implies_true, forall_eq, l4]
  have K : wX_save_116 post (nI k) (nI (rc_cn b 128)) tp fo (upd sz k (nI (rc_cn b 128))) pa da bu wh ta :=
    rc_save_116 hk hb sz pk_us (fun j hj => pk_un hj) h
  refine br_c (fun _ => K) (fun c => br_c (fun _ => K) (fun c2 => ?_))
  unfold wpX_saveRuns
  dsimp only
  refine ⟨129, rc_saveRuns2 (b := b) hk hb (by omega) pa da ?_ 128 0 rfl _ _ 0 (fun _ => 0) (fun _ => 0) ⟨rfl, pk_us, rc_Sg_0 b _, fun i hi => absurd hi (Nat.not_lt_zero i), fun j hj => pk_un hj, fun j _ => rfl⟩⟩
  intro pa' da' n st E ⟨i1, i2, i3, i4, i5, i6⟩
  exact h _ _ _ _ ⟨pk_us, Or.inr (Or.inr ⟨pk_us, n, st, E, by omega, i2, i3, i4⟩)⟩ ⟨fun j hj => ⟨pk_un hj, pk_un hj, i5 j hj⟩, i6⟩
end
end
section
/-! ===== the relation on X's chunks; cells; total; gather; spread ===== -/
/-- the number of cells of a chunk -/
def rc_cl (f p : Int32) : Nat := if f = 1 then 4 else if f = 0 then p.toNatClampNeg else 2 * p.toNatClampNeg
theorem rc_ck_cl {f z p : Int32} {d : Nat → Int32} {b : Nat → Bool} (H : rc_ck f z p d b) : rc_cl f p ≤ 8 := by
  obtain ⟨hz, H⟩ := H
  unfold rc_cl
  rcases H with ⟨h1, h2, h3⟩ | ⟨h1, n, st, E, h2, h3, h4, h5⟩ | ⟨h1, n, st, E, h2, h3, h4, h5⟩
  · rw [if_pos h1]; omega
  · rw [h1, if_neg (by decide), if_pos rfl, h3, nI_clamp (by omega)]; omega
  · rw [h1, if_neg (by decide), if_neg (by decide), h3, nI_clamp (by omega)]; omega
theorem rc_ck_data {f z p : Int32} {d d' : Nat → Int32} {b : Nat → Bool} (h : ∀ i, i < rc_cl f p → d' i = d i) (H : rc_ck f z p d b) : rc_ck f z p d' b := by
  obtain ⟨hz, H⟩ := H
  refine ⟨hz, ?_⟩
  unfold rc_cl at h
  rcases H with ⟨h1, h2, h3⟩ | ⟨h1, n, st, E, h2, h3, h4, h5⟩ | ⟨h1, n, st, E, h2, h3, h4, h5⟩
  · rw [if_pos h1] at h
    refine Or.inl ⟨h1, h2, fun y hy => ?_⟩
    rw [← h3 y hy]
    unfold rc_bo
    rw [Nat.zero_add, h _ (by omega)]
  · rw [h1, if_neg (by decide), if_pos rfl, h3, nI_clamp (by omega)] at h
    exact Or.inr (Or.inl ⟨h1, n, st, E, h2, h3, h4, fun i hi => by rw [h i hi]; exact h5 i hi⟩)
  · rw [h1, if_neg (by decide), if_neg (by decide), h3, nI_clamp (by omega)] at h
    exact Or.inr (Or.inr ⟨h1, n, st, E, h2, h3, h4, fun i hi => by rw [h _ (by omega), h _ (by omega)]; exact h5 i hi⟩)
/-- X's twelve chunks stand for M -/
def rc_XR (fo sz pa da : Nat → Int32) (M : Nat → Bool) : Prop := ∀ k, k < 12 → rc_CK fo sz pa da k (fun x => M (128 * k + x))
def rc_pk (M : Nat → Bool) (k : Nat) (b : Nat → Bool) : Nat → Bool := fun j => if 128 * k ≤ j ∧ j < 128 * k + 128 then b (j - 128 * k) else M j
/-- the first n numbers of set s are those of g -/
def rc_pt (M : Nat → Bool) (s n : Nat) (g : Nat → Bool) : Nat → Bool := fun j => if 512 * s ≤ j ∧ j < 512 * s + n then g (j - 512 * s) else M j
def rc_gs (M : Nat → Bool) (s : Nat) : Nat → Bool := fun x => M (512 * s + x)
theorem rc_XR_put {fo sz pa da fo' sz' pa' da' : Nat → Int32} {M b : Nat → Bool} {k : Nat} (X : rc_XR fo sz pa da M) (C : rc_CK fo' sz' pa' da' k b) (F : rc_Fr k fo sz pa da fo' sz' pa' da') : rc_XR fo' sz' pa' da' (rc_pk M k b) := by
  intro j hj
  by_cases c : j = k
  · subst c
    refine rc_ck_congr (fun y hy => ?_) C
    show b y = rc_pk M j b (128 * j + y)
    unfold rc_pk
    rw [if_pos (by omega), Nat.add_sub_cancel_left]
  · obtain ⟨f1, f2⟩ := F
    obtain ⟨e1, e2, e3⟩ := f1 j c
    have t := X j hj
    unfold rc_CK at t ⊢
    rw [e1, e2, e3]
    have t8 := rc_ck_cl t
    refine rc_ck_data (d := fun i => da (8 * j + i)) (fun i hi => f2 _ (by omega)) (rc_ck_congr (fun y hy => ?_) t)
    show M (128 * j + y) = rc_pk M k b (128 * j + y)
    unfold rc_pk
    rw [if_neg (by omega)]
theorem rc_pk_pt (M g : Nat → Bool) (s c : Nat) : rc_pk (rc_pt M s (128 * c) g) (4 * s + c) (fun y => g (128 * c + y)) = rc_pt M s (128 * (c + 1)) g := by
  funext j
  unfold rc_pk rc_pt
  by_cases h1 : 128 * (4 * s + c) ≤ j ∧ j < 128 * (4 * s + c) + 128
  · rw [if_pos h1, if_pos (by omega)]
    show g _ = g _
    congr 1
    omega
  · rw [if_neg h1]
    by_cases h2 : 512 * s ≤ j ∧ j < 512 * s + 128 * c
    · rw [if_pos h2, if_pos (by omega)]
    · rw [if_neg h2, if_neg (by omega)]
theorem rc_XR_next {fo sz pa da fo' sz' pa' da' : Nat → Int32} {M b g : Nat → Bool} {s c : Nat} (X : rc_XR fo sz pa da (rc_pt M s (128 * c) g)) (C : rc_CK fo' sz' pa' da' (4 * s + c) b) (F : rc_Fr (4 * s + c) fo sz pa da fo' sz' pa' da') (hb : ∀ y, y < 128 → b y = g (128 * c + y)) : rc_XR fo' sz' pa' da' (rc_pt M s (128 * (c + 1)) g) := by
  rw [← rc_pk_pt]
  exact rc_XR_put X (rc_ck_congr hb C) F
theorem rc_XR_chunk {fo sz pa da : Nat → Int32} {M g : Nat → Bool} {s t c : Nat} (ht : t < 3) (hc : c < 4) (X : rc_XR fo sz pa da (rc_pt M s (128 * c) g)) : rc_CK fo sz pa da (4 * t + c) (fun x => rc_gs M t (128 * c + x)) := by
  refine rc_ck_congr (fun y hy => ?_) (X (4 * t + c) (by omega))
  show rc_pt M s (128 * c) g (128 * (4 * t + c) + y) = M (512 * t + (128 * c + y))
  unfold rc_pt
  rw [if_neg (by omega)]
  congr 1
  omega
theorem rc_XR_ch0 {fo sz pa da : Nat → Int32} {M : Nat → Bool} {t c : Nat} (ht : t < 3) (hc : c < 4) (X : rc_XR fo sz pa da M) : rc_CK fo sz pa da (4 * t + c) (fun x => rc_gs M t (128 * c + x)) := by
  refine rc_ck_congr (fun y hy => ?_) (X (4 * t + c) (by omega))
  show M (128 * (4 * t + c) + y) = M (512 * t + (128 * c + y))
  congr 1
  omega
theorem rc_pt0 (M g : Nat → Bool) (s : Nat) : rc_pt M s 0 g = M := by
  funext j
  unfold rc_pt
  rw [if_neg (by omega)]
theorem rc_gs_pt (M g : Nat → Bool) (s : Nat) {x : Nat} (hx : x < 512) : rc_gs (rc_pt M s 512 g) s x = g x := by
  unfold rc_gs rc_pt
  rw [if_pos (by omega), Nat.add_sub_cancel_left]
theorem rc_gs_cn (M g : Nat → Bool) (s : Nat) : rc_cn (rc_gs (rc_pt M s 512 g) s) 512 = rc_cn g 512 := rc_cn_ext (fun _ hx => rc_gs_pt M g s hx)
theorem rc_cn128 (g : Nat → Bool) (c : Nat) : rc_cn g (128 * (c + 1)) = rc_cn g (128 * c) + rc_cn (fun x => g (128 * c + x)) 128 := by
  rw [show 128 * (c + 1) = 128 * c + 128 by omega, rc_cn_add]
section
variable {tp : Int32} {fo sz pa da bu wh ta : Nat → Int32}
variable {s : Nat} {M : Nat → Bool}
theorem rc_total4 {post : Int32 → Prop} (hs : s < 3) (X : rc_XR fo sz pa da M) (h : post (nI (rc_cn (rc_gs M s) 512))) :
    ∀ m c, c + m = 4 → wX_total_4 post (nI s) tp fo sz pa da bu wh ta (m + 1) (nI (rc_cn (rc_gs M s) (128 * c))) (nI c) := by
  intro m
  induction m with
  | zero =>
    intro c hc
    have e : c = 4 := by omega
    subst e
    exact br_t (nI_le (Nat.le_refl 4) (by omega)) h
  | succ m ih =>
    intro c hc
    have hle : ¬ 4 ≤ c := by omega
    have hz := (rc_XR_ch0 hs (show c < 4 by omega) X).1
    rw [wX_total_4]
    simp (disch := omega) only [nI_1, nI_add, rc_m2, rc_m4, rc_m8, rc_m32, rc_m128, rc_m512, rc_a128, rc_a4, rc_4a, rc_shr5, rc_shr7, rc_and31, rc_and127, nI_clamp, vp_in_nI, nI_leI, nI_ltI, nI_eq, rc_le4, rc_le16, rc_le128, rc_le512, rc_le511, rc_lt511, rc_lt2, rc_lt4, rc_lt8, rc_l128, rc_l511, rc_l0, rc_e0, rc_e1, false_implies, true_implies, not_false_eq_true, not_true_eq_false, true_and, and_true, implies_true, forall_eq, hle, hz]
    rw [← rc_cn128]
    exact ih (c + 1) (by omega)
theorem rc_total {post : Int32 → Prop} (hs : s < 3) (X : rc_XR fo sz pa da M) (h : post (nI (rc_cn (rc_gs M s) 512))) : wpX_total post (tp, fo, sz, pa, da, bu, wh, ta) (nI s) := by
  unfold wpX_total
  dsimp only
  exact ⟨5, rc_total4 hs X h 4 0 rfl⟩
theorem rc_gather19 {post : SX → Prop} {J : Int32 → Int32 → (Nat → Int32) → (Nat → Int32) → (Nat → Int32) → (Nat → Int32) → (Nat → Int32) → (Nat → Int32) → (Nat → Int32) → Prop} {x1 : Int32} {c : Nat} (hc : c < 4) (wh0 : Nat → Int32)
    (h : ∀ wh', (∀ j, j < 4 → wh' (4 * c + j) = bu j) → (∀ j, (j < 4 * c ∨ 4 * c + 4 ≤ j) → wh' j = wh0 j) → J (nI (c + 1)) tp fo sz pa da bu wh' ta) :
    ∀ m w, w + m = 4 → ∀ wh, (∀ j, j < w → wh (4 * c + j) = bu j) → (∀ j, (j < 4 * c ∨ 4 * c + 4 ≤ j) → wh j = wh0 j) → wX_gather_19 post J x1 (nI c) tp (m + 1) (nI w) fo sz pa da bu wh ta := by
  intro m
  induction m with
  | zero =>
    intro w hw wh hI hF
    have e : w = 4 := by omega
    subst e
    exact br_t (nI_le (Nat.le_refl 4) (by omega)) (nm_r (nI_1 c) (h wh hI hF))
  | succ m ih =>
    intro w hw wh hI hF
    have hle : ¬ 4 ≤ w := by omega
    rw [wX_gather_19]
    simp (disch := omega) only [nI_1, nI_add, rc_m2, rc_m4, rc_m8, rc_m32, rc_m128, rc_m512, rc_a128, rc_a4, rc_4a, rc_shr5, rc_shr7, rc_and31, rc_and127, nI_clamp, vp_in_nI, nI_leI, nI_ltI, nI_eq, rc_le4, rc_le16, rc_le128, rc_le512, rc_le511, rc_lt511, rc_lt2, rc_lt4, rc_lt8, rc_l128, rc_l511, rc_l0, rc_e0, rc_e1, false_implies, true_implies, not_false_eq_true, not_true_eq_false, true_and, and_true, implies_true, forall_eq, hle]
    refine ih (w + 1) (by omega) _ (fun j hj => ?_) (fun j hj => ?_)
    · by_cases c2 : j = w
      · subst c2; exact pk_us
      · rw [pk_un (by omega)]; exact hI j (by omega)
    · rw [pk_un (by omega)]; exact hF j hj
theorem rc_gather2 {post : SX → Prop} (hs : s < 3) (X : rc_XR fo sz pa da M)
    (h : ∀ bu' wh', (∀ y, y < 512 → rc_bo wh' 0 y = rc_gs M s y) → post (tp, fo, sz, pa, da, bu', wh', ta)) :
    ∀ m c, c + m = 4 → ∀ bu wh, (∀ y, y < 128 * c → rc_bo wh 0 y = rc_gs M s y) → wX_gather_2 post (nI s) (m + 1) (nI c) tp fo sz pa da bu wh ta := by
  intro m
  induction m with
  | zero =>
    intro c hc bu wh hI
    have e : c = 4 := by omega
    subst e
    exact br_t (nI_le (Nat.le_refl 4) (by omega)) (h bu wh hI)
  | succ m ih =>
    intro c hc bu wh hI
    have hle : ¬ 4 ≤ c := by omega
    rw [wX_gather_2]
    simp (disch := omega) only [nI_1, nI_add, rc_m2, rc_m4, rc_m8, rc_m32, rc_m128, rc_m512, rc_a128, rc_a4, rc_4a, rc_shr5, rc_shr7, rc_and31, rc_and127, nI_clamp, vp_in_nI, nI_leI, nI_ltI, nI_eq, rc_le4, rc_le16, rc_le128, rc_le512, rc_le511, rc_lt511, rc_lt2, rc_lt4, rc_lt8, rc_l128, rc_l511, rc_l0, rc_e0, rc_e1, false_implies, true_implies, not_false_eq_true, not_true_eq_false, true_and, and_true, implies_true, forall_eq, hle]
    refine rc_load (o := 0) (by omega) (by omega) (rc_XR_ch0 hs (show c < 4 by omega) X) (fun bu' h1 h2 => ?_)
    dsimp only
    refine ⟨5, rc_gather19 (by omega) wh (fun wh' w1 w2 => ?_) 4 0 rfl wh (fun j hj => absurd hj (Nat.not_lt_zero j)) (fun j _ => rfl)⟩
    refine ih (c + 1) (by omega) bu' wh' (fun y hy => ?_)
    by_cases c2 : y < 128 * c
    · rw [← hI y c2]
      unfold rc_bo
      rw [Nat.zero_add, w2 _ (by omega)]
    · have t := h1 (y - 128 * c) (by omega)
      rw [show 128 * c + (y - 128 * c) = y by omega] at t
      rw [← t]
      unfold rc_bo
      rw [Nat.zero_add, Nat.zero_add, show y / 32 = 4 * c + (y - 128 * c) / 32 by omega, w1 _ (by omega), show y % 32 = (y - 128 * c) % 32 by omega]
theorem rc_gather {post : SX → Prop} (hs : s < 3) (X : rc_XR fo sz pa da M)
    (h : ∀ bu' wh', (∀ y, y < 512 → rc_bo wh' 0 y = rc_gs M s y) → post (tp, fo, sz, pa, da, bu', wh', ta)) : wpX_gather post (tp, fo, sz, pa, da, bu, wh, ta) (nI s) := by
  unfold wpX_gather
  dsimp only
  exact ⟨5, rc_gather2 hs X h 4 0 rfl bu wh (fun y hy => absurd hy (by omega))⟩
theorem rc_spread9 {post : SX → Prop} {J : Int32 → Int32 → (Nat → Int32) → (Nat → Int32) → (Nat → Int32) → (Nat → Int32) → (Nat → Int32) → (Nat → Int32) → (Nat → Int32) → Prop} {x1 : Int32} {c : Nat} (hc : c < 4)
    (hX : ∀ n bu', (∀ j, j < 4 → bu' j = wh (4 * c + j)) → wX_spread_9 post J x1 (nI c) tp (n + 1) (nI 4) fo sz pa da bu' wh ta) :
    ∀ m w, w + m = 4 → ∀ bu, (∀ j, j < w → bu j = wh (4 * c + j)) → wX_spread_9 post J x1 (nI c) tp (m + 1) (nI w) fo sz pa da bu wh ta := by
  intro m
  induction m with
  | zero =>
    intro w hw bu hI
    have e : w = 4 := by omega
    subst e
    exact hX 0 bu hI
  | succ m ih =>
    intro w hw bu hI
    have hle : ¬ 4 ≤ w := by omega
    rw [wX_spread_9]
    simp (disch := omega) only [nI_1, nI_add, rc_m2, rc_m4, rc_m8, rc_m32, rc_m128, rc_m512, rc_a128, rc_a4, rc_4a, rc_shr5, rc_shr7, rc_and31, rc_and127, nI_clamp, vp_in_nI, nI_leI, nI_ltI, nI_eq, rc_le4, rc_le16, rc_le128, rc_le512, rc_le511, rc_lt511, rc_lt2, rc_lt4, rc_lt8, rc_l128, rc_l511, rc_l0, rc_e0, rc_e1, false_implies, true_implies, not_false_eq_true, not_true_eq_false, true_and, and_true, implies_true, forall_eq, hle]
    refine ih (w + 1) (by omega) _ (fun j hj => ?_)
    by_cases c2 : j = w
    · subst c2; exact pk_us
    · rw [pk_un (by omega)]; exact hI j (by omega)
theorem rc_spread2 {post : SX → Prop} {g : Nat → Bool} (hs : s < 3) (hw : ∀ y, y < 512 → rc_bo wh 0 y = g y)
    (h : ∀ fo' sz' pa' da' bu', rc_XR fo' sz' pa' da' (rc_pt M s 512 g) → post (tp, fo', sz', pa', da', bu', wh, ta)) :
    ∀ m c, c + m = 4 → ∀ fo sz pa da bu, rc_XR fo sz pa da (rc_pt M s (128 * c) g) → wX_spread_2 post (nI s) (m + 1) (nI c) tp fo sz pa da bu wh ta := by
  intro m
  induction m with
  | zero =>
    intro c hc fo sz pa da bu X
    have e : c = 4 := by omega
    subst e
    exact br_t (nI_le (Nat.le_refl 4) (by omega)) (h fo sz pa da bu X)
  | succ m ih =>
    intro c hc fo sz pa da bu X
    have hle : ¬ 4 ≤ c := by omega
    have l4 : (4 : Nat) ≤ 4 := Nat.le_refl 4
    rw [wX_spread_2]
    simp (disch := omega) only [nI_1, nI_add, rc_m2, rc_m4, rc_m8, rc_m32, rc_m128, rc_m512, rc_a128, rc_a4, rc_4a, rc_shr5, rc_shr7, rc_and31, rc_and127, nI_clamp, vp_in_nI, nI_leI, nI_ltI, nI_eq, rc_le4, rc_le16, rc_le128, rc_le512, rc_le511, rc_lt511, rc_lt2, rc_lt4, rc_lt8, rc_l128, rc_l511, rc_l0, rc_e0, rc_e1, false_implies, true_implies, not_false_eq_true, not_true_eq_false, true_and, and_true, implies_true, forall_eq, hle]
    refine ⟨5, rc_spread9 (by omega) (fun n bu' hI => ?_) 4 0 rfl bu (fun j hj => absurd hj (Nat.not_lt_zero j))⟩
    rw [wX_spread_9]
    simp (disch := omega) only [nI_1, nI_add, rc_m2, rc_m4, rc_m8, rc_m32, rc_m128, rc_m512, rc_a128, rc_a4, rc_4a, rc_shr5, rc_shr7, rc_and31, rc_and127, nI_clamp, vp_in_nI, nI_leI, nI_ltI, nI_eq, rc_le4, rc_le16, rc_le128, rc_le512, rc_le511, rc_lt511, rc_lt2, rc_lt4, rc_lt8, rc_l128, rc_l511, rc_l0, rc_e0, rc_e1, false_implies, true_implies, not_false_eq_true, not_true_eq_false, true_and, and_true, implies_true, forall_eq, l4]
    refine rc_save (b := fun y => g (128 * c + y)) (by omega) (fun y hy => ?_) (fun fo' sz' pa' da' C F => ?_)
    · rw [← hw _ (by omega)]
      unfold rc_bo
      rw [Nat.zero_add, Nat.zero_add, hI _ (by omega), show (128 * c + y) / 32 = 4 * c + y / 32 by omega, show (128 * c + y) % 32 = y % 32 by omega]
    · dsimp only
      exact ih (c + 1) (by omega) _ _ _ _ _ (rc_XR_next X C F (fun y _ => rfl))
theorem rc_spread {post : SX → Prop} {g : Nat → Bool} (hs : s < 3) (X : rc_XR fo sz pa da M) (hw : ∀ y, y < 512 → rc_bo wh 0 y = g y)
    (h : ∀ fo' sz' pa' da' bu', rc_XR fo' sz' pa' da' (rc_pt M s 512 g) → post (tp, fo', sz', pa', da', bu', wh, ta)) : wpX_spread post (tp, fo, sz, pa, da, bu, wh, ta) (nI s) := by
  unfold wpX_spread
  dsimp only
  refine ⟨5, rc_spread2 hs hw h 4 0 rfl fo sz pa da bu ?_⟩
  rw [Nat.mul_zero, rc_pt0]
  exact X
end
end
section
/-! ===== change, join, sow ===== -/
/-- fills (0), clears (1), flips (else) -/
def rc_op (h : Nat) (x : Bool) : Bool := if h = 0 then true else if h = 1 then false else !x
def rc_chg (h f l : Nat) (g : Nat → Bool) : Nat → Bool := fun x => if f ≤ x ∧ x ≤ l then rc_op h (g x) else g x
theorem rc_chg_ptlo (M : Nat → Bool) (s h f l n : Nat) (hn : n ≤ f) : rc_pt M s n (rc_chg h f l (rc_gs M s)) = M := by
  funext j
  unfold rc_pt
  by_cases c : 512 * s ≤ j ∧ j < 512 * s + n
  · rw [if_pos c]
    unfold rc_chg rc_gs
    rw [if_neg (by omega)]
    congr 1
    omega
  · rw [if_neg c]
theorem rc_chg_pthi (M : Nat → Bool) (s h f l n m : Nat) (hn : l < n) (hm : l < m) : rc_pt M s n (rc_chg h f l (rc_gs M s)) = rc_pt M s m (rc_chg h f l (rc_gs M s)) := by
  funext j
  unfold rc_pt
  by_cases c0 : 512 * s ≤ j ∧ j ≤ 512 * s + l
  · rw [if_pos (by omega), if_pos (by omega)]
  · have e : 512 * s ≤ j → rc_chg h f l (rc_gs M s) (j - 512 * s) = M j := by
      intro hj
      unfold rc_chg rc_gs
      rw [if_neg (by omega)]
      congr 1
      omega
    by_cases c : 512 * s ≤ j ∧ j < 512 * s + n
    · rw [if_pos c, e c.1]
      by_cases c2 : 512 * s ≤ j ∧ j < 512 * s + m
      · rw [if_pos c2]
      · rw [if_neg c2]
    · rw [if_neg c]
      by_cases c2 : 512 * s ≤ j ∧ j < 512 * s + m
      · rw [if_pos c2, e c2.1]
      · rw [if_neg c2]
section
variable {tp : Int32} {fo sz pa da bu wh ta : Nat → Int32}
variable {s : Nat} {M : Nat → Bool}
theorem rc_chg_w {b : Nat → Bool} {h p q w : Nat} {bu : Nat → Int32} {m v : Int32} (hh : h < 3) (hI : ∀ y, y < 128 → rc_bo bu 0 y = if p ≤ y ∧ y ≤ q ∧ y / 32 < w then rc_op h (b y) else b y)
    (hm : ∀ i, i < 32 → bt m i = (decide (p ≤ 32 * w + i) && decide (32 * w + i ≤ q)))
    (hv : (h = 0 ∧ v = bu w ||| m) ∨ (h = 1 ∧ v = bu w &&& (m ^^^ (-1))) ∨ (h = 2 ∧ v = bu w ^^^ m)) :
    ∀ y, y < 128 → rc_bo (upd bu w v) 0 y = if p ≤ y ∧ y ≤ q ∧ y / 32 < w + 1 then rc_op h (b y) else b y := by
  intro y hy
  have u := rc_bo_upd bu 0 w v y
  rw [Nat.zero_add] at u
  rw [u]
  by_cases c : y / 32 = w
  · rw [if_pos c]
    have t := hI y hy
    rw [if_neg (by omega)] at t
    unfold rc_bo at t
    rw [Nat.zero_add, c] at t
    have t2 := hm (y % 32) (by omega)
    rw [show 32 * w + y % 32 = y by omega] at t2
    have t3 := b_m1 (y % 32) (by omega)
    have z : bt v (y % 32) = if p ≤ y ∧ y ≤ q then rc_op h (b y) else b y := by
      by_cases c2 : p ≤ y ∧ y ≤ q
      · rw [if_pos c2]
        rw [decide_eq_true c2.1, decide_eq_true c2.2] at t2
        rcases hv with ⟨e1, e2⟩ | ⟨e1, e2⟩ | ⟨e1, e2⟩
        · rw [e2, b_or, t2, e1]; cases bt (bu w) (y % 32) <;> rfl
        · rw [e2, b_and, b_xor, t2, t3, e1]; cases bt (bu w) (y % 32) <;> rfl
        · rw [e2, b_xor, t2, t, e1]; cases b y <;> rfl
      · rw [if_neg c2]
        have t4 : bt m (y % 32) = false := by
          rw [t2]
          by_cases c3 : p ≤ y
          · rw [decide_eq_false (show ¬ y ≤ q by omega), Bool.and_false]
          · rw [decide_eq_false c3, Bool.false_and]
        rcases hv with ⟨e1, e2⟩ | ⟨e1, e2⟩ | ⟨e1, e2⟩
        · rw [e2, b_or, t4, t]; cases b y <;> rfl
        · rw [e2, b_and, b_xor, t4, t3, t]; cases b y <;> rfl
        · rw [e2, b_xor, t4, t]; cases b y <;> rfl
    rw [z]
    by_cases c2 : p ≤ y ∧ y ≤ q
    · rw [if_pos c2, if_pos (by omega)]
    · rw [if_neg c2, if_neg (by omega)]
  · rw [if_neg c, hI y hy]
    by_cases c2 : p ≤ y ∧ y ≤ q ∧ y / 32 < w
    · rw [if_pos c2, if_pos (by omega)]
    · rw [if_neg c2, if_neg (by omega)]
theorem rc_change87 {post : SX → Prop} {J : Int32 → Int32 → (Nat → Int32) → (Nat → Int32) → (Nat → Int32) → (Nat → Int32) → (Nat → Int32) → (Nat → Int32) → (Nat → Int32) → Prop} {x1 x2 x3 x5 : Int32} {b : Nat → Bool} {h p q : Nat} (hh : h < 3) (hpq : p ≤ q) (hq : q < 128)
    (hX : ∀ n bu', (∀ y, y < 128 → rc_bo bu' 0 y = if p ≤ y ∧ y ≤ q then rc_op h (b y) else b y) → wX_change_87 post J x1 x2 x3 (nI h) x5 (nI p) (nI q) tp (n + 1) (nI (q / 32 + 1)) fo sz pa da bu' wh ta) :
    ∀ m w, w + m = q / 32 + 1 → p / 32 ≤ w → ∀ bu, (∀ y, y < 128 → rc_bo bu 0 y = if p ≤ y ∧ y ≤ q ∧ y / 32 < w then rc_op h (b y) else b y) →
      wX_change_87 post J x1 x2 x3 (nI h) x5 (nI p) (nI q) tp (m + 1) (nI w) fo sz pa da bu wh ta := by
  intro m
  induction m with
  | zero =>
    intro w hw hpw bu hI
    have e : w = q / 32 + 1 := by omega
    subst e
    refine hX 0 bu (fun y hy => ?_)
    rw [hI y hy]
    by_cases c : p ≤ y ∧ y ≤ q
    · rw [if_pos c, if_pos (by omega)]
    · rw [if_neg c, if_neg (by omega)]
  | succ m ih =>
    intro w hw hpw bu hI
    have hle : ¬ q / 32 < w := by omega
    rw [wX_change_87]
    simp (disch := omega) only [nI_1, nI_add, rc_m2, rc_m4, rc_m8, rc_m32, rc_m128, rc_m512, rc_a128, rc_a4, rc_4a, rc_shr5, rc_shr7, rc_and31, rc_and127, nI_clamp, vp_in_nI, nI_leI, nI_ltI, nI_eq, rc_le4, rc_le16, rc_le128, rc_le512, rc_le511, rc_lt511, rc_lt2, rc_lt4, rc_lt8, rc_l128, rc_l511, rc_l0, rc_e0, rc_e1, false_implies, true_implies, not_false_eq_true, not_true_eq_false, true_and, and_true, implies_true, forall_eq, hle]
    refine rc_maskN (by omega) (by omega) (by omega) (fun v hv => ?_)
    refine br_c (fun c => ?_) (fun c => br_c (fun c2 => ?_) (fun c2 => ?_))
    · exact ih (w + 1) (by omega) (by omega) _ (rc_chg_w hh hI hv (Or.inl ⟨c, rfl⟩))
    · exact ih (w + 1) (by omega) (by omega) _ (rc_chg_w hh hI hv (Or.inr (Or.inl ⟨c2, rfl⟩)))
    · exact ih (w + 1) (by omega) (by omega) _ (rc_chg_w hh hI hv (Or.inr (Or.inr ⟨by omega, rfl⟩)))
theorem rc_change68 {post : SX → Prop} {J : Int32 → Int32 → (Nat → Int32) → (Nat → Int32) → (Nat → Int32) → (Nat → Int32) → (Nat → Int32) → (Nat → Int32) → (Nat → Int32) → Prop} {x2 x3 : Int32} {h c p q : Nat} {g : Nat → Bool} (hs : s < 3) (hc : c < 4) (hh : h < 3) (hpq : p ≤ q) (hq : q < 128)
    (X : rc_XR fo sz pa da (rc_pt M s (128 * c) g)) (hg : ∀ y, y < 128 → g (128 * c + y) = if p ≤ y ∧ y ≤ q then rc_op h (rc_gs M s (128 * c + y)) else rc_gs M s (128 * c + y))
    (hJ : ∀ fo' sz' pa' da' bu', rc_XR fo' sz' pa' da' (rc_pt M s (128 * (c + 1)) g) → J (nI (c + 1)) tp fo' sz' pa' da' bu' wh ta) :
    wX_change_68 post J (nI s) x2 x3 (nI h) (nI c) (nI p) (nI q) tp fo sz pa da bu wh ta := by
  unfold wX_change_68
  simp (disch := omega) only [nI_1, nI_add, rc_m2, rc_m4, rc_m8, rc_m32, rc_m128, rc_m512, rc_a128, rc_a4, rc_4a, rc_shr5, rc_shr7, rc_and31, rc_and127, nI_clamp, vp_in_nI, nI_leI, nI_ltI, nI_eq, rc_le4, rc_le16, rc_le128, rc_le512, rc_le511, rc_lt511, rc_lt2, rc_lt4, rc_lt8, rc_l128, rc_l511, rc_l0, rc_e0, rc_e1, false_implies, true_implies, not_false_eq_true, not_true_eq_false, true_and, and_true, implies_true, forall_eq]
  refine rc_load (o := 0) (by omega) (by omega) (rc_XR_chunk hs hc X) (fun bu' h1 h2 => ?_)
  dsimp only
  refine ⟨_, rc_change87 (b := fun y => rc_gs M s (128 * c + y)) hh hpq hq ?_ (q / 32 + 1 - p / 32) (p / 32) (by omega) (Nat.le_refl _) bu' (fun y hy => ?_)⟩
  · intro n bu2 hb
    have hlt : q / 32 < q / 32 + 1 := Nat.lt_succ_self _
    rw [wX_change_87]
    simp (disch := omega) only [nI_1, nI_add, rc_m2, rc_m4, rc_m8, rc_m32, rc_m128, rc_m512, rc_a128, rc_a4, rc_4a, rc_shr5, rc_shr7, rc_and31, rc_and127, nI_clamp, vp_in_nI, nI_leI, nI_ltI, nI_eq, rc_le4, rc_le16, rc_le128, rc_le512, rc_le511, rc_lt511, rc_lt2, rc_lt4, rc_lt8, rc_l128, rc_l511, rc_l0, rc_e0, rc_e1, false_implies, true_implies, not_false_eq_true, not_true_eq_false, true_and, and_true, implies_true, forall_eq, hlt]
    refine rc_save (by omega) hb (fun fo' sz' pa' da' C F => ?_)
    dsimp only
    exact hJ _ _ _ _ _ (rc_XR_next X C F (fun y hy => (hg y hy).symm))
  · rw [h1 y hy, if_neg (by omega)]
theorem rc_change6 {post : SX → Prop} {h f l : Nat} (hs : s < 3) (hfl : f ≤ l) (hl : l < 512) (hh : h < 3)
    (hp : ∀ fo' sz' pa' da' bu', rc_XR fo' sz' pa' da' (rc_pt M s 512 (rc_chg h f l (rc_gs M s))) → post (tp, fo', sz', pa', da', bu', wh, ta)) :
    ∀ m c, c + m = l / 128 + 1 → f / 128 ≤ c → ∀ fo sz pa da bu, rc_XR fo sz pa da (rc_pt M s (128 * c) (rc_chg h f l (rc_gs M s))) → wX_change_6 post (nI s) (nI f) (nI l) (nI h) (m + 1) (nI c) tp fo sz pa da bu wh ta := by
  intro m
  induction m with
  | zero =>
    intro c hc hfc fo sz pa da bu X
    have hlt : l / 128 < c := by omega
    rw [wX_change_6]
    simp (disch := omega) only [nI_1, nI_add, rc_m2, rc_m4, rc_m8, rc_m32, rc_m128, rc_m512, rc_a128, rc_a4, rc_4a, rc_shr5, rc_shr7, rc_and31, rc_and127, nI_clamp, vp_in_nI, nI_leI, nI_ltI, nI_eq, rc_le4, rc_le16, rc_le128, rc_le512, rc_le511, rc_lt511, rc_lt2, rc_lt4, rc_lt8, rc_l128, rc_l511, rc_l0, rc_e0, rc_e1, false_implies, true_implies, not_false_eq_true, not_true_eq_false, true_and, and_true, implies_true, forall_eq, hlt]
    rw [rc_chg_pthi M s h f l (128 * c) 512 (by omega) (by omega)] at X
    exact hp _ _ _ _ _ X
  | succ m ih =>
    intro c hc hfc fo sz pa da bu X
    have hlt : ¬ l / 128 < c := by omega
    rw [wX_change_6]
    simp (disch := omega) only [nI_1, nI_add, rc_m2, rc_m4, rc_m8, rc_m32, rc_m128, rc_m512, rc_a128, rc_a4, rc_4a, rc_shr5, rc_shr7, rc_and31, rc_and127, nI_clamp, vp_in_nI, nI_leI, nI_ltI, nI_eq, rc_le4, rc_le16, rc_le128, rc_le512, rc_le511, rc_lt511, rc_lt2, rc_lt4, rc_lt8, rc_l128, rc_l511, rc_l0, rc_e0, rc_e1, false_implies, true_implies, not_false_eq_true, not_true_eq_false, true_and, and_true, implies_true, forall_eq, hlt]
    have K : ∀ p q, p = (if f ≤ 128 * c then 0 else f - 128 * c) → q = (if 128 * c + 127 ≤ l then 127 else l - 128 * c) →
        wX_change_68 post (wX_change_6 post (nI s) (nI f) (nI l) (nI h) (m + 1)) (nI s) (nI f) (nI l) (nI h) (nI c) (nI p) (nI q) tp fo sz pa da bu wh ta := by
      intro p q ep eq
      have hp1 : p ≤ q ∧ q < 128 := by
        rw [ep, eq]
        by_cases c1 : f ≤ 128 * c <;> by_cases c2 : 128 * c + 127 ≤ l <;> simp only [c1, c2, if_true, if_false] <;> omega
      refine rc_change68 hs (by omega) hh hp1.1 hp1.2 X (fun y hy => ?_) (fun fo' sz' pa' da' bu' X' => ih (c + 1) (by omega) (by omega) _ _ _ _ _ X')
      show (if f ≤ 128 * c + y ∧ 128 * c + y ≤ l then _ else _) = _
      have e : (f ≤ 128 * c + y ∧ 128 * c + y ≤ l) ↔ (p ≤ y ∧ y ≤ q) := by
        rw [ep, eq]
        by_cases c1 : f ≤ 128 * c <;> by_cases c2 : 128 * c + 127 ≤ l <;> simp only [c1, c2, if_true, if_false] <;> omega
      by_cases c3 : p ≤ y ∧ y ≤ q
      · rw [if_pos c3, if_pos (e.mpr c3)]
      · rw [if_neg c3, if_neg (fun z => c3 (e.mp z))]
    have K2 : ∀ p, p = (if f ≤ 128 * c then 0 else f - 128 * c) → wX_change_37 post (wX_change_6 post (nI s) (nI f) (nI l) (nI h) (m + 1)) (nI s) (nI f) (nI l) (nI h) (nI c) (nI p) tp fo sz pa da bu wh ta := by
      intro p ep
      unfold wX_change_37
      simp (disch := omega) only [nI_1, nI_add, rc_m2, rc_m4, rc_m8, rc_m32, rc_m128, rc_m512, rc_a128, rc_a4, rc_4a, rc_shr5, rc_shr7, rc_and31, rc_and127, nI_clamp, vp_in_nI, nI_leI, nI_ltI, nI_eq, rc_le4, rc_le16, rc_le128, rc_le512, rc_le511, rc_lt511, rc_lt2, rc_lt4, rc_lt8, rc_l128, rc_l511, rc_l0, rc_e0, rc_e1, false_implies, true_implies, not_false_eq_true, not_true_eq_false, true_and, and_true, implies_true, forall_eq, rc_s1]
      by_cases c2 : 128 * c + 127 ≤ l
      · refine br_t (by omega) ?_
        exact K p 127 ep (by rw [if_pos c2])
      · refine br_f (by omega) ?_
        rw [pk_sub (by omega)]
        exact K p _ ep (by rw [if_neg c2])
    by_cases c1 : f ≤ 128 * c
    · exact br_t c1 (K2 0 (by rw [if_pos c1]))
    · refine br_f c1 ?_
      rw [pk_sub (by omega)]
      exact K2 _ (by rw [if_neg c1])
theorem rc_change {post : SX → Prop} {h f l : Nat} (hs : s < 3) (hfl : f ≤ l) (hl : l < 512) (hh : h < 3) (X : rc_XR fo sz pa da M)
    (hp : ∀ fo' sz' pa' da' bu', rc_XR fo' sz' pa' da' (rc_pt M s 512 (rc_chg h f l (rc_gs M s))) → post (tp, fo', sz', pa', da', bu', wh, ta)) : wpX_change post (tp, fo, sz, pa, da, bu, wh, ta) (nI s) (nI f) (nI l) (nI h) := by
  unfold wpX_change
  dsimp only
  refine nm_r (rc_shr7 (by omega)) ⟨_, rc_change6 hs hfl hl hh hp (l / 128 + 1 - f / 128) (f / 128) (by omega) (Nat.le_refl _) fo sz pa da bu ?_⟩
  rw [rc_chg_ptlo M s h f l _ (by omega)]
  exact X
/-! join -/
def rc_cmb (kd : Nat) (x y : Bool) : Bool := if kd = 0 then x && y else if kd = 1 then x || y else if kd = 2 then x ^^ y else x && !y
theorem rc_combine {post : Int32 → Prop} {kd : Nat} (hk : kd < 4) (x y : Int32) (h : ∀ v, (∀ i, i < 32 → bt v i = rc_cmb kd (bt x i) (bt y i)) → post v) : wpX_combine post (nI kd) x y := by
  unfold wpX_combine
  refine pk_eq kd 0 (fun c => h _ (fun i hi => ?_)) (fun c => pk_eq kd 1 (fun c1 => h _ (fun i hi => ?_)) (fun c1 => pk_eq kd 2 (fun c2 => h _ (fun i hi => ?_)) (fun c2 => h _ (fun i hi => ?_))))
  · subst c; exact b_and x y i
  · subst c1; exact b_or x y i
  · subst c2; exact b_xor x y i
  · unfold rc_cmb
    rw [if_neg c, if_neg c1, if_neg c2, b_and, b_xor, b_m1 i hi]
    cases bt x i <;> cases bt y i <;> rfl
theorem rc_join62 {post : Int32 → SX → Prop} {J : Int32 → Int32 → (Nat → Int32) → (Nat → Int32) → (Nat → Int32) → (Nat → Int32) → (Nat → Int32) → (Nat → Int32) → (Nat → Int32) → Prop} {x2 x3 x4 : Int32} {ba bb : Nat → Bool} {kd : Nat} (hk : kd < 4)
    (hX : ∀ n bu', (∀ y, y < 128 → rc_bo bu' 0 y = rc_cmb kd (ba y) (bb y)) → wX_join_62 post J (nI kd) x2 x3 x4 tp (n + 1) (nI 4) fo sz pa da bu' wh ta) :
    ∀ m w, w + m = 4 → ∀ bu, (∀ y, y < 128 → rc_bo bu 0 y = if y / 32 < w then rc_cmb kd (ba y) (bb y) else ba y) → (∀ y, y < 128 → rc_bo bu 4 y = bb y) →
      wX_join_62 post J (nI kd) x2 x3 x4 tp (m + 1) (nI w) fo sz pa da bu wh ta := by
  intro m
  induction m with
  | zero =>
    intro w hw bu hA hB
    have e : w = 4 := by omega
    subst e
    exact hX 0 bu (fun y hy => by rw [hA y hy, if_pos (by omega)])
  | succ m ih =>
    intro w hw bu hA hB
    have hle : ¬ 4 ≤ w := by omega
    rw [wX_join_62]
    simp (disch := omega) only [nI_1, nI_add, rc_m2, rc_m4, rc_m8, rc_m32, rc_m128, rc_m512, rc_a128, rc_a4, rc_4a, rc_shr5, rc_shr7, rc_and31, rc_and127, nI_clamp, vp_in_nI, nI_leI, nI_ltI, nI_eq, rc_le4, rc_le16, rc_le128, rc_le512, rc_le511, rc_lt511, rc_lt2, rc_lt4, rc_lt8, rc_l128, rc_l511, rc_l0, rc_e0, rc_e1, false_implies, true_implies, not_false_eq_true, not_true_eq_false, true_and, and_true, implies_true, forall_eq, hle]
    refine rc_combine hk _ _ (fun v hv => ?_)
    refine ih (w + 1) (by omega) _ (fun y hy => ?_) (fun y hy => ?_)
    · have u := rc_bo_upd bu 0 w v y
      rw [Nat.zero_add] at u
      rw [u]
      by_cases c : y / 32 = w
      · rw [if_pos c, if_pos (by omega), hv _ (by omega)]
        have t1 := hA y hy
        have t2 := hB y hy
        rw [if_neg (by omega)] at t1
        unfold rc_bo at t1 t2
        rw [Nat.zero_add] at t1
        rw [c] at t1 t2
        rw [t1, t2]
      · rw [if_neg c, hA y hy]
        by_cases c2 : y / 32 < w
        · rw [if_pos c2, if_pos (by omega)]
        · rw [if_neg c2, if_neg (by omega)]
    · rw [rc_bo_ne _ _ _ _ _ (by omega)]
      exact hB y hy
theorem rc_join31 {post : Int32 → SX → Prop} {kd a t : Nat} (hk : kd < 4) (ha : a < 3) (ht : t < 3)
    (hp : ∀ fo' sz' pa' da' bu', rc_XR fo' sz' pa' da' (rc_pt M a 512 (fun x => rc_cmb kd (rc_gs M a x) (rc_gs M t x))) → post (nI (rc_cn (fun x => rc_cmb kd (rc_gs M a x) (rc_gs M t x)) 512)) (tp, fo', sz', pa', da', bu', wh, ta)) :
    ∀ m c, c + m = 4 → ∀ fo sz pa da bu, rc_XR fo sz pa da (rc_pt M a (128 * c) (fun x => rc_cmb kd (rc_gs M a x) (rc_gs M t x))) → wX_join_31 post (nI kd) (nI a) (nI t) (m + 1) (nI c) tp fo sz pa da bu wh ta := by
  intro m
  induction m with
  | zero =>
    intro c hc fo sz pa da bu X
    have e : c = 4 := by omega
    subst e
    refine br_t (nI_le (Nat.le_refl 4) (by omega)) (rc_total ha X ?_)
    rw [show 128 * 4 = 512 from rfl, rc_gs_cn]
    exact hp _ _ _ _ _ X
  | succ m ih =>
    intro c hc fo sz pa da bu X
    have hle : ¬ 4 ≤ c := by omega
    rw [wX_join_31]
    simp (disch := omega) only [nI_1, nI_add, rc_m2, rc_m4, rc_m8, rc_m32, rc_m128, rc_m512, rc_a128, rc_a4, rc_4a, rc_shr5, rc_shr7, rc_and31, rc_and127, nI_clamp, vp_in_nI, nI_leI, nI_ltI, nI_eq, rc_le4, rc_le16, rc_le128, rc_le512, rc_le511, rc_lt511, rc_lt2, rc_lt4, rc_lt8, rc_l128, rc_l511, rc_l0, rc_e0, rc_e1, false_implies, true_implies, not_false_eq_true, not_true_eq_false, true_and, and_true, implies_true, forall_eq, hle]
    refine rc_load (o := 0) (by omega) (by omega) (rc_XR_chunk ha (show c < 4 by omega) X) (fun bu1 h1 h2 => ?_)
    dsimp only
    refine rc_load (o := 4) (by omega) (by omega) (rc_XR_chunk ht (show c < 4 by omega) X) (fun bu2 h3 h4 => ?_)
    dsimp only
    refine ⟨5, rc_join62 (ba := fun y => rc_gs M a (128 * c + y)) (bb := fun y => rc_gs M t (128 * c + y)) hk (fun n bu3 hb => ?_) 4 0 rfl bu2 (fun y hy => ?_) h3⟩
    · have l4 : (4 : Nat) ≤ 4 := Nat.le_refl 4
      rw [wX_join_62]
      simp (disch := omega) only [nI_1, nI_add, rc_m2, rc_m4, rc_m8, rc_m32, rc_m128, rc_m512, rc_a128, rc_a4, rc_4a, rc_shr5, rc_shr7, rc_and31, rc_and127, nI_clamp, vp_in_nI, nI_leI, nI_ltI, nI_eq, rc_le4, rc_le16, rc_le128, rc_le512, rc_le511, rc_lt511, rc_lt2, rc_lt4, rc_lt8, rc_l128, rc_l511, rc_l0, rc_e0, rc_e1, false_implies, true_implies, not_false_eq_true, not_true_eq_false, true_and, and_true, implies_true, forall_eq, l4]
      refine rc_save (by omega) hb (fun fo' sz' pa' da' C F => ?_)
      dsimp only
      exact ih (c + 1) (by omega) _ _ _ _ _ (rc_XR_next X C F (fun y hy => rfl))
    · rw [if_neg (by omega), ← h1 y hy]
      unfold rc_bo
      rw [h4 _ (by omega)]
/-! sow -/
def rc_sw (g : Nat → Bool) (f st : Nat) : Nat → Nat → Bool
  | 0 => g
  | k + 1 => fun x => if x = f + k * st then true else rc_sw g f st k x
theorem rc_sw_hi (g : Nat → Bool) (f st k : Nat) (h : 511 < f + k * st) : ∀ d x, x < 512 → rc_sw g f st (k + d) x = rc_sw g f st k x := by
  intro d
  induction d with
  | zero => intro x hx; rfl
  | succ d ih =>
    intro x hx
    show (if x = f + (k + d) * st then true else rc_sw g f st (k + d) x) = _
    have e : (k + d) * st = k * st + d * st := Nat.add_mul k d st
    rw [if_neg (by omega)]
    exact ih x hx
theorem rc_sow134 {post : Int32 → SX → Prop} {g : Nat → Bool} (hs : s < 3) (X : rc_XR fo sz pa da M) (hw : ∀ y, y < 512 → rc_bo wh 0 y = g y)
    (hp : ∀ fo' sz' pa' da' bu' wh', rc_XR fo' sz' pa' da' (rc_pt M s 512 g) → post (nI (rc_cn g 512)) (tp, fo', sz', pa', da', bu', wh', ta)) : wX_sow_134 post (nI s) tp fo sz pa da bu wh ta := by
  unfold wX_sow_134
  refine rc_spread hs X hw (fun fo' sz' pa' da' bu' X' => ?_)
  dsimp only
  refine rc_total hs X' ?_
  rw [rc_gs_cn]
  exact hp _ _ _ _ _ _ X'
theorem rc_pt_congr (M : Nat → Bool) (s n : Nat) {g g' : Nat → Bool} (h : ∀ x, x < n → g x = g' x) : rc_pt M s n g = rc_pt M s n g' := by
  funext j
  unfold rc_pt
  by_cases c : 512 * s ≤ j ∧ j < 512 * s + n
  · rw [if_pos c, if_pos c, h _ (by omega)]
  · rw [if_neg c, if_neg c]
theorem rc_sow80 {post : Int32 → SX → Prop} {g : Nat → Bool} {f st cnt : Nat} (hs : s < 3) (hst : st ≤ 100) (hcnt : cnt ≤ 200) (X : rc_XR fo sz pa da M)
    (hp : ∀ fo' sz' pa' da' bu' wh', rc_XR fo' sz' pa' da' (rc_pt M s 512 (rc_sw g f st cnt)) → post (nI (rc_cn (rc_sw g f st cnt) 512)) (tp, fo', sz', pa', da', bu', wh', ta)) :
    ∀ m k, k + m = cnt → f + k * st ≤ 611 → ∀ wh, (∀ y, y < 512 → rc_bo wh 0 y = rc_sw g f st k y) → wX_sow_80 post (nI s) (nI st) (nI cnt) tp (m + 1) (nI (f + k * st)) (nI k) fo sz pa da bu wh ta := by
  intro m
  induction m with
  | zero =>
    intro k hk hat wh hI
    have e : k = cnt := by omega
    subst e
    exact br_t (nI_le (Nat.le_refl k) (by omega)) (rc_sow134 hs X hI hp)
  | succ m ih =>
    intro k hk hat wh hI
    have hle : ¬ cnt ≤ k := by omega
    rw [wX_sow_80]
    by_cases c : 511 < f + k * st
    · simp (disch := omega) only [nI_1, nI_add, rc_m2, rc_m4, rc_m8, rc_m32, rc_m128, rc_m512, rc_a128, rc_a4, rc_4a, rc_shr5, rc_shr7, rc_and31, rc_and127, nI_clamp, vp_in_nI, nI_leI, nI_ltI, nI_eq, rc_le4, rc_le16, rc_le128, rc_le512, rc_le511, rc_lt511, rc_lt2, rc_lt4, rc_lt8, rc_l128, rc_l511, rc_l0, rc_e0, rc_e1, false_implies, true_implies, not_false_eq_true, not_true_eq_false, true_and, and_true, implies_true, forall_eq, hle, c]
      refine rc_sow134 (g := rc_sw g f st cnt) hs X (fun y hy => ?_) hp
      rw [hI y hy, ← hk]
      exact (rc_sw_hi g f st k c _ y hy).symm
    · simp (disch := omega) only [nI_1, nI_add, rc_m2, rc_m4, rc_m8, rc_m32, rc_m128, rc_m512, rc_a128, rc_a4, rc_4a, rc_shr5, rc_shr7, rc_and31, rc_and127, nI_clamp, vp_in_nI, nI_leI, nI_ltI, nI_eq, rc_le4, rc_le16, rc_le128, rc_le512, rc_le511, rc_lt511, rc_lt2, rc_lt4, rc_lt8, rc_l128, rc_l511, rc_l0, rc_e0, rc_e1, false_implies, true_implies, not_false_eq_true, not_true_eq_false, true_and, and_true, implies_true, forall_eq, hle, c]
      have e : f + k * st + st = f + (k + 1) * st := by rw [Nat.succ_mul, Nat.add_assoc]
      rw [e]
      refine ih (k + 1) (by omega) (by omega) _ (fun y hy => ?_)
      have u := rc_bo_set wh 0 (f + k * st) y
      rw [Nat.zero_add] at u
      rw [u, hI y hy]
      show _ = (if y = f + k * st then true else rc_sw g f st k y)
      by_cases c2 : y = f + k * st
      · rw [if_pos c2, decide_eq_true c2, Bool.or_true]
      · rw [if_neg c2, decide_eq_false c2, Bool.or_false]
end
end
section
/-! ===== shift ===== -/
/-- g beyond its bounds: nothing -/
def rc_ex (g : Nat → Bool) (z : Int) : Bool := decide (0 ≤ z) && decide (z < 512) && g z.toNat
theorem rc_ex_in {g : Nat → Bool} {z : Int} {n : Nat} (h : z = (n : Int)) (hn : n < 512) : rc_ex g z = g n := by
  unfold rc_ex
  rw [h, decide_eq_true (by omega), decide_eq_true (by omega), Int.toNat_natCast]
  rfl
theorem rc_ex_out {g : Nat → Bool} {z : Int} (h : z < 0 ∨ 512 ≤ z) : rc_ex g z = false := by
  unfold rc_ex
  rcases h with h | h
  · rw [decide_eq_false (by omega)]; rfl
  · rw [decide_eq_false (show ¬ z < 512 by omega), Bool.and_false]; rfl
theorem rc_and31I (x : Int32) : ∃ o : Nat, o < 32 ∧ x &&& 31 = nI o ∧ x.toInt % 32 = (o : Int) := by
  refine ⟨x.toBitVec.toNat % 2 ^ 5, Nat.mod_lt _ (by decide), pk_and x 5 (by decide), ?_⟩
  have e : x.toInt = x.toBitVec.toInt := rfl
  have h := BitVec.toInt_eq_toNat_cond x.toBitVec
  have hl := x.toBitVec.isLt
  rw [e, h]
  split <;> omega
theorem rc_shr5I (x : Int32) : (x >>> ((5 : Int32) &&& 31)).toInt = x.toInt / 32 := by
  rw [pk_shr x _ 5 (by decide), Int.shiftRight_eq_div_pow]
  rfl
theorem rc_lit (a : Nat) (h : a < 2 ^ 31) : (nI a).toInt = (a : Int) := nI_toInt h
section
variable {tp : Int32} {fo sz pa da bu wh ta : Nat → Int32}
variable {s : Nat} {M : Nat → Bool}
theorem rc_wordAt {post : Int32 → Prop} {g : Nat → Bool} (hw : ∀ y, y < 512 → rc_bo wh 0 y = g y) (p : Int32)
    (h : ∀ v, (∀ i, i < 32 → bt v i = rc_ex g (p.toInt + (i : Int))) → post v) : wpX_wordAt post (tp, fo, sz, pa, da, bu, wh, ta) p := by
  unfold wpX_wordAt
  dsimp only
  obtain ⟨o, ho, e1, e2⟩ := rc_and31I p
  have e3 := rc_shr5I p
  generalize hP : p.toInt = P at *
  have hb1 := p.le_toInt
  have hb2 := p.toInt_lt
  rw [hP] at hb1 hb2
  rw [e1]
  generalize hx : p >>> ((5 : Int32) &&& 31) = x at *
  have hW : P = 32 * (P / 32) + (o : Int) := by omega
  generalize hWd : P / 32 = W at *
  have z0 : (0 : Int32).toInt = 0 := by decide
  have z16 : (16 : Int32).toInt = 16 := by decide
  have z15 : (15 : Int32).toInt = 15 := by decide
  have zm : (-1 : Int32).toInt = -1 := by decide
  have word : ∀ n, n < 16 → ∀ i, i < 32 → bt (wh n) i = g (32 * n + i) := by
    intro n hn i hi
    rw [← hw _ (by omega)]
    unfold rc_bo
    rw [Nat.zero_add, show (32 * n + i) / 32 = n by omega, show (32 * n + i) % 32 = i by omega]
  have K54 : ∀ lo hi : Int32, (∀ i, i < 32 → bt lo i = rc_ex g (32 * W + (i : Int))) → (∀ i, i < 32 → bt hi i = rc_ex g (32 * W + 32 + (i : Int))) → wX_wordAt_54 post (nI o) lo hi tp fo sz pa da bu wh ta := by
    intro lo hi hlo hhi
    unfold wX_wordAt_54
    refine pk_eq o 0 (fun c => h _ (fun i hi2 => ?_)) (fun c => h _ (fun i hi2 => ?_))
    · rw [hlo i hi2]
      congr 1
      omega
    · have e32 : (32 : Int32) - nI o = nI (32 - o) := pk_sub (a := 32) (by omega)
      rw [e32, b_or, b_ushr o ho, b_shl (32 - o) (by omega) hi hi2]
      by_cases c2 : o + i < 32
      · rw [hlo _ c2, decide_eq_false (show ¬ 32 - o ≤ i by omega), Bool.false_and, Bool.or_false]
        congr 1
        omega
      · rw [b_big (by omega), decide_eq_true (show 32 - o ≤ i by omega), Bool.true_and, Bool.false_or, hhi _ (by omega)]
        congr 1
        omega
  have K29 : ∀ lo : Int32, (∀ i, i < 32 → bt lo i = rc_ex g (32 * W + (i : Int))) → wX_wordAt_29 post x (nI o) lo tp fo sz pa da bu wh ta := by
    intro lo hlo
    unfold wX_wordAt_29 wX_wordAt_53
    refine br_c (fun c => K54 lo 0 hlo (fun i hi => ?_)) (fun c => br_c (fun c2 => K54 lo 0 hlo (fun i hi => ?_)) (fun c2 => ?_))
    · rw [Int32.lt_iff_toInt_lt, e3, zm] at c
      rw [b_0, rc_ex_out (by omega)]
    · rw [Int32.le_iff_toInt_le, e3, z15] at c2
      rw [b_0, rc_ex_out (by omega)]
    · rw [Int32.lt_iff_toInt_lt, e3, zm] at c
      rw [Int32.le_iff_toInt_le, e3, z15] at c2
      obtain ⟨n, hn⟩ : ∃ n : Nat, W = (n : Int) - 1 := ⟨(W + 1).toNat, by omega⟩
      have ex : x + 1 = nI n := by
        apply Int32.toInt_inj.mp
        rw [nI_toInt (by omega), Int32.toInt_add, e3, show (1 : Int32).toInt = 1 from by decide, hn]
        rw [show (n : Int) - 1 + 1 = (n : Int) by omega]
        exact Int.bmod_eq_of_le (by omega) (by omega)
      rw [ex, nI_clamp (by omega)]
      refine ⟨vp_in_nI (by omega) (by omega), K54 lo _ hlo (fun i hi => ?_)⟩
      rw [word n (by omega) i hi, rc_ex_in (n := 32 * n + i) (by omega) (by omega)]
  refine nm_e (nm_e ?_)
  refine br_c (fun c => ?_) (fun c => br_c (fun c2 => ?_) (fun c2 => ?_))
  · unfold wX_wordAt_28
    refine K29 0 (fun i hi => ?_)
    rw [Int32.lt_iff_toInt_lt, e3, z0] at c
    rw [b_0, rc_ex_out (by omega)]
  · unfold wX_wordAt_28
    refine K29 0 (fun i hi => ?_)
    rw [Int32.le_iff_toInt_le, e3, z16] at c2
    rw [b_0, rc_ex_out (by omega)]
  · rw [Int32.lt_iff_toInt_lt, e3, z0] at c
    rw [Int32.le_iff_toInt_le, e3, z16] at c2
    obtain ⟨n, hn⟩ : ∃ n : Nat, W = (n : Int) := ⟨W.toNat, by omega⟩
    have ex : x = nI n := by
      apply Int32.toInt_inj.mp
      rw [nI_toInt (by omega), e3, hn]
    rw [ex] at K29 ⊢
    rw [nI_clamp (by omega)]
    refine ⟨vp_in_nI (by omega) (by omega), K29 _ (fun i hi => ?_)⟩
    rw [word n (by omega) i hi, rc_ex_in (n := 32 * n + i) (by omega) (by omega)]
/-- set g moved by d -/
def rc_sf (g : Nat → Bool) (d : Int) : Nat → Bool := fun x => rc_ex g ((x : Int) - d)
theorem rc_shift41 {post : Int32 → SX → Prop} {J : Int32 → Int32 → (Nat → Int32) → (Nat → Int32) → (Nat → Int32) → (Nat → Int32) → (Nat → Int32) → (Nat → Int32) → (Nat → Int32) → Prop} {x1 d : Int32} {g : Nat → Bool} {c : Nat} (hc : c < 4) (hd : -511 ≤ d.toInt ∧ d.toInt ≤ 511) (hw : ∀ y, y < 512 → rc_bo wh 0 y = g y)
    (hX : ∀ n bu', (∀ y, y < 128 → rc_bo bu' 0 y = rc_sf g d.toInt (128 * c + y)) → wX_shift_41 post J x1 d (nI c) tp (n + 1) (nI 4) fo sz pa da bu' wh ta) :
    ∀ m w, w + m = 4 → ∀ bu, (∀ y, y < 32 * w → rc_bo bu 0 y = rc_sf g d.toInt (128 * c + y)) → wX_shift_41 post J x1 d (nI c) tp (m + 1) (nI w) fo sz pa da bu wh ta := by
  intro m
  induction m with
  | zero =>
    intro w hw bu hI
    have e : w = 4 := by omega
    subst e
    exact hX 0 bu hI
  | succ m ih =>
    intro w hw2 bu hI
    have hle : ¬ 4 ≤ w := by omega
    rw [wX_shift_41]
    simp (disch := omega) only [nI_1, nI_add, rc_m2, rc_m4, rc_m8, rc_m32, rc_m128, rc_m512, rc_a128, rc_a4, rc_4a, rc_shr5, rc_shr7, rc_and31, rc_and127, nI_clamp, vp_in_nI, nI_leI, nI_ltI, nI_eq, rc_le4, rc_le16, rc_le128, rc_le512, rc_le511, rc_lt511, rc_lt2, rc_lt4, rc_lt8, rc_l128, rc_l511, rc_l0, rc_e0, rc_e1, false_implies, true_implies, not_false_eq_true, not_true_eq_false, true_and, and_true, implies_true, forall_eq, hle]
    refine rc_wordAt hw _ (fun v hv => ?_)
    have et : (nI (32 * (4 * c + w)) - d).toInt = ((32 * (4 * c + w) : Nat) : Int) - d.toInt := by
      rw [Int32.toInt_sub, nI_toInt (by omega)]
      exact Int.bmod_eq_of_le (by omega) (by omega)
    rw [et] at hv
    refine ih (w + 1) (by omega) _ (fun y hy => ?_)
    have u := rc_bo_upd bu 0 w v y
    rw [Nat.zero_add] at u
    rw [u]
    by_cases c2 : y / 32 = w
    · rw [if_pos c2, hv _ (by omega)]
      unfold rc_sf
      congr 1
      omega
    · rw [if_neg c2]
      exact hI y (by omega)
theorem rc_shift33 {post : Int32 → SX → Prop} {d : Int32} {g : Nat → Bool} (hs : s < 3) (hd : -511 ≤ d.toInt ∧ d.toInt ≤ 511) (hw : ∀ y, y < 512 → rc_bo wh 0 y = g y)
    (hp : ∀ fo' sz' pa' da' bu', rc_XR fo' sz' pa' da' (rc_pt M s 512 (rc_sf g d.toInt)) → post (nI (rc_cn (rc_sf g d.toInt) 512)) (tp, fo', sz', pa', da', bu', wh, ta)) :
    ∀ m c, c + m = 4 → ∀ fo sz pa da bu, rc_XR fo sz pa da (rc_pt M s (128 * c) (rc_sf g d.toInt)) → wX_shift_33 post (nI s) d (m + 1) (nI c) tp fo sz pa da bu wh ta := by
  intro m
  induction m with
  | zero =>
    intro c hc fo sz pa da bu X
    have e : c = 4 := by omega
    subst e
    refine br_t (nI_le (Nat.le_refl 4) (by omega)) (rc_total hs X ?_)
    rw [show 128 * 4 = 512 from rfl, rc_gs_cn]
    exact hp _ _ _ _ _ X
  | succ m ih =>
    intro c hc fo sz pa da bu X
    have hle : ¬ 4 ≤ c := by omega
    rw [wX_shift_33]
    simp (disch := omega) only [nI_1, nI_add, rc_m2, rc_m4, rc_m8, rc_m32, rc_m128, rc_m512, rc_a128, rc_a4, rc_4a, rc_shr5, rc_shr7, rc_and31, rc_and127, nI_clamp, vp_in_nI, nI_leI, nI_ltI, nI_eq, rc_le4, rc_le16, rc_le128, rc_le512, rc_le511, rc_lt511, rc_lt2, rc_lt4, rc_lt8, rc_l128, rc_l511, rc_l0, rc_e0, rc_e1, false_implies, true_implies, not_false_eq_true, not_true_eq_false, true_and, and_true, implies_true, forall_eq, hle]
    refine ⟨5, rc_shift41 (by omega) hd hw (fun n bu' hb => ?_) 4 0 rfl bu (fun y hy => absurd hy (by omega))⟩
    have l4 : (4 : Nat) ≤ 4 := Nat.le_refl 4
    rw [wX_shift_41]
    simp (disch := omega) only [nI_1, nI_add, rc_m2, rc_m4, rc_m8, rc_m32, rc_m128, rc_m512, rc_a128, rc_a4, rc_4a, rc_shr5, rc_shr7, rc_and31, rc_and127, nI_clamp, vp_in_nI, nI_leI, nI_ltI, nI_eq, rc_le4, rc_le16, rc_le128, rc_le512, rc_le511, rc_lt511, rc_lt2, rc_lt4, rc_lt8, rc_l128, rc_l511, rc_l0, rc_e0, rc_e1, false_implies, true_implies, not_false_eq_true, not_true_eq_false, true_and, and_true, implies_true, forall_eq, l4]
    refine rc_save (by omega) hb (fun fo' sz' pa' da' C F => ?_)
    dsimp only
    exact ih (c + 1) (by omega) _ _ _ _ _ (rc_XR_next X C F (fun y hy => rfl))
end
end
section
/-! ===== questions to a chunk ===== -/
theorem rc_cn_cut (b : Nat → Bool) {L n : Nat} (h : L ≤ n) : rc_cn (fun y => b y && decide (y < L)) n = rc_cn b L := by
  rw [rc_cn_fr h (fun y h1 h2 => by rw [decide_eq_false (by omega), Bool.and_false])]
  exact rc_cn_ext (fun x hx => by rw [decide_eq_true hx, Bool.and_true])
theorem rc_Sg_mn0 {b : Nat → Bool} {n x : Nat} {st E : Nat → Nat} (S : rc_Sg b n st E x) {i L : Nat} (hi : i < n) (h : L ≤ st i) : rc_cn b (min L (E (i + 1))) = rc_cn b (min L (E i)) := by
  obtain ⟨a1, a2, a3, a4, a5⟩ := S.2.1 i hi
  rw [show min L (E (i + 1)) = L by omega]
  rcases Nat.lt_or_ge L (E i) with c | c
  · rw [show min L (E i) = L by omega]
  · rw [show min L (E i) = E i by omega]
    exact rc_Sg_c0 S hi c h
theorem rc_Sg_mn1 {b : Nat → Bool} {n x : Nat} {st E : Nat → Nat} (S : rc_Sg b n st E x) {i L : Nat} (hi : i < n) (h : st i < L) : rc_cn b (min L (E (i + 1))) = rc_cn b (min L (E i)) + (min L (E (i + 1)) - st i) := by
  obtain ⟨a1, a2, a3, a4, a5⟩ := S.2.1 i hi
  rw [show min L (E i) = E i by omega]
  exact rc_Sg_c1 S hi (by omega) (by omega)
section
variable {tp : Int32} {fo sz pa da bu wh ta : Nat → Int32}
variable {k : Nat} {b : Nat → Bool} {post : Int32 → Prop}
theorem rc_below35 {L : Nat} (hk : k < 12) (hL : L < 128) (hb : ∀ y, y < 128 → rc_bo (fun i => da (8 * k + i)) 0 y = b y) (h : post (nI (rc_cn b L))) :
    ∀ m w, w + m = 4 → wX_below_35 post (nI L) (nI (8 * k)) tp fo sz pa da bu wh ta (m + 1) (nI (rc_cn (fun y => b y && decide (y < L)) (32 * w))) (nI w) := by
  intro m
  induction m with
  | zero =>
    intro w hw
    have e : w = 4 := by omega
    subst e
    refine br_t (nI_le (Nat.le_refl 4) (by omega)) ?_
    rw [show 32 * 4 = 128 from rfl, rc_cn_cut b (by omega)]
    exact h
  | succ m ih =>
    intro w hw
    have hle : ¬ 4 ≤ w := by omega
    have hw2 : ∀ i, i < 32 → bt (da (8 * k + w)) i = b (32 * w + i) := by
      intro i hi
      rw [← hb _ (by omega)]
      show _ = bt (da (8 * k + (0 + (32 * w + i) / 32))) ((32 * w + i) % 32)
      rw [Nat.zero_add, show (32 * w + i) / 32 = w by omega, show (32 * w + i) % 32 = i by omega]
    have K : ∀ z, (∀ i, i < 32 → bt z i = decide (32 * w + i < L)) → wX_below_67 post (wX_below_35 post (nI L) (nI (8 * k)) tp fo sz pa da bu wh ta (m + 1)) (nI L) (nI (8 * k)) (nI (rc_cn (fun y => b y && decide (y < L)) (32 * w))) (nI w) z tp fo sz pa da bu wh ta := by
      intro z hz
      unfold wX_below_67
      simp (disch := omega) only [nI_1, nI_add, rc_m2, rc_m4, rc_m8, rc_m32, rc_m128, rc_m512, rc_a128, rc_a4, rc_4a, rc_shr5, rc_shr7, rc_and31, rc_and127, nI_clamp, vp_in_nI, nI_leI, nI_ltI, nI_eq, rc_le4, rc_le16, rc_le128, rc_le512, rc_le511, rc_lt511, rc_lt2, rc_lt4, rc_lt8, rc_l128, rc_l511, rc_l0, rc_e0, rc_e1, false_implies, true_implies, not_false_eq_true, not_true_eq_false, true_and, and_true, implies_true, forall_eq]
      refine rc_ones _ ?_
      simp (disch := omega) only [nI_1, nI_add, rc_m2, rc_m4, rc_m8, rc_m32, rc_m128, rc_m512, rc_a128, rc_a4, rc_4a, rc_shr5, rc_shr7, rc_and31, rc_and127, nI_clamp, vp_in_nI, nI_leI, nI_ltI, nI_eq, rc_le4, rc_le16, rc_le128, rc_le512, rc_le511, rc_lt511, rc_lt2, rc_lt4, rc_lt8, rc_l128, rc_l511, rc_l0, rc_e0, rc_e1, false_implies, true_implies, not_false_eq_true, not_true_eq_false, true_and, and_true, implies_true, forall_eq]
      have e := rc_cnw (b := fun y => b y && decide (y < L)) (j := w) (w := da (8 * k + w) &&& z) (fun i hi => by rw [b_and, hw2 i hi, hz i hi])
      rw [← e]
      exact ih (w + 1) (by omega)
    rw [wX_below_35]
    by_cases c : 32 * w < L
    · simp (disch := omega) only [nI_1, nI_add, rc_m2, rc_m4, rc_m8, rc_m32, rc_m128, rc_m512, rc_a128, rc_a4, rc_4a, rc_shr5, rc_shr7, rc_and31, rc_and127, nI_clamp, vp_in_nI, nI_leI, nI_ltI, nI_eq, rc_le4, rc_le16, rc_le128, rc_le512, rc_le511, rc_lt511, rc_lt2, rc_lt4, rc_lt8, rc_l128, rc_l511, rc_l0, rc_e0, rc_e1, false_implies, true_implies, not_false_eq_true, not_true_eq_false, true_and, and_true, implies_true, forall_eq, hle, c, rc_s1]
      have e2 : (nI (L - 1) - nI (32 * w)).toInt = ((L - 1 : Nat) : Int) - ((32 * w : Nat) : Int) := pk_sub_toInt (by omega) (by omega)
      have z0 : (0 : Int32).toInt = 0 := by decide
      refine rc_mask 0 _ (by rw [e2]; omega) (by rw [z0]; omega) (fun v hv => K v (fun i hi => ?_))
      rw [hv i hi, e2, z0, decide_eq_true (show (0 : Int) ≤ (i : Int) by omega), Bool.true_and]
      exact decide_eq_decide.mpr (by omega)
    · simp (disch := omega) only [nI_1, nI_add, rc_m2, rc_m4, rc_m8, rc_m32, rc_m128, rc_m512, rc_a128, rc_a4, rc_4a, rc_shr5, rc_shr7, rc_and31, rc_and127, nI_clamp, vp_in_nI, nI_leI, nI_ltI, nI_eq, rc_le4, rc_le16, rc_le128, rc_le512, rc_le511, rc_lt511, rc_lt2, rc_lt4, rc_lt8, rc_l128, rc_l511, rc_l0, rc_e0, rc_e1, false_implies, true_implies, not_false_eq_true, not_true_eq_false, true_and, and_true, implies_true, forall_eq, hle, c]
      refine K 0 (fun i hi => ?_)
      rw [b_0, decide_eq_false (by omega)]
theorem rc_below107 {L n : Nat} {st E : Nat → Nat} (hk : k < 12) (hL : L < 128) (hn : n ≤ 8) (hp : pa k = nI n) (S : rc_Sg b n st E 128)
    (hd : ∀ i, i < n → da (8 * k + i) = nI (st i) ∧ E (i + 1) = st i + 1) (h : post (nI (rc_cn b L))) :
    ∀ m i, i + m = n → E i ≤ L → wX_below_107 post (nI k) (nI L) (nI (8 * k)) tp fo sz pa da bu wh ta (m + 1) (nI i) := by
  have hci := rc_Sg_li S (fun i hi => (hd i hi).2)
  intro m
  induction m with
  | zero =>
    intro i hi hE
    have e : i = n := by omega
    subst e
    rw [wX_below_107]
    simp (disch := omega) only [nI_1, nI_add, rc_m2, rc_m4, rc_m8, rc_m32, rc_m128, rc_m512, rc_a128, rc_a4, rc_4a, rc_shr5, rc_shr7, rc_and31, rc_and127, nI_clamp, vp_in_nI, nI_leI, nI_ltI, nI_eq, rc_le4, rc_le16, rc_le128, rc_le512, rc_le511, rc_lt511, rc_lt2, rc_lt4, rc_lt8, rc_l128, rc_l511, rc_l0, rc_e0, rc_e1, false_implies, true_implies, not_false_eq_true, not_true_eq_false, true_and, and_true, implies_true, forall_eq, hp, Nat.le_refl]
    rw [rc_Sg_c2 S hE (by omega), hci i (Nat.le_refl i)] at h
    exact h
  | succ m ih =>
    intro i hi hE
    have hin : i < n := by omega
    have hle : ¬ n ≤ i := by omega
    obtain ⟨d1, d2⟩ := hd i hin
    obtain ⟨a1, a2, a3, a4, a5⟩ := S.2.1 i hin
    rw [wX_below_107]
    simp (disch := omega) only [nI_1, nI_add, rc_m2, rc_m4, rc_m8, rc_m32, rc_m128, rc_m512, rc_a128, rc_a4, rc_4a, rc_shr5, rc_shr7, rc_and31, rc_and127, nI_clamp, vp_in_nI, nI_leI, nI_ltI, nI_eq, rc_le4, rc_le16, rc_le128, rc_le512, rc_le511, rc_lt511, rc_lt2, rc_lt4, rc_lt8, rc_l128, rc_l511, rc_l0, rc_e0, rc_e1, false_implies, true_implies, not_false_eq_true, not_true_eq_false, true_and, and_true, implies_true, forall_eq, hp, hle, d1]
    refine br_c (fun c => ?_) (fun c => ?_)
    · rw [rc_Sg_c0 S hin hE c, hci i (by omega)] at h
      exact h
    · exact ih (i + 1) (by omega) (by omega)
theorem rc_below140 {L n : Nat} {st E : Nat → Nat} (hk : k < 12) (hL : L < 128) (hn : n ≤ 4) (hp : pa k = nI n) (S : rc_Sg b n st E 128)
    (hd : ∀ i, i < n → da (8 * k + 2 * i) = nI (st i) ∧ da (8 * k + 2 * i + 1) = nI (E (i + 1) - 1)) (h : post (nI (rc_cn b L))) :
    ∀ m i, i + m = n → wX_below_140 post (nI k) (nI L) (nI (8 * k)) tp fo sz pa da bu wh ta (m + 1) (nI (rc_cn b (min L (E i)))) (nI i) := by
  intro m
  induction m with
  | zero =>
    intro i hi
    have e : i = n := by omega
    subst e
    rw [wX_below_140]
    simp (disch := omega) only [nI_1, nI_add, rc_m2, rc_m4, rc_m8, rc_m32, rc_m128, rc_m512, rc_a128, rc_a4, rc_4a, rc_shr5, rc_shr7, rc_and31, rc_and127, nI_clamp, vp_in_nI, nI_leI, nI_ltI, nI_eq, rc_le4, rc_le16, rc_le128, rc_le512, rc_le511, rc_lt511, rc_lt2, rc_lt4, rc_lt8, rc_l128, rc_l511, rc_l0, rc_e0, rc_e1, false_implies, true_implies, not_false_eq_true, not_true_eq_false, true_and, and_true, implies_true, forall_eq, hp, Nat.le_refl]
    rcases Nat.lt_or_ge L (E i) with c | c
    · rw [show min L (E i) = L by omega]; exact h
    · rw [show min L (E i) = E i by omega, ← rc_Sg_c2 S c (by omega)]; exact h
  | succ m ih =>
    intro i hi
    have hin : i < n := by omega
    have hle : ¬ n ≤ i := by omega
    obtain ⟨d1, d2⟩ := hd i hin
    obtain ⟨a1, a2, a3, a4, a5⟩ := S.2.1 i hin
    have K : ∀ z : Int32, z.toInt = ((min L (E (i + 1)) : Nat) : Int) - 1 → wX_below_200 post (wX_below_140 post (nI k) (nI L) (nI (8 * k)) tp fo sz pa da bu wh ta (m + 1)) (nI k) (nI L) (nI (8 * k)) (nI (rc_cn b (min L (E i)))) (nI i) (nI (st i)) z tp fo sz pa da bu wh ta := by
      intro z hz
      unfold wX_below_200
      refine br_c (fun c => ?_) (fun c => ?_)
      · rw [Int32.lt_iff_toInt_lt, hz, nI_toInt (by omega)] at c
        refine nm_r (e' := nI (rc_cn b (min L (E (i + 1))))) ?_ (nm_r (nI_1 i) (ih (i + 1) (by omega)))
        rw [rc_Sg_mn0 S hin (by omega)]
        exact Int32.add_zero _
      · rw [Int32.lt_iff_toInt_lt, hz, nI_toInt (by omega)] at c
        have ez : z = nI (min L (E (i + 1)) - 1) := by
          apply Int32.toInt_inj.mp
          rw [hz, nI_toInt (by omega)]
          omega
        refine nm_r (e' := nI (rc_cn b (min L (E (i + 1))))) ?_ (nm_r (nI_1 i) (ih (i + 1) (by omega)))
        rw [rc_Sg_mn1 S hin (by omega), ez, pk_sub (by omega), nI_1, nI_add]
        congr 1
        omega
    rw [wX_below_140]
    simp (disch := omega) only [nI_1, nI_add, rc_m2, rc_m4, rc_m8, rc_m32, rc_m128, rc_m512, rc_a128, rc_a4, rc_4a, rc_shr5, rc_shr7, rc_and31, rc_and127, nI_clamp, vp_in_nI, nI_leI, nI_ltI, nI_eq, rc_le4, rc_le16, rc_le128, rc_le512, rc_le511, rc_lt511, rc_lt2, rc_lt4, rc_lt8, rc_l128, rc_l511, rc_l0, rc_e0, rc_e1, false_implies, true_implies, not_false_eq_true, not_true_eq_false, true_and, and_true, implies_true, forall_eq, hp, hle, d1, d2]
    refine br_c (fun c => K _ ?_) (fun c => K _ ?_)
    · rw [Int32.toInt_sub, nI_toInt (by omega), show (1 : Int32).toInt = 1 from by decide, show min L (E (i + 1)) = L by omega]
      exact Int.bmod_eq_of_le (by omega) (by omega)
    · rw [nI_toInt (by omega), show min L (E (i + 1)) = E (i + 1) by omega]
      omega
theorem rc_below {L : Nat} (hk : k < 12) (C : rc_CK fo sz pa da k b) (hL : L ≤ 128) (h : post (nI (rc_cn b L))) : wpX_below post (tp, fo, sz, pa, da, bu, wh, ta) (nI k) (nI L) := by
  unfold wpX_below
  dsimp only
  obtain ⟨hz, H⟩ := C
  by_cases c : L < 128
  · rcases H with ⟨h1, h2, h3⟩ | ⟨h1, n, st, E, h2, h3, h4, h5⟩ | ⟨h1, n, st, E, h2, h3, h4, h5⟩
    · simp (disch := omega) only [nI_1, nI_add, rc_m2, rc_m4, rc_m8, rc_m32, rc_m128, rc_m512, rc_a128, rc_a4, rc_4a, rc_shr5, rc_shr7, rc_and31, rc_and127, nI_clamp, vp_in_nI, nI_leI, nI_ltI, nI_eq, rc_le4, rc_le16, rc_le128, rc_le512, rc_le511, rc_lt511, rc_lt2, rc_lt4, rc_lt8, rc_l128, rc_l511, rc_l0, rc_e0, rc_e1, false_implies, true_implies, not_false_eq_true, not_true_eq_false, true_and, and_true, implies_true, forall_eq, c, h1]
      exact ⟨5, rc_below35 hk c h3 h 4 0 rfl⟩
    · have n1 : ¬ ((0 : Int32) = 1) := by decide
      simp (disch := omega) only [nI_1, nI_add, rc_m2, rc_m4, rc_m8, rc_m32, rc_m128, rc_m512, rc_a128, rc_a4, rc_4a, rc_shr5, rc_shr7, rc_and31, rc_and127, nI_clamp, vp_in_nI, nI_leI, nI_ltI, nI_eq, rc_le4, rc_le16, rc_le128, rc_le512, rc_le511, rc_lt511, rc_lt2, rc_lt4, rc_lt8, rc_l128, rc_l511, rc_l0, rc_e0, rc_e1, false_implies, true_implies, not_false_eq_true, not_true_eq_false, true_and, and_true, implies_true, forall_eq, c, h1, n1]
      exact ⟨n + 1, rc_below107 hk c h2 h3 h4 h5 h n 0 (by omega) (by rw [h4.1]; omega)⟩
    · have n1 : ¬ ((2 : Int32) = 1) := by decide
      have n0 : ¬ ((2 : Int32) = 0) := by decide
      simp (disch := omega) only [nI_1, nI_add, rc_m2, rc_m4, rc_m8, rc_m32, rc_m128, rc_m512, rc_a128, rc_a4, rc_4a, rc_shr5, rc_shr7, rc_and31, rc_and127, nI_clamp, vp_in_nI, nI_leI, nI_ltI, nI_eq, rc_le4, rc_le16, rc_le128, rc_le512, rc_le511, rc_lt511, rc_lt2, rc_lt4, rc_lt8, rc_l128, rc_l511, rc_l0, rc_e0, rc_e1, false_implies, true_implies, not_false_eq_true, not_true_eq_false, true_and, and_true, implies_true, forall_eq, c, h1, n1, n0]
      have t := rc_below140 (tp := tp) (fo := fo) (sz := sz) (pa := pa) (da := da) (bu := bu) (wh := wh) (ta := ta) hk c h2 h3 h4 h5 h n 0 (by omega)
      rw [h4.1, show min L 0 = 0 by omega] at t
      exact ⟨n + 1, t⟩
  · have e : L = 128 := by omega
    subst e
    have c2 : ¬ (128 : Nat) < 128 := by omega
    simp (disch := omega) only [nI_1, nI_add, rc_m2, rc_m4, rc_m8, rc_m32, rc_m128, rc_m512, rc_a128, rc_a4, rc_4a, rc_shr5, rc_shr7, rc_and31, rc_and127, nI_clamp, vp_in_nI, nI_leI, nI_ltI, nI_eq, rc_le4, rc_le16, rc_le128, rc_le512, rc_le511, rc_lt511, rc_lt2, rc_lt4, rc_lt8, rc_l128, rc_l511, rc_l0, rc_e0, rc_e1, false_implies, true_implies, not_false_eq_true, not_true_eq_false, true_and, and_true, implies_true, forall_eq, c2, hz]
    exact h
theorem rc_selectIn40 {r n : Nat} {st E : Nat → Nat} (hk : k < 12) (hn : n ≤ 4) (hp : pa k = nI n) (S : rc_Sg b n st E 128)
    (hd : ∀ i, i < n → da (8 * k + 2 * i) = nI (st i) ∧ da (8 * k + 2 * i + 1) = nI (E (i + 1) - 1)) (hr : r < rc_cn b 128)
    (h : ∀ x, x < 128 → b x = true → rc_cn b x = r → post (nI x)) :
    ∀ m i, i + m = n → rc_cn b (E i) ≤ r → wX_selectIn_40 post (nI k) (nI (8 * k)) tp fo sz pa da bu wh ta (m + 1) (nI (r - rc_cn b (E i))) (nI i) := by
  have hcb := rc_cn_le b 128
  intro m
  induction m with
  | zero =>
    intro i hi hE
    have e : i = n := by omega
    subst e
    have := rc_Sg_c2 S (rc_Sg_E S (Nat.le_refl i)) (Nat.le_refl 128)
    omega
  | succ m ih =>
    intro i hi hE
    have hin : i < n := by omega
    have hle : ¬ n ≤ i := by omega
    obtain ⟨d1, d2⟩ := hd i hin
    obtain ⟨a1, a2, a3, a4, a5⟩ := S.2.1 i hin
    have hc1 := rc_Sg_c1 S hin (Nat.le_of_lt a2) (Nat.le_refl _)
    have es : nI (E (i + 1) - 1) - nI (st i) = nI (E (i + 1) - 1 - st i) := pk_sub (by omega)
    rw [wX_selectIn_40]
    simp (disch := omega) only [nI_1, nI_add, rc_m2, rc_m4, rc_m8, rc_m32, rc_m128, rc_m512, rc_a128, rc_a4, rc_4a, rc_shr5, rc_shr7, rc_and31, rc_and127, nI_clamp, vp_in_nI, nI_leI, nI_ltI, nI_eq, rc_le4, rc_le16, rc_le128, rc_le512, rc_le511, rc_lt511, rc_lt2, rc_lt4, rc_lt8, rc_l128, rc_l511, rc_l0, rc_e0, rc_e1, false_implies, true_implies, not_false_eq_true, not_true_eq_false, true_and, and_true, implies_true, forall_eq, hp, hle, d1, d2, es]
    refine br_c (fun c => ?_) (fun c => ?_)
    · rw [pk_sub c]
      have t := ih (i + 1) (by omega) (by omega)
      rw [hc1] at t
      rw [show r - rc_cn b (E i) - (E (i + 1) - 1 - st i + 1) = r - (rc_cn b (E i) + (E (i + 1) - st i)) by omega]
      exact t
    · refine h _ (by omega) (a5 _ (by omega) (by omega)) ?_
      rw [rc_Sg_c1 S hin (by omega) (by omega)]
      omega
theorem rc_selectIn120 {r : Nat} (hk : k < 12) (hb : ∀ y, y < 128 → rc_bo (fun i => da (8 * k + i)) 0 y = b y) (hr : r < rc_cn b 128)
    (h : ∀ x, x < 128 → b x = true → rc_cn b x = r → post (nI x)) :
    ∀ m x, x + m = 128 → rc_cn b x ≤ r → wX_selectIn_120 post (nI (8 * k)) tp fo sz pa da bu wh ta (m + 1) (nI (r - rc_cn b x)) (nI x) := by
  have hcb := rc_cn_le b 128
  intro m
  induction m with
  | zero =>
    intro x hx hE
    have e : x = 128 := by omega
    subst e
    omega
  | succ m ih =>
    intro x hx hE
    have hle : ¬ 128 ≤ x := by omega
    have t := rc_tst (da (8 * k + x / 32)) (x % 32) (by omega)
    have e : rc_bo (fun i => da (8 * k + i)) 0 x = bt (da (8 * k + x / 32)) (x % 32) := by unfold rc_bo; rw [Nat.zero_add]
    rw [← e, hb x (by omega)] at t
    rw [wX_selectIn_120]
    simp (disch := omega) only [nI_1, nI_add, rc_m2, rc_m4, rc_m8, rc_m32, rc_m128, rc_m512, rc_a128, rc_a4, rc_4a, rc_shr5, rc_shr7, rc_and31, rc_and127, nI_clamp, vp_in_nI, nI_leI, nI_ltI, nI_eq, rc_le4, rc_le16, rc_le128, rc_le512, rc_le511, rc_lt511, rc_lt2, rc_lt4, rc_lt8, rc_l128, rc_l511, rc_l0, rc_e0, rc_e1, false_implies, true_implies, not_false_eq_true, not_true_eq_false, true_and, and_true, implies_true, forall_eq, hle, t]
    refine br_c (fun c => br_c (fun c2 => ?_) (fun c2 => ?_)) (fun c => ?_)
    · exact h x (by omega) c (by omega)
    · have e2 : nI (r - rc_cn b x) + (-1) = nI (r - rc_cn b (x + 1)) := by
        rw [rc_cnT c, show r - rc_cn b x = (r - (rc_cn b x + 1)) + 1 by omega, pk_m1]
      rw [e2]
      exact ih (x + 1) (by omega) (by rw [rc_cnT c]; omega)
    · have t2 := ih (x + 1) (by omega) (by rw [rc_cnF (rc_nt c)]; omega)
      rw [rc_cnF (rc_nt c)] at t2
      exact t2
theorem rc_selectIn {r : Nat} (hk : k < 12) (C : rc_CK fo sz pa da k b) (hr : r < rc_cn b 128)
    (h : ∀ x, x < 128 → b x = true → rc_cn b x = r → post (nI x)) : wpX_selectIn post (tp, fo, sz, pa, da, bu, wh, ta) (nI k) (nI r) := by
  have hcb := rc_cn_le b 128
  unfold wpX_selectIn
  dsimp only
  obtain ⟨hz, H⟩ := C
  rcases H with ⟨h1, h2, h3⟩ | ⟨h1, n, st, E, h2, h3, h4, h5⟩ | ⟨h1, n, st, E, h2, h3, h4, h5⟩
  · have n0 : ¬ ((1 : Int32) = 0) := by decide
    have n2 : ¬ ((1 : Int32) = 2) := by decide
    simp (disch := omega) only [nI_1, nI_add, rc_m2, rc_m4, rc_m8, rc_m32, rc_m128, rc_m512, rc_a128, rc_a4, rc_4a, rc_shr5, rc_shr7, rc_and31, rc_and127, nI_clamp, vp_in_nI, nI_leI, nI_ltI, nI_eq, rc_le4, rc_le16, rc_le128, rc_le512, rc_le511, rc_lt511, rc_lt2, rc_lt4, rc_lt8, rc_l128, rc_l511, rc_l0, rc_e0, rc_e1, false_implies, true_implies, not_false_eq_true, not_true_eq_false, true_and, and_true, implies_true, forall_eq, h1, n0, n2]
    exact ⟨129, rc_selectIn120 hk h3 hr h 128 0 rfl (by rw [rc_cn0]; omega)⟩
  · have hci := rc_Sg_li h4 (fun i hi => (h5 i hi).2)
    have hrn : r < n := by
      have := rc_Sg_c2 h4 (rc_Sg_E h4 (Nat.le_refl n)) (Nat.le_refl 128)
      rw [hci n (Nat.le_refl n)] at this
      omega
    obtain ⟨d1, d2⟩ := h5 r hrn
    have d1' : da (8 * k + r) = nI (st r) := d1
    obtain ⟨a1, a2, a3, a4, a5⟩ := h4.2.1 r hrn
    simp (disch := omega) only [nI_1, nI_add, rc_m2, rc_m4, rc_m8, rc_m32, rc_m128, rc_m512, rc_a128, rc_a4, rc_4a, rc_shr5, rc_shr7, rc_and31, rc_and127, nI_clamp, vp_in_nI, nI_leI, nI_ltI, nI_eq, rc_le4, rc_le16, rc_le128, rc_le512, rc_le511, rc_lt511, rc_lt2, rc_lt4, rc_lt8, rc_l128, rc_l511, rc_l0, rc_e0, rc_e1, false_implies, true_implies, not_false_eq_true, not_true_eq_false, true_and, and_true, implies_true, forall_eq, h1, d1']
    refine h _ (by omega) (a5 _ (Nat.le_refl _) a2) ?_
    rw [rc_Sg_c0 h4 hrn a1 (Nat.le_refl _), hci r (by omega)]
  · have n0 : ¬ ((2 : Int32) = 0) := by decide
    simp (disch := omega) only [nI_1, nI_add, rc_m2, rc_m4, rc_m8, rc_m32, rc_m128, rc_m512, rc_a128, rc_a4, rc_4a, rc_shr5, rc_shr7, rc_and31, rc_and127, nI_clamp, vp_in_nI, nI_leI, nI_ltI, nI_eq, rc_le4, rc_le16, rc_le128, rc_le512, rc_le511, rc_lt511, rc_lt2, rc_lt4, rc_lt8, rc_l128, rc_l511, rc_l0, rc_e0, rc_e1, false_implies, true_implies, not_false_eq_true, not_true_eq_false, true_and, and_true, implies_true, forall_eq, h1, n0]
    have t := rc_selectIn40 (tp := tp) (fo := fo) (sz := sz) (pa := pa) (da := da) (bu := bu) (wh := wh) (ta := ta) hk h2 h3 h4 h5 hr h n 0 (by omega) (by rw [h4.1, rc_cn0]; omega)
    rw [h4.1, rc_cn0] at t
    exact ⟨n + 1, t⟩
theorem rc_nextIn {f : Nat} (hk : k < 12) (C : rc_CK fo sz pa da k b) (hf : f ≤ 128)
    (h1 : ∀ x, x < 128 → f ≤ x → b x = true → (∀ y, f ≤ y → y < x → b y = false) → post (nI x)) (h0 : (∀ y, f ≤ y → y < 128 → b y = false) → post (-1)) : wpX_nextIn post (tp, fo, sz, pa, da, bu, wh, ta) (nI k) (nI f) := by
  unfold wpX_nextIn
  dsimp only
  have hz := C.1
  have l1 := rc_cn_le b 128
  have l2 := rc_cn_mono b hf
  refine rc_below hk C hf ?_
  simp (disch := omega) only [nI_1, nI_add, rc_m2, rc_m4, rc_m8, rc_m32, rc_m128, rc_m512, rc_a128, rc_a4, rc_4a, rc_shr5, rc_shr7, rc_and31, rc_and127, nI_clamp, vp_in_nI, nI_leI, nI_ltI, nI_eq, rc_le4, rc_le16, rc_le128, rc_le512, rc_le511, rc_lt511, rc_lt2, rc_lt4, rc_lt8, rc_l128, rc_l511, rc_l0, rc_e0, rc_e1, false_implies, true_implies, not_false_eq_true, not_true_eq_false, true_and, and_true, implies_true, forall_eq, hz]
  refine br_c (fun c => h0 (fun y hy1 hy2 => ?_)) (fun c => ?_)
  · by_cases z : b y = true
    · have := rc_cn_lt z hy2
      have := rc_cn_mono b hy1
      omega
    · exact rc_nt z
  · refine rc_selectIn hk C (by omega) (fun x hx hb hc => ?_)
    refine h1 x hx ?_ hb (fun y hy1 hy2 => ?_)
    · rcases Nat.lt_or_ge x f with z | z
      · have := rc_cn_lt hb z
        omega
      · exact z
    · by_cases z : b y = true
      · have := rc_cn_lt z hy2
        have := rc_cn_mono b hy1
        omega
      · exact rc_nt z
theorem rc_gapIn {f : Nat} (hk : k < 12) (C : rc_CK fo sz pa da k b) (hf : f ≤ 128)
    (h : ∀ x, f ≤ x → x ≤ 128 → (∀ y, f ≤ y → y < x → b y = true) → (x < 128 → b x = false) → post (nI x)) : wpX_gapIn post (tp, fo, sz, pa, da, bu, wh, ta) (nI k) (nI f) := by
  unfold wpX_gapIn
  dsimp only
  obtain ⟨hz, H⟩ := C
  rcases H with ⟨h1, h2, h3⟩ | ⟨h1, n, st, E, h2, h3, h4, h5⟩ | ⟨h1, n, st, E, h2, h3, h4, h5⟩
  · have n0 : ¬ ((1 : Int32) = 0) := by decide
    have n2 : ¬ ((1 : Int32) = 2) := by decide
    simp (disch := omega) only [nI_1, nI_add, rc_m2, rc_m4, rc_m8, rc_m32, rc_m128, rc_m512, rc_a128, rc_a4, rc_4a, rc_shr5, rc_shr7, rc_and31, rc_and127, nI_clamp, vp_in_nI, nI_leI, nI_ltI, nI_eq, rc_le4, rc_le16, rc_le128, rc_le512, rc_le511, rc_lt511, rc_lt2, rc_lt4, rc_lt8, rc_l128, rc_l511, rc_l0, rc_e0, rc_e1, false_implies, true_implies, not_false_eq_true, not_true_eq_false, true_and, and_true, implies_true, forall_eq, h1, n0, n2]
    have L : ∀ m x, x + m = 128 → f ≤ x → (∀ y, f ≤ y → y < x → b y = true) → wX_gapIn_154 post (nI (8 * k)) tp fo sz pa da bu wh ta (m + 1) (nI x) := by
      intro m
      induction m with
      | zero =>
        intro x hx hfx hI
        have e : x = 128 := by omega
        subst e
        exact br_t (nI_le (Nat.le_refl 128) (by omega)) (h 128 hfx (Nat.le_refl _) hI (fun z => absurd z (by omega)))
      | succ m ih =>
        intro x hx hfx hI
        have hle : ¬ 128 ≤ x := by omega
        have t := rc_tst (da (8 * k + x / 32)) (x % 32) (by omega)
        have e : rc_bo (fun i => da (8 * k + i)) 0 x = bt (da (8 * k + x / 32)) (x % 32) := by unfold rc_bo; rw [Nat.zero_add]
        rw [← e, h3 x (by omega)] at t
        rw [wX_gapIn_154]
        simp (disch := omega) only [nI_1, nI_add, rc_m2, rc_m4, rc_m8, rc_m32, rc_m128, rc_m512, rc_a128, rc_a4, rc_4a, rc_shr5, rc_shr7, rc_and31, rc_and127, nI_clamp, vp_in_nI, nI_leI, nI_ltI, nI_eq, rc_le4, rc_le16, rc_le128, rc_le512, rc_le511, rc_lt511, rc_lt2, rc_lt4, rc_lt8, rc_l128, rc_l511, rc_l0, rc_e0, rc_e1, false_implies, true_implies, not_false_eq_true, not_true_eq_false, true_and, and_true, implies_true, forall_eq, hle, t]
        refine br_c (fun c => ?_) (fun c => ?_)
        · refine ih (x + 1) (by omega) (by omega) (fun y y1 y2 => ?_)
          by_cases z : y = x
          · rw [z]; exact c
          · exact hI y y1 (by omega)
        · exact h x hfx (by omega) hI (fun _ => rc_nt c)
    exact ⟨_, L (128 - f) f (by omega) (Nat.le_refl _) (fun y y1 y2 => absurd y1 (by omega))⟩
  · have n2 : ¬ ((0 : Int32) = 2) := by decide
    simp (disch := omega) only [nI_1, nI_add, rc_m2, rc_m4, rc_m8, rc_m32, rc_m128, rc_m512, rc_a128, rc_a4, rc_4a, rc_shr5, rc_shr7, rc_and31, rc_and127, nI_clamp, vp_in_nI, nI_leI, nI_ltI, nI_eq, rc_le4, rc_le16, rc_le128, rc_le512, rc_le511, rc_lt511, rc_lt2, rc_lt4, rc_lt8, rc_l128, rc_l511, rc_l0, rc_e0, rc_e1, false_implies, true_implies, not_false_eq_true, not_true_eq_false, true_and, and_true, implies_true, forall_eq, h1, n2]
    have L : ∀ m i, i + m = n → ∀ x, f ≤ x → x ≤ 128 → (∀ y, f ≤ y → y < x → b y = true) → (x < E i → b x = false) → wX_gapIn_109 post (nI k) (nI (8 * k)) tp fo sz pa da bu wh ta (m + 1) (nI x) (nI i) := by
      intro m
      induction m with
      | zero =>
        intro i hi x hfx hx hI hE
        have e : i = n := by omega
        subst e
        rw [wX_gapIn_109]
        simp (disch := omega) only [nI_1, nI_add, rc_m2, rc_m4, rc_m8, rc_m32, rc_m128, rc_m512, rc_a128, rc_a4, rc_4a, rc_shr5, rc_shr7, rc_and31, rc_and127, nI_clamp, vp_in_nI, nI_leI, nI_ltI, nI_eq, rc_le4, rc_le16, rc_le128, rc_le512, rc_le511, rc_lt511, rc_lt2, rc_lt4, rc_lt8, rc_l128, rc_l511, rc_l0, rc_e0, rc_e1, false_implies, true_implies, not_false_eq_true, not_true_eq_false, true_and, and_true, implies_true, forall_eq, h3, Nat.le_refl]
        refine h x hfx hx hI (fun z => ?_)
        rcases Nat.lt_or_ge x (E i) with c | c
        · exact hE c
        · exact h4.2.2 x c z
      | succ m ih =>
        intro i hi x hfx hx hI hE
        have hin : i < n := by omega
        have hle : ¬ n ≤ i := by omega
        obtain ⟨d1, d2⟩ := h5 i hin
        have d1' : da (8 * k + i) = nI (st i) := d1
        obtain ⟨a1, a2, a3, a4, a5⟩ := h4.2.1 i hin
        rw [wX_gapIn_109]
        simp (disch := omega) only [nI_1, nI_add, rc_m2, rc_m4, rc_m8, rc_m32, rc_m128, rc_m512, rc_a128, rc_a4, rc_4a, rc_shr5, rc_shr7, rc_and31, rc_and127, nI_clamp, vp_in_nI, nI_leI, nI_ltI, nI_eq, rc_le4, rc_le16, rc_le128, rc_le512, rc_le511, rc_lt511, rc_lt2, rc_lt4, rc_lt8, rc_l128, rc_l511, rc_l0, rc_e0, rc_e1, false_implies, true_implies, not_false_eq_true, not_true_eq_false, true_and, and_true, implies_true, forall_eq, h3, hle, d1']
        refine br_c (fun c => ?_) (fun c => ?_)
        · refine ih (i + 1) (by omega) (x + 1) (by omega) (by omega) (fun y y1 y2 => ?_) (fun z => absurd z (by omega))
          by_cases z : y = x
          · rw [z, ← c]; exact a5 _ (Nat.le_refl _) a2
          · exact hI y y1 (by omega)
        · refine ih (i + 1) (by omega) x hfx hx hI (fun z => ?_)
          rcases Nat.lt_or_ge x (E i) with c2 | c2
          · exact hE c2
          · exact a4 x c2 (by omega)
    exact ⟨_, L n 0 (by omega) f (Nat.le_refl _) hf (fun y y1 y2 => absurd y1 (by omega)) (fun z => by rw [h4.1] at z; omega)⟩
  · simp (disch := omega) only [nI_1, nI_add, rc_m2, rc_m4, rc_m8, rc_m32, rc_m128, rc_m512, rc_a128, rc_a4, rc_4a, rc_shr5, rc_shr7, rc_and31, rc_and127, nI_clamp, vp_in_nI, nI_leI, nI_ltI, nI_eq, rc_le4, rc_le16, rc_le128, rc_le512, rc_le511, rc_lt511, rc_lt2, rc_lt4, rc_lt8, rc_l128, rc_l511, rc_l0, rc_e0, rc_e1, false_implies, true_implies, not_false_eq_true, not_true_eq_false, true_and, and_true, implies_true, forall_eq, h1]
    have L : ∀ m i, i + m = n → ∀ x, f ≤ x → x ≤ 128 → (∀ y, f ≤ y → y < x → b y = true) → (x < E i → b x = false) → wX_gapIn_21 post (nI k) (nI (8 * k)) tp fo sz pa da bu wh ta (m + 1) (nI x) (nI i) := by
      intro m
      induction m with
      | zero =>
        intro i hi x hfx hx hI hE
        have e : i = n := by omega
        subst e
        rw [wX_gapIn_21]
        simp (disch := omega) only [nI_1, nI_add, rc_m2, rc_m4, rc_m8, rc_m32, rc_m128, rc_m512, rc_a128, rc_a4, rc_4a, rc_shr5, rc_shr7, rc_and31, rc_and127, nI_clamp, vp_in_nI, nI_leI, nI_ltI, nI_eq, rc_le4, rc_le16, rc_le128, rc_le512, rc_le511, rc_lt511, rc_lt2, rc_lt4, rc_lt8, rc_l128, rc_l511, rc_l0, rc_e0, rc_e1, false_implies, true_implies, not_false_eq_true, not_true_eq_false, true_and, and_true, implies_true, forall_eq, h3, Nat.le_refl]
        refine h x hfx hx hI (fun z => ?_)
        rcases Nat.lt_or_ge x (E i) with c | c
        · exact hE c
        · exact h4.2.2 x c z
      | succ m ih =>
        intro i hi x hfx hx hI hE
        have hin : i < n := by omega
        have hle : ¬ n ≤ i := by omega
        obtain ⟨d1, d2⟩ := h5 i hin
        have d1' : da (8 * k + 2 * i) = nI (st i) := d1
        have d2' : da (8 * k + 2 * i + 1) = nI (E (i + 1) - 1) := d2
        obtain ⟨a1, a2, a3, a4, a5⟩ := h4.2.1 i hin
        have K0 : x < st i → wX_gapIn_21 post (nI k) (nI (8 * k)) tp fo sz pa da bu wh ta (m + 1) (nI x) (nI (i + 1)) := by
          intro c
          refine ih (i + 1) (by omega) x hfx hx hI (fun z => ?_)
          rcases Nat.lt_or_ge x (E i) with c2 | c2
          · exact hE c2
          · exact a4 x c2 c
        rw [wX_gapIn_21]
        simp (disch := omega) only [nI_1, nI_add, rc_m2, rc_m4, rc_m8, rc_m32, rc_m128, rc_m512, rc_a128, rc_a4, rc_4a, rc_shr5, rc_shr7, rc_and31, rc_and127, nI_clamp, vp_in_nI, nI_leI, nI_ltI, nI_eq, rc_le4, rc_le16, rc_le128, rc_le512, rc_le511, rc_lt511, rc_lt2, rc_lt4, rc_lt8, rc_l128, rc_l511, rc_l0, rc_e0, rc_e1, false_implies, true_implies, not_false_eq_true, not_true_eq_false, true_and, and_true, implies_true, forall_eq, h3, hle, d1', d2']
        refine br_c (fun c => K0 c) (fun c => br_c (fun c2 => ?_) (fun c2 => ?_))
        · exact ih (i + 1) (by omega) x hfx hx hI (fun z => absurd z (by omega))
        · refine ih (i + 1) (by omega) _ (by omega) (by omega) (fun y y1 y2 => ?_) (fun z => absurd z (by omega))
          rcases Nat.lt_or_ge y x with c3 | c3
          · exact hI y y1 c3
          · exact a5 y (by omega) (by omega)
    exact ⟨_, L n 0 (by omega) f (Nat.le_refl _) hf (fun y y1 y2 => absurd y1 (by omega)) (fun z => by rw [h4.1] at z; omega)⟩
end
end
section
/-! ===== questions to a set ===== -/
theorem rc_ltI {a : Nat} (h : a < 2 ^ 31) (x : Int32) : nI a < x ↔ (a : Int) < x.toInt := by rw [Int32.lt_iff_toInt_lt, nI_toInt h]
theorem rc_leI {a : Nat} (h : a < 2 ^ 31) (x : Int32) : nI a ≤ x ↔ (a : Int) ≤ x.toInt := by rw [Int32.le_iff_toInt_le, nI_toInt h]
theorem rc_Ilt {a : Nat} (h : a < 2 ^ 31) (x : Int32) : x < nI a ↔ x.toInt < (a : Int) := by rw [Int32.lt_iff_toInt_lt, nI_toInt h]
theorem rc_Ile {a : Nat} (h : a < 2 ^ 31) (x : Int32) : x ≤ nI a ↔ x.toInt ≤ (a : Int) := by rw [Int32.le_iff_toInt_le, nI_toInt h]
theorem rc_ofI {x : Int32} (h : 0 ≤ x.toInt) : x = nI x.toInt.toNat := by
  have hb := x.toInt_lt
  apply Int32.toInt_inj.mp
  rw [nI_toInt (by omega)]
  omega
theorem rc_subI {x : Int32} {a : Nat} (h : (a : Int) ≤ x.toInt) : x - nI a = nI (x.toInt.toNat - a) := by
  have e := rc_ofI (x := x) (by omega)
  have t := pk_sub (a := x.toInt.toNat) (b := a) (by omega)
  rw [← e] at t
  exact t
theorem rc_cn_ex (b : Nat → Bool) : ∀ n i, i < rc_cn b n → ∃ x, x < n ∧ b x = true ∧ rc_cn b x = i := by
  intro n
  induction n with
  | zero => intro i hi; exact absurd hi (Nat.not_lt_zero i)
  | succ n ih =>
    intro i hi
    rcases Nat.lt_or_ge i (rc_cn b n) with c | c
    · obtain ⟨x, h1, h2, h3⟩ := ih i c
      exact ⟨x, by omega, h2, h3⟩
    · by_cases z : b n = true
      · rw [rc_cnT z] at hi
        exact ⟨n, by omega, z, by omega⟩
      · rw [rc_cnF (rc_nt z)] at hi
        omega
theorem rc_bm (z : Int) (h1 : -2147484160 ≤ z) (h2 : z < 0) : z.bmod (2 ^ 32) = z ∨ z.bmod (2 ^ 32) = z + 4294967296 := by
  rw [Int.bmod_def]
  have e : ((2 ^ 32 : Nat) : Int) = 4294967296 := by decide
  rw [e]
  by_cases c : z % 4294967296 < (4294967296 + 1) / 2
  · rw [if_pos c]; omega
  · rw [if_neg c]; omega
/-- how many places a bound asks for -/
def rc_lim (x : Int32) : Nat := min x.toInt.toNat 512
def rc_Sel (g : Nat → Bool) (k r : Int32) : Prop := (∃ x, x < 512 ∧ g x = true ∧ k = nI (rc_cn g x) ∧ r = nI x) ∨ (r = -2 ∧ ∀ x, x < 512 → g x = true → ¬ k = nI (rc_cn g x))
def rc_Nx (g : Nat → Bool) (f r : Int32) : Prop := (∃ x : Nat, x < 512 ∧ g x = true ∧ f.toInt ≤ (x : Int) ∧ (∀ y : Nat, y < x → f.toInt ≤ (y : Int) → g y = false) ∧ r = nI x) ∨ (r = -2 ∧ ∀ y : Nat, y < 512 → f.toInt ≤ (y : Int) → g y = false)
def rc_Pv (g : Nat → Bool) (t r : Int32) : Prop := (∃ x : Nat, x < 512 ∧ g x = true ∧ (x : Int) ≤ t.toInt ∧ (∀ y : Nat, x < y → y < 512 → (y : Int) ≤ t.toInt → g y = false) ∧ r = nI x) ∨ (r = -2 ∧ ∀ y : Nat, y < 512 → (y : Int) ≤ t.toInt → g y = false)
def rc_Gp (g : Nat → Bool) (f : Nat) (r : Int32) : Prop := (∃ x, f ≤ x ∧ x < 512 ∧ g x = false ∧ (∀ y, f ≤ y → y < x → g y = true) ∧ r = nI x) ∨ (r = -3 ∧ ∀ y, f ≤ y → y < 512 → g y = true)
theorem rc_Sel_u {g : Nat → Bool} {k r r' : Int32} (h : rc_Sel g k r) (h' : rc_Sel g k r') : r' = r := by
  rcases h with ⟨x, h1, h2, h3, h4⟩ | ⟨h1, h2⟩ <;> rcases h' with ⟨x', h1', h2', h3', h4'⟩ | ⟨h1', h2'⟩
  · have l1 := rc_cn_le g x
    have l2 := rc_cn_le g x'
    rw [h3, nI_eq (by omega) (by omega)] at h3'
    rw [h4, h4', rc_cn_inj h2 h2' h3']
  · exact absurd h3 (h2' x h1 h2)
  · exact absurd h3' (h2 x' h1' h2')
  · rw [h1, h1']
theorem rc_Nx_u {g : Nat → Bool} {f r r' : Int32} (h : rc_Nx g f r) (h' : rc_Nx g f r') : r' = r := by
  rcases h with ⟨x, h1, h2, h3, h4, h5⟩ | ⟨h1, h2⟩ <;> rcases h' with ⟨x', h1', h2', h3', h4', h5'⟩ | ⟨h1', h2'⟩
  · have e : x' = x := by
      rcases Nat.lt_trichotomy x x' with c | c | c
      · rw [h4' x c h3] at h2; exact absurd h2 (by decide)
      · exact c.symm
      · rw [h4 x' c h3'] at h2'; exact absurd h2' (by decide)
    rw [h5, h5', e]
  · rw [h2' x h1 h3] at h2; exact absurd h2 (by decide)
  · rw [h2 x' h1' h3'] at h2'; exact absurd h2' (by decide)
  · rw [h1, h1']
theorem rc_Pv_u {g : Nat → Bool} {f r r' : Int32} (h : rc_Pv g f r) (h' : rc_Pv g f r') : r' = r := by
  rcases h with ⟨x, h1, h2, h3, h4, h5⟩ | ⟨h1, h2⟩ <;> rcases h' with ⟨x', h1', h2', h3', h4', h5'⟩ | ⟨h1', h2'⟩
  · have e : x' = x := by
      rcases Nat.lt_trichotomy x x' with c | c | c
      · rw [h4 x' c h1' h3'] at h2'; exact absurd h2' (by decide)
      · exact c.symm
      · rw [h4' x c h1 h3] at h2; exact absurd h2 (by decide)
    rw [h5, h5', e]
  · rw [h2' x h1 h3] at h2; exact absurd h2 (by decide)
  · rw [h2 x' h1' h3'] at h2'; exact absurd h2' (by decide)
  · rw [h1, h1']
theorem rc_Gp_u {g : Nat → Bool} {f : Nat} {r r' : Int32} (h : rc_Gp g f r) (h' : rc_Gp g f r') : r' = r := by
  rcases h with ⟨x, h1, h2, h3, h4, h5⟩ | ⟨h1, h2⟩ <;> rcases h' with ⟨x', h1', h2', h3', h4', h5'⟩ | ⟨h1', h2'⟩
  · have e : x' = x := by
      rcases Nat.lt_trichotomy x x' with c | c | c
      · rw [h4' x h1 c] at h3; exact absurd h3 (by decide)
      · exact c.symm
      · rw [h4 x' h1' c] at h3'; exact absurd h3' (by decide)
    rw [h5, h5', e]
  · rw [h2' x h1 h2] at h3; exact absurd h3 (by decide)
  · rw [h2 x' h1' h2'] at h3'; exact absurd h3' (by decide)
  · rw [h1, h1']
theorem rc_isSet {post : Int32 → Prop} {s : Nat} (hs : s < 3) (h : post 1) : wpX_isSet post (nI s) :=
  br_f (nI_pos (by omega)) (br_f (nI_nlt (b := s) (a := 2) (by omega) (by omega)) h)
theorem rc_isSet0 {post : Int32 → Prop} {x : Int32} (hx : x < 0 ∨ nI 3 ≤ x) (h : post 0) : wpX_isSet post x := by
  rcases hx with hx | hx
  · exact br_t hx h
  · have h2 : (2 : Int32) < x := by
      rw [rc_leI (by omega)] at hx
      rw [show (2 : Int32) = nI 2 from rfl, rc_ltI (by omega)]
      omega
    have h0 : ¬ x < 0 := by
      rw [rc_leI (by omega)] at hx
      rw [show (0 : Int32) = nI 0 from rfl, rc_Ilt (by omega)]
      omega
    exact br_f h0 (br_t h2 h)
theorem rc_isNum {post : Int32 → Prop} {s : Nat} (hs : s < 512) (h : post 1) : wpX_isNumber post (nI s) :=
  br_f (nI_pos (by omega)) (br_f (nI_nlt (b := s) (a := 511) (by omega) (by omega)) h)
theorem rc_isNum0 {post : Int32 → Prop} {x : Int32} (hx : x < 0 ∨ nI 512 ≤ x) (h : post 0) : wpX_isNumber post x := by
  rcases hx with hx | hx
  · exact br_t hx h
  · have h2 : (511 : Int32) < x := by
      rw [rc_leI (by omega)] at hx
      rw [show (511 : Int32) = nI 511 from rfl, rc_ltI (by omega)]
      omega
    have h0 : ¬ x < 0 := by
      rw [rc_leI (by omega)] at hx
      rw [show (0 : Int32) = nI 0 from rfl, rc_Ilt (by omega)]
      omega
    exact br_f h0 (br_t h2 h)
section
variable {tp : Int32} {fo sz pa da bu wh ta : Nat → Int32}
variable {s : Nat} {M : Nat → Bool}
theorem rc_rank14 {post : Int32 → Prop} {bd : Int32} (hs : s < 3) (X : rc_XR fo sz pa da M) (h : post (nI (rc_cn (rc_gs M s) (rc_lim bd)))) :
    ∀ m c, c + m = 4 → wX_rank_14 post (nI s) bd tp fo sz pa da bu wh ta (m + 1) (nI (rc_cn (rc_gs M s) (min (rc_lim bd) (128 * c)))) (nI c) := by
  intro m
  induction m with
  | zero =>
    intro c hc
    have e : c = 4 := by omega
    subst e
    refine br_t (nI_le (Nat.le_refl 4) (by omega)) ?_
    have e2 : min (rc_lim bd) (128 * 4) = rc_lim bd := by unfold rc_lim; omega
    rw [e2]
    exact h
  | succ m ih =>
    intro c hc
    have hle : ¬ 4 ≤ c := by omega
    have K : ∀ L', L' ≤ 128 → L' = min 128 (rc_lim bd - 128 * c) → wX_rank_73 post (wX_rank_14 post (nI s) bd tp fo sz pa da bu wh ta (m + 1)) (nI s) bd (nI (rc_cn (rc_gs M s) (min (rc_lim bd) (128 * c)))) (nI c) (nI L') tp fo sz pa da bu wh ta := by
      intro L' h1 h2
      unfold wX_rank_73
      simp (disch := omega) only [nI_1, nI_add, rc_m2, rc_m4, rc_m8, rc_m32, rc_m128, rc_m512, rc_a128, rc_a4, rc_4a, rc_shr5, rc_shr7, rc_and31, rc_and127, nI_clamp, vp_in_nI, nI_leI, nI_ltI, nI_eq, rc_le4, rc_le16, rc_le128, rc_le512, rc_le511, rc_lt511, rc_lt2, rc_lt4, rc_lt8, rc_l128, rc_l511, rc_l0, rc_e0, rc_e1, false_implies, true_implies, not_false_eq_true, not_true_eq_false, true_and, and_true, implies_true, forall_eq]
      refine rc_below (by omega) (rc_XR_ch0 hs (show c < 4 by omega) X) h1 ?_
      simp (disch := omega) only [nI_1, nI_add, rc_m2, rc_m4, rc_m8, rc_m32, rc_m128, rc_m512, rc_a128, rc_a4, rc_4a, rc_shr5, rc_shr7, rc_and31, rc_and127, nI_clamp, vp_in_nI, nI_leI, nI_ltI, nI_eq, rc_le4, rc_le16, rc_le128, rc_le512, rc_le511, rc_lt511, rc_lt2, rc_lt4, rc_lt8, rc_l128, rc_l511, rc_l0, rc_e0, rc_e1, false_implies, true_implies, not_false_eq_true, not_true_eq_false, true_and, and_true, implies_true, forall_eq]
      have e : rc_cn (rc_gs M s) (min (rc_lim bd) (128 * c)) + rc_cn (fun x => rc_gs M s (128 * c + x)) L' = rc_cn (rc_gs M s) (min (rc_lim bd) (128 * (c + 1))) := by
        rcases Nat.lt_or_ge (128 * c) (rc_lim bd) with z | z
        · rw [show min (rc_lim bd) (128 * c) = 128 * c by omega, ← rc_cn_add]
          congr 1
          omega
        · rw [show L' = 0 by omega, rc_cn0, show min (rc_lim bd) (128 * (c + 1)) = min (rc_lim bd) (128 * c) by omega]
          rfl
      rw [e]
      exact ih (c + 1) (by omega)
    rw [wX_rank_14]
    simp (disch := omega) only [nI_1, nI_add, rc_m2, rc_m4, rc_m8, rc_m32, rc_m128, rc_m512, rc_a128, rc_a4, rc_4a, rc_shr5, rc_shr7, rc_and31, rc_and127, nI_clamp, vp_in_nI, nI_leI, nI_ltI, nI_eq, rc_le4, rc_le16, rc_le128, rc_le512, rc_le511, rc_lt511, rc_lt2, rc_lt4, rc_lt8, rc_l128, rc_l511, rc_l0, rc_e0, rc_e1, false_implies, true_implies, not_false_eq_true, not_true_eq_false, true_and, and_true, implies_true, forall_eq, hle, rc_ltI]
    unfold wX_rank_37
    simp (disch := omega) only [nI_1, nI_add, rc_m2, rc_m4, rc_m8, rc_m32, rc_m128, rc_m512, rc_a128, rc_a4, rc_4a, rc_shr5, rc_shr7, rc_and31, rc_and127, nI_clamp, vp_in_nI, nI_leI, nI_ltI, nI_eq, rc_le4, rc_le16, rc_le128, rc_le512, rc_le511, rc_lt511, rc_lt2, rc_lt4, rc_lt8, rc_l128, rc_l511, rc_l0, rc_e0, rc_e1, false_implies, true_implies, not_false_eq_true, not_true_eq_false, true_and, and_true, implies_true, forall_eq, rc_Ile, rc_leI]
    have hl : rc_lim bd = min bd.toInt.toNat 512 := rfl
    refine br_c (fun c1 => br_c (fun c2 => ?_) (fun c2 => br_c (fun c3 => ?_) (fun c3 => ?_))) (fun c1 => br_c (fun c2 => ?_) (fun c2 => ?_))
    · omega
    · exact K 128 (by omega) (by omega)
    · have e : bd - nI (128 * c) = nI (bd.toInt.toNat - 128 * c) := by
        exact rc_subI (by omega)
      rw [e]
      exact K _ (by omega) (by omega)
    · exact K 0 (by omega) (by omega)
    · omega
theorem rc_rank {post : Int32 → Prop} {bd : Int32} (hs : s < 3) (X : rc_XR fo sz pa da M) (h : post (nI (rc_cn (rc_gs M s) (rc_lim bd)))) : wpX_rank post (tp, fo, sz, pa, da, bu, wh, ta) (nI s) bd := by
  unfold wpX_rank
  dsimp only
  refine rc_isSet hs (br_f (by decide) ⟨5, ?_⟩)
  have t := rc_rank14 (tp := tp) (fo := fo) (sz := sz) (pa := pa) (da := da) (bu := bu) (wh := wh) (ta := ta) (bd := bd) hs X h 4 0 rfl
  rw [show min (rc_lim bd) (128 * 0) = 0 by omega] at t
  exact t
theorem rc_select14n {post : Int32 → Prop} {k : Int32} (hs : s < 3) (X : rc_XR fo sz pa da M) (hk : k < 0) (h : post (-2)) :
    ∀ m c, c + m = 4 → wX_select_14 post (nI s) tp fo sz pa da bu wh ta (m + 1) (k - nI (rc_cn (rc_gs M s) (128 * c))) (nI c) := by
  intro m
  induction m with
  | zero =>
    intro c hc
    have e : c = 4 := by omega
    subst e
    exact br_t (nI_le (Nat.le_refl 4) (by omega)) h
  | succ m ih =>
    intro c hc
    have hle : ¬ 4 ≤ c := by omega
    have hz := (rc_XR_ch0 hs (show c < 4 by omega) X).1
    have l1 := rc_cn_le (rc_gs M s) (128 * c)
    have l2 := rc_cn_le (fun x => rc_gs M s (128 * c + x)) 128
    have z0 : (0 : Int32).toInt = 0 := by decide
    rw [wX_select_14]
    simp (disch := omega) only [nI_1, nI_add, rc_m2, rc_m4, rc_m8, rc_m32, rc_m128, rc_m512, rc_a128, rc_a4, rc_4a, rc_shr5, rc_shr7, rc_and31, rc_and127, nI_clamp, vp_in_nI, nI_leI, nI_ltI, nI_eq, rc_le4, rc_le16, rc_le128, rc_le512, rc_le511, rc_lt511, rc_lt2, rc_lt4, rc_lt8, rc_l128, rc_l511, rc_l0, rc_e0, rc_e1, false_implies, true_implies, not_false_eq_true, not_true_eq_false, true_and, and_true, implies_true, forall_eq, hle, hz]
    have e : k - nI (rc_cn (rc_gs M s) (128 * c)) - nI (rc_cn (fun x => rc_gs M s (128 * c + x)) 128) = k - nI (rc_cn (rc_gs M s) (128 * (c + 1))) := by
      rw [rc_cn128, ← nI_add]
      exact Int32.sub_sub _ _ _
    rw [e]
    have t := ih (c + 1) (by omega)
    refine br_c (fun _ => t) (fun c1 => br_c (fun _ => t) (fun c2 => ?_))
    exfalso
    rw [Int32.lt_iff_toInt_lt, z0] at hk c1
    rw [Int32.le_iff_toInt_le, nI_toInt (by omega)] at c2
    have hb := k.le_toInt
    rw [Int32.toInt_sub, nI_toInt (by omega)] at c1 c2
    have eb : (k.toInt - ((rc_cn (rc_gs M s) (128 * c) : Nat) : Int)).bmod (2 ^ 32) = k.toInt - ((rc_cn (rc_gs M s) (128 * c) : Nat) : Int) ∨ (k.toInt - ((rc_cn (rc_gs M s) (128 * c) : Nat) : Int)).bmod (2 ^ 32) = k.toInt - ((rc_cn (rc_gs M s) (128 * c) : Nat) : Int) + 4294967296 := rc_bm _ (by omega) (by omega)
    rcases eb with eb | eb <;> rw [eb] at c1 c2 <;> omega
theorem rc_select14 {post : Int32 → Prop} {r : Nat} (hs : s < 3) (X : rc_XR fo sz pa da M) (hr : r < 2 ^ 31) (h : ∀ v, rc_Sel (rc_gs M s) (nI r) v → post v) :
    ∀ m c, c + m = 4 → rc_cn (rc_gs M s) (128 * c) ≤ r → wX_select_14 post (nI s) tp fo sz pa da bu wh ta (m + 1) (nI (r - rc_cn (rc_gs M s) (128 * c))) (nI c) := by
  intro m
  induction m with
  | zero =>
    intro c hc hcr
    have e : c = 4 := by omega
    subst e
    refine br_t (nI_le (Nat.le_refl 4) (by omega)) (h _ (Or.inr ⟨rfl, fun x hx hg he => ?_⟩))
    have l1 := rc_cn_le (rc_gs M s) x
    rw [nI_eq hr (by omega)] at he
    have l2 := rc_cn_lt hg hx
    rw [show 128 * 4 = 512 from rfl] at hcr
    omega
  | succ m ih =>
    intro c hc hcr
    have hle : ¬ 4 ≤ c := by omega
    have hz := (rc_XR_ch0 hs (show c < 4 by omega) X).1
    have l1 := rc_cn_le (rc_gs M s) (128 * c)
    have l2 := rc_cn_le (fun x => rc_gs M s (128 * c + x)) 128
    rw [wX_select_14]
    simp (disch := omega) only [nI_1, nI_add, rc_m2, rc_m4, rc_m8, rc_m32, rc_m128, rc_m512, rc_a128, rc_a4, rc_4a, rc_shr5, rc_shr7, rc_and31, rc_and127, nI_clamp, vp_in_nI, nI_leI, nI_ltI, nI_eq, rc_le4, rc_le16, rc_le128, rc_le512, rc_le511, rc_lt511, rc_lt2, rc_lt4, rc_lt8, rc_l128, rc_l511, rc_l0, rc_e0, rc_e1, false_implies, true_implies, not_false_eq_true, not_true_eq_false, true_and, and_true, implies_true, forall_eq, hle, hz]
    refine br_c (fun c2 => ?_) (fun c2 => ?_)
    · rw [pk_sub c2, Nat.sub_sub, ← rc_cn128]
      exact ih (c + 1) (by omega) (by rw [rc_cn128]; omega)
    · refine rc_selectIn (by omega) (rc_XR_ch0 hs (show c < 4 by omega) X) (by omega) (fun x hx hb hcn => ?_)
      simp (disch := omega) only [nI_1, nI_add, rc_m2, rc_m4, rc_m8, rc_m32, rc_m128, rc_m512, rc_a128, rc_a4, rc_4a, rc_shr5, rc_shr7, rc_and31, rc_and127, nI_clamp, vp_in_nI, nI_leI, nI_ltI, nI_eq, rc_le4, rc_le16, rc_le128, rc_le512, rc_le511, rc_lt511, rc_lt2, rc_lt4, rc_lt8, rc_l128, rc_l511, rc_l0, rc_e0, rc_e1, false_implies, true_implies, not_false_eq_true, not_true_eq_false, true_and, and_true, implies_true, forall_eq]
      refine h _ (Or.inl ⟨128 * c + x, by omega, hb, ?_, rfl⟩)
      rw [rc_cn_add, hcn]
      congr 1
      omega
theorem rc_select {post : Int32 → Prop} {k : Int32} (hs : s < 3) (X : rc_XR fo sz pa da M) (h : ∀ v, rc_Sel (rc_gs M s) k v → post v) : wpX_select post (tp, fo, sz, pa, da, bu, wh, ta) (nI s) k := by
  unfold wpX_select
  dsimp only
  refine rc_isSet hs (br_f (by decide) ⟨5, ?_⟩)
  by_cases c : k < 0
  · have t := rc_select14n (tp := tp) (fo := fo) (sz := sz) (pa := pa) (da := da) (bu := bu) (wh := wh) (ta := ta) (post := post) (k := k) hs X c (h _ (Or.inr ⟨rfl, fun x hx hg he => ?_⟩)) 4 0 rfl
    · rw [Nat.mul_zero, rc_cn0, nI_0, Int32.sub_zero] at t
      exact t
    · rw [he] at c
      have l1 := rc_cn_le (rc_gs M s) x
      exact nI_pos (by omega) c
  · obtain ⟨r, hr, rfl⟩ := nI_of c
    have t := rc_select14 (tp := tp) (fo := fo) (sz := sz) (pa := pa) (da := da) (bu := bu) (wh := wh) (ta := ta) (post := post) hs X hr h 4 0 rfl (by rw [Nat.mul_zero, rc_cn0]; omega)
    rw [Nat.mul_zero, rc_cn0] at t
    exact t
theorem rc_next11 {post : Int32 → Prop} {f : Int32} (hs : s < 3) (X : rc_XR fo sz pa da M) (h : ∀ v, rc_Nx (rc_gs M s) f v → post v) :
    ∀ m c, c + m = 4 → (∀ y : Nat, y < 128 * c → f.toInt ≤ (y : Int) → rc_gs M s y = false) → wX_next_11 post (nI s) f tp fo sz pa da bu wh ta (m + 1) (nI c) := by
  intro m
  induction m with
  | zero =>
    intro c hc hI
    have e : c = 4 := by omega
    subst e
    exact br_t (nI_le (Nat.le_refl 4) (by omega)) (h _ (Or.inr ⟨rfl, hI⟩))
  | succ m ih =>
    intro c hc hI
    have hle : ¬ 4 ≤ c := by omega
    have K : ∀ p : Nat, p < 128 → (∀ y : Nat, f.toInt ≤ ((128 * c + y : Nat) : Int) ↔ p ≤ y) → wX_next_49 post (wX_next_11 post (nI s) f tp fo sz pa da bu wh ta (m + 1)) (nI s) f (nI c) (nI p) tp fo sz pa da bu wh ta := by
      intro p hp he
      unfold wX_next_49
      simp (disch := omega) only [nI_1, nI_add, rc_m2, rc_m4, rc_m8, rc_m32, rc_m128, rc_m512, rc_a128, rc_a4, rc_4a, rc_shr5, rc_shr7, rc_and31, rc_and127, nI_clamp, vp_in_nI, nI_leI, nI_ltI, nI_eq, rc_le4, rc_le16, rc_le128, rc_le512, rc_le511, rc_lt511, rc_lt2, rc_lt4, rc_lt8, rc_l128, rc_l511, rc_l0, rc_e0, rc_e1, false_implies, true_implies, not_false_eq_true, not_true_eq_false, true_and, and_true, implies_true, forall_eq]
      refine rc_nextIn (by omega) (rc_XR_ch0 hs (show c < 4 by omega) X) (by omega) (fun x hx hpx hb hn => ?_) (fun hn => ?_)
      · refine br_f (nI_pos (by omega)) ?_
        rw [nI_add]
        refine h _ (Or.inl ⟨128 * c + x, by omega, hb, (he x).mpr hpx, fun y hy hfy => ?_, rfl⟩)
        rcases Nat.lt_or_ge y (128 * c) with z | z
        · exact hI y z hfy
        · have t := hn (y - 128 * c) ((he _).mp (by rw [show 128 * c + (y - 128 * c) = y by omega]; exact hfy)) (by omega)
          rw [show 128 * c + (y - 128 * c) = y by omega] at t
          exact t
      · refine br_t (by decide) ?_
        refine ih (c + 1) (by omega) (fun y hy hfy => ?_)
        rcases Nat.lt_or_ge y (128 * c) with z | z
        · exact hI y z hfy
        · have t := hn (y - 128 * c) ((he _).mp (by rw [show 128 * c + (y - 128 * c) = y by omega]; exact hfy)) (by omega)
          rw [show 128 * c + (y - 128 * c) = y by omega] at t
          exact t
    rw [wX_next_11]
    simp (disch := omega) only [nI_1, nI_add, rc_m2, rc_m4, rc_m8, rc_m32, rc_m128, rc_m512, rc_a128, rc_a4, rc_4a, rc_shr5, rc_shr7, rc_and31, rc_and127, nI_clamp, vp_in_nI, nI_leI, nI_ltI, nI_eq, rc_le4, rc_le16, rc_le128, rc_le512, rc_le511, rc_lt511, rc_lt2, rc_lt4, rc_lt8, rc_l128, rc_l511, rc_l0, rc_e0, rc_e1, false_implies, true_implies, not_false_eq_true, not_true_eq_false, true_and, and_true, implies_true, forall_eq, hle]
    simp (disch := omega) only [rc_leI, rc_Ile]
    refine br_c (fun c1 => ?_) (fun c1 => br_c (fun c2 => ?_) (fun c2 => ?_))
    · refine ih (c + 1) (by omega) (fun y hy hfy => ?_)
      omega
    · exact K 0 (by omega) (fun y => by omega)
    · have e : f - nI (128 * c) = nI (f.toInt.toNat - 128 * c) := by
        exact rc_subI (by omega)
      rw [e]
      exact K _ (by omega) (fun y => by omega)
theorem rc_next {post : Int32 → Prop} {f : Int32} (hs : s < 3) (X : rc_XR fo sz pa da M) (h : ∀ v, rc_Nx (rc_gs M s) f v → post v) : wpX_next post (tp, fo, sz, pa, da, bu, wh, ta) (nI s) f := by
  unfold wpX_next
  dsimp only
  exact rc_isSet hs (br_f (by decide) ⟨5, rc_next11 hs X h 4 0 rfl (fun y hy => absurd hy (by omega))⟩)
theorem rc_previous {post : Int32 → Prop} {t : Int32} (hs : s < 3) (X : rc_XR fo sz pa da M) (h : ∀ v, rc_Pv (rc_gs M s) t v → post v) : wpX_previous post (tp, fo, sz, pa, da, bu, wh, ta) (nI s) t := by
  have K : ∀ L : Nat, L ≤ 512 → (∀ y : Nat, y < 512 → ((y : Int) ≤ t.toInt ↔ y < L)) → wX_previous_46 post (nI s) (nI (rc_cn (rc_gs M s) L)) tp fo sz pa da bu wh ta := by
    intro L hL he
    have l1 := rc_cn_le (rc_gs M s) L
    unfold wX_previous_46
    refine pk_eq (rc_cn (rc_gs M s) L) 0 (fun c => h _ (Or.inr ⟨rfl, fun y hy hyt => ?_⟩)) (fun c => ?_)
    · by_cases z : rc_gs M s y = true
      · have := rc_cn_lt z ((he y hy).mp hyt)
        omega
      · exact rc_nt z
    · rw [rc_s1 (by omega)]
      refine rc_select hs X (fun v hv => ?_)
      obtain ⟨x, x1, x2, x3⟩ := rc_cn_ex (rc_gs M s) L (rc_cn (rc_gs M s) L - 1) (by omega)
      rcases hv with ⟨x', h1, h2, h3, h4⟩ | ⟨h1, h2⟩
      · have l2 := rc_cn_le (rc_gs M s) x'
        rw [nI_eq (by omega) (by omega)] at h3
        have e : x' = x := rc_cn_inj h2 x2 (by omega)
        subst e
        refine h _ (Or.inl ⟨x', h1, h2, (he x' h1).mpr x1, fun y hy1 hy2 hyt => ?_, h4⟩)
        by_cases z : rc_gs M s y = true
        · have := rc_cn_lt z ((he y hy2).mp hyt)
          have := rc_cn_lt h2 hy1
          omega
        · exact rc_nt z
      · exact absurd (by rw [x3]) (h2 x (by omega) x2)
  have z0 : (0 : Int32).toInt = 0 := by decide
  have z511 : (511 : Int32).toInt = 511 := by decide
  unfold wpX_previous
  dsimp only
  refine rc_isSet hs (br_f (by decide) ?_)
  unfold wX_previous_25
  refine br_c (fun c1 => br_c (fun c2 => ?_) (fun c2 => br_c (fun c3 => ?_) (fun c3 => ?_))) (fun c1 => ?_)
  · rw [Int32.lt_iff_toInt_lt, z0] at c2
    exact K 0 (by omega) (fun y hy => by omega)
  · rw [Int32.lt_iff_toInt_lt, z511] at c1
    rw [Int32.le_iff_toInt_le, z511] at c3
    omega
  · rw [Int32.lt_iff_toInt_lt, z511] at c1
    rw [Int32.lt_iff_toInt_lt, z0] at c2
    have e : t + 1 = nI (t.toInt.toNat + 1) := by rw [← nI_1, ← rc_ofI (by omega)]
    rw [e]
    refine rc_rank hs X ?_
    have el : rc_lim (nI (t.toInt.toNat + 1)) = t.toInt.toNat + 1 := by
      unfold rc_lim
      rw [nI_toInt (by omega)]
      omega
    rw [el]
    exact K _ (by omega) (fun y hy => by omega)
  · rw [Int32.lt_iff_toInt_lt, z511] at c1
    refine rc_total hs X ?_
    have k2 := K 512 (by omega) (fun y hy => by omega)
    refine br_c (fun _ => k2) (fun c2 => br_t ?_ k2)
    rw [Int32.le_iff_toInt_le, z511]
    omega
theorem rc_gap27 {post : Int32 → Prop} {f : Nat} (hs : s < 3) (hf : f < 512) (X : rc_XR fo sz pa da M) (h : ∀ v, rc_Gp (rc_gs M s) f v → post v) :
    ∀ m c, c + m = 4 → ∀ x, f ≤ x → 128 * c ≤ x → (x < 128 * c + 128) → (∀ y, f ≤ y → y < x → rc_gs M s y = true) → wX_gap_27 post (nI s) tp fo sz pa da bu wh ta (m + 1) (nI x) (nI c) := by
  intro m
  induction m with
  | zero =>
    intro c hc x hfx h1 h2 hI
    have e : c = 4 := by omega
    subst e
    exact br_t (nI_le (Nat.le_refl 4) (by omega)) (h _ (Or.inr ⟨rfl, fun y hy1 hy2 => hI y hy1 (by omega)⟩))
  | succ m ih =>
    intro c hc x hfx h1 h2 hI
    have hle : ¬ 4 ≤ c := by omega
    rw [wX_gap_27]
    simp (disch := omega) only [nI_1, nI_add, rc_m2, rc_m4, rc_m8, rc_m32, rc_m128, rc_m512, rc_a128, rc_a4, rc_4a, rc_shr5, rc_shr7, rc_and31, rc_and127, nI_clamp, vp_in_nI, nI_leI, nI_ltI, nI_eq, rc_le4, rc_le16, rc_le128, rc_le512, rc_le511, rc_lt511, rc_lt2, rc_lt4, rc_lt8, rc_l128, rc_l511, rc_l0, rc_e0, rc_e1, false_implies, true_implies, not_false_eq_true, not_true_eq_false, true_and, and_true, implies_true, forall_eq, hle, pk_sub]
    refine rc_gapIn (by omega) (rc_XR_ch0 hs (show c < 4 by omega) X) (by omega) (fun z z1 z2 z3 z4 => ?_)
    have hz : ∀ y, f ≤ y → y < 128 * c + z → rc_gs M s y = true := by
      intro y y1 y2
      rcases Nat.lt_or_ge y x with w | w
      · exact hI y y1 w
      · have t := z3 (y - 128 * c) (by omega) (by omega)
        rw [show 128 * c + (y - 128 * c) = y by omega] at t
        exact t
    by_cases c2 : 128 ≤ z
    · simp (disch := omega) only [nI_1, nI_add, rc_m2, rc_m4, rc_m8, rc_m32, rc_m128, rc_m512, rc_a128, rc_a4, rc_4a, rc_shr5, rc_shr7, rc_and31, rc_and127, nI_clamp, vp_in_nI, nI_leI, nI_ltI, nI_eq, rc_le4, rc_le16, rc_le128, rc_le512, rc_le511, rc_lt511, rc_lt2, rc_lt4, rc_lt8, rc_l128, rc_l511, rc_l0, rc_e0, rc_e1, false_implies, true_implies, not_false_eq_true, not_true_eq_false, true_and, and_true, implies_true, forall_eq, c2]
      exact ih (c + 1) (by omega) _ (by omega) (by omega) (by omega) (fun y y1 y2 => hz y y1 (by omega))
    · simp (disch := omega) only [nI_1, nI_add, rc_m2, rc_m4, rc_m8, rc_m32, rc_m128, rc_m512, rc_a128, rc_a4, rc_4a, rc_shr5, rc_shr7, rc_and31, rc_and127, nI_clamp, vp_in_nI, nI_leI, nI_ltI, nI_eq, rc_le4, rc_le16, rc_le128, rc_le512, rc_le511, rc_lt511, rc_lt2, rc_lt4, rc_lt8, rc_l128, rc_l511, rc_l0, rc_e0, rc_e1, false_implies, true_implies, not_false_eq_true, not_true_eq_false, true_and, and_true, implies_true, forall_eq, c2]
      exact h _ (Or.inl ⟨128 * c + z, by omega, by omega, z4 (by omega), hz, rfl⟩)
theorem rc_runs21 {post : Int32 → SX → Prop} {g : Nat → Bool} (hw : ∀ y, y < 512 → rc_bo wh 0 y = g y) (h : post (nI (rc_cn (rc_st g) 512)) (tp, fo, sz, pa, da, bu, wh, ta)) :
    ∀ m w, w + m = 16 → ∀ ca, rc_Ca g w ca → wX_runs_21 post tp fo sz pa da bu wh ta (m + 1) (nI (rc_cn (rc_st g) (32 * w))) ca (nI w) := by
  intro m
  induction m with
  | zero =>
    intro w hw2 ca hc
    have e : w = 16 := by omega
    subst e
    exact br_t (nI_le (Nat.le_refl 16) (by omega)) h
  | succ m ih =>
    intro w hw2 ca hc
    have hle : ¬ 16 ≤ w := by omega
    have hb : ∀ i, i < 32 → bt (wh w) i = g (32 * w + i) := by
      intro i hi
      rw [← hw _ (by omega)]
      unfold rc_bo
      rw [Nat.zero_add, show (32 * w + i) / 32 = w by omega, show (32 * w + i) % 32 = i by omega]
    rw [wX_runs_21]
    simp (disch := omega) only [nI_1, nI_add, rc_m2, rc_m4, rc_m8, rc_m32, rc_m128, rc_m512, rc_a128, rc_a4, rc_4a, rc_shr5, rc_shr7, rc_and31, rc_and127, nI_clamp, vp_in_nI, nI_leI, nI_ltI, nI_eq, rc_le4, rc_le16, rc_le128, rc_le512, rc_le511, rc_lt511, rc_lt2, rc_lt4, rc_lt8, rc_l128, rc_l511, rc_l0, rc_e0, rc_e1, false_implies, true_implies, not_false_eq_true, not_true_eq_false, true_and, and_true, implies_true, forall_eq, hle]
    refine rc_ones _ ?_
    simp (disch := omega) only [nI_1, nI_add, rc_m2, rc_m4, rc_m8, rc_m32, rc_m128, rc_m512, rc_a128, rc_a4, rc_4a, rc_shr5, rc_shr7, rc_and31, rc_and127, nI_clamp, vp_in_nI, nI_leI, nI_ltI, nI_eq, rc_le4, rc_le16, rc_le128, rc_le512, rc_le511, rc_lt511, rc_lt2, rc_lt4, rc_lt8, rc_l128, rc_l511, rc_l0, rc_e0, rc_e1, false_implies, true_implies, not_false_eq_true, not_true_eq_false, true_and, and_true, implies_true, forall_eq]
    rw [← rc_cnw (rc_stw hb hc)]
    exact ih (w + 1) (by omega) _ (rc_CaS hb)
theorem rc_common52 {post : Int32 → SX → Prop} {J : Int32 → Int32 → Int32 → (Nat → Int32) → (Nat → Int32) → (Nat → Int32) → (Nat → Int32) → (Nat → Int32) → (Nat → Int32) → (Nat → Int32) → Prop} {x1 x2 : Int32} {c : Nat} {hh : Nat → Bool} (hc : c < 4)
    (hb : ∀ y, y < 128 → (rc_bo bu 0 y && rc_bo bu 4 y) = hh (128 * c + y)) (h : J (nI (rc_cn hh (128 * (c + 1)))) (nI (c + 1)) tp fo sz pa da bu wh ta) :
    ∀ m w, w + m = 4 → wX_common_52 post J x1 x2 (nI c) tp fo sz pa da bu wh ta (m + 1) (nI (rc_cn hh (32 * (4 * c + w)))) (nI w) := by
  intro m
  induction m with
  | zero =>
    intro w hw
    have e : w = 4 := by omega
    subst e
    refine br_t (nI_le (Nat.le_refl 4) (by omega)) (nm_r (nI_1 c) ?_)
    rw [show 32 * (4 * c + 4) = 128 * (c + 1) by omega]
    exact h
  | succ m ih =>
    intro w hw
    have hle : ¬ 4 ≤ w := by omega
    rw [wX_common_52]
    simp (disch := omega) only [nI_1, nI_add, rc_m2, rc_m4, rc_m8, rc_m32, rc_m128, rc_m512, rc_a128, rc_a4, rc_4a, rc_shr5, rc_shr7, rc_and31, rc_and127, nI_clamp, vp_in_nI, nI_leI, nI_ltI, nI_eq, rc_le4, rc_le16, rc_le128, rc_le512, rc_le511, rc_lt511, rc_lt2, rc_lt4, rc_lt8, rc_l128, rc_l511, rc_l0, rc_e0, rc_e1, false_implies, true_implies, not_false_eq_true, not_true_eq_false, true_and, and_true, implies_true, forall_eq, hle]
    refine rc_ones _ ?_
    simp (disch := omega) only [nI_1, nI_add, rc_m2, rc_m4, rc_m8, rc_m32, rc_m128, rc_m512, rc_a128, rc_a4, rc_4a, rc_shr5, rc_shr7, rc_and31, rc_and127, nI_clamp, vp_in_nI, nI_leI, nI_ltI, nI_eq, rc_le4, rc_le16, rc_le128, rc_le512, rc_le511, rc_lt511, rc_lt2, rc_lt4, rc_lt8, rc_l128, rc_l511, rc_l0, rc_e0, rc_e1, false_implies, true_implies, not_false_eq_true, not_true_eq_false, true_and, and_true, implies_true, forall_eq]
    have e := rc_cnw (b := hh) (j := 4 * c + w) (w := bu w &&& bu (4 + w)) (fun i hi => by
      have t := hb (32 * w + i) (by omega)
      unfold rc_bo at t
      rw [Nat.zero_add, show (32 * w + i) / 32 = w by omega, show (32 * w + i) % 32 = i by omega] at t
      rw [b_and, t]
      congr 1
      omega)
    rw [← e]
    exact ih (w + 1) (by omega)
theorem rc_common21 {post : Int32 → SX → Prop} {a t : Nat} (ha : a < 3) (ht : t < 3) (X : rc_XR fo sz pa da M)
    (h : ∀ bu', post (nI (rc_cn (fun x => rc_gs M a x && rc_gs M t x) 512)) (tp, fo, sz, pa, da, bu', wh, ta)) :
    ∀ m c, c + m = 4 → ∀ bu, wX_common_21 post (nI a) (nI t) (m + 1) (nI (rc_cn (fun x => rc_gs M a x && rc_gs M t x) (128 * c))) (nI c) tp fo sz pa da bu wh ta := by
  intro m
  induction m with
  | zero =>
    intro c hc bu
    have e : c = 4 := by omega
    subst e
    exact br_t (nI_le (Nat.le_refl 4) (by omega)) (h bu)
  | succ m ih =>
    intro c hc bu
    have hle : ¬ 4 ≤ c := by omega
    rw [wX_common_21]
    simp (disch := omega) only [nI_1, nI_add, rc_m2, rc_m4, rc_m8, rc_m32, rc_m128, rc_m512, rc_a128, rc_a4, rc_4a, rc_shr5, rc_shr7, rc_and31, rc_and127, nI_clamp, vp_in_nI, nI_leI, nI_ltI, nI_eq, rc_le4, rc_le16, rc_le128, rc_le512, rc_le511, rc_lt511, rc_lt2, rc_lt4, rc_lt8, rc_l128, rc_l511, rc_l0, rc_e0, rc_e1, false_implies, true_implies, not_false_eq_true, not_true_eq_false, true_and, and_true, implies_true, forall_eq, hle]
    refine rc_load (o := 0) (by omega) (by omega) (rc_XR_ch0 ha (show c < 4 by omega) X) (fun bu1 h1 h2 => ?_)
    dsimp only
    refine rc_load (o := 4) (by omega) (by omega) (rc_XR_ch0 ht (show c < 4 by omega) X) (fun bu2 h3 h4 => ?_)
    dsimp only
    have t := rc_common52 (post := post) (J := wX_common_21 post (nI a) (nI t) (m + 1)) (x1 := nI a) (x2 := nI t) (c := c) (hh := fun x => rc_gs M a x && rc_gs M t x) (tp := tp) (fo := fo) (sz := sz) (pa := pa) (da := da) (bu := bu2) (wh := wh) (ta := ta) (by omega) (fun y hy => ?_) (ih (c + 1) (by omega) bu2) 4 0 rfl
    · rw [show 32 * (4 * c + 0) = 128 * c by omega] at t
      exact ⟨5, t⟩
    · rw [h3 y hy, ← h1 y hy]
      congr 1
      unfold rc_bo
      rw [h4 _ (by omega)]
theorem rc_common {post : Int32 → SX → Prop} {a t : Nat} (ha : a < 3) (ht : t < 3) (X : rc_XR fo sz pa da M)
    (h : ∀ bu', post (nI (rc_cn (fun x => rc_gs M a x && rc_gs M t x) 512)) (tp, fo, sz, pa, da, bu', wh, ta)) : wpX_common post (tp, fo, sz, pa, da, bu, wh, ta) (nI a) (nI t) := by
  unfold wpX_common
  dsimp only
  exact rc_isSet ha (br_f (by decide) (rc_isSet ht (br_f (by decide) ⟨5, rc_common21 ha ht X h 4 0 rfl bu⟩)))
end
end
section
/-! ===== the tape ===== -/
def rc_hd (f p z : Int32) : Int32 := (f ||| (p <<< ((2 : Int32) &&& 31))) ||| (z <<< ((8 : Int32) &&& 31))
/-- the first c chunks of g lie on the tape, chunk i from t i on -/
def rc_TP (ta : Nat → Int32) (g : Nat → Bool) (t : Nat → Nat) (c : Nat) : Prop :=
  t 0 = 0 ∧ ∀ i, i < c → ∃ f z p : Int32, t (i + 1) = t i + 1 + rc_cl f p ∧ ta (t i) = rc_hd f p z ∧ rc_ck f z p (fun j => ta (t i + 1 + j)) (fun x => g (128 * i + x))
theorem rc_nor (a b : Nat) : nI a ||| nI b = nI (a ||| b) := by
  apply Int32.toBitVec_inj.1
  show BitVec.ofNat 32 a ||| BitVec.ofNat 32 b = BitVec.ofNat 32 (a ||| b)
  apply BitVec.eq_of_getLsbD_eq
  intro i hi
  simp [hi]
theorem rc_hdN {F P Z : Nat} (hF : F < 4) (hP : P < 64) (hZ : Z < 65536) : rc_hd (nI F) (nI P) (nI Z) = nI (F + 4 * P + 256 * Z) := by
  unfold rc_hd
  rw [pk_shlN _ 2 (by decide) (by omega), pk_shlN _ 8 (by decide) (by omega), rc_nor, rc_nor]
  congr 1
  have e1 := Nat.two_pow_add_eq_or_of_lt (i := 2) (b := F) (by omega) P
  have e2 := Nat.two_pow_add_eq_or_of_lt (i := 8) (b := F + 4 * P) (by omega) Z
  rw [Nat.or_comm F, Nat.mul_comm P, ← e1, Nat.or_comm, Nat.mul_comm Z, show 2 ^ 2 * P + F = F + 4 * P by omega, ← e2]
  omega
theorem rc_ck_num {f z p : Int32} {d : Nat → Int32} {b : Nat → Bool} (H : rc_ck f z p d b) : ∃ F P Z : Nat, F < 3 ∧ P ≤ 8 ∧ Z ≤ 128 ∧ f = nI F ∧ p = nI P ∧ z = nI Z := by
  obtain ⟨hz, H⟩ := H
  have l := rc_cn_le b 128
  rcases H with ⟨h1, h2, h3⟩ | ⟨h1, n, st, E, h2, h3, h4, h5⟩ | ⟨h1, n, st, E, h2, h3, h4, h5⟩
  · exact ⟨1, 4, _, by omega, by omega, l, h1, h2, hz⟩
  · exact ⟨0, n, _, by omega, by omega, l, h1, h3, hz⟩
  · exact ⟨2, n, _, by omega, by omega, l, h1, h3, hz⟩
theorem rc_hd_dec {f z p : Int32} {d : Nat → Int32} {b : Nat → Bool} (H : rc_ck f z p d b) : rc_hd f p z &&& 3 = f ∧ (rc_hd f p z >>> ((2 : Int32) &&& 31)) &&& 63 = p ∧ rc_hd f p z >>> ((8 : Int32) &&& 31) = z := by
  obtain ⟨F, P, Z, hF, hP, hZ, rfl, rfl, rfl⟩ := rc_ck_num H
  rw [rc_hdN (by omega) (by omega) (by omega)]
  refine ⟨?_, ?_, ?_⟩
  · rw [pk_andN (by omega) 2 (by decide)]
    congr 1
    omega
  · rw [pk_shrN (by omega) _ 2 (by decide), pk_andN (by omega) 6 (by decide)]
    congr 1
    omega
  · rw [pk_shrN (by omega) _ 8 (by decide)]
    congr 1
    omega
section
variable {ta : Nat → Int32} {g : Nat → Bool} {t : Nat → Nat} {c : Nat}
theorem rc_TP_le (T : rc_TP ta g t c) : ∀ i, i ≤ c → t i ≤ 9 * i := by
  intro i
  induction i with
  | zero => intro _; rw [T.1]; omega
  | succ i ih =>
    intro hi
    obtain ⟨f, z, p, h1, h2, h3⟩ := T.2 i (by omega)
    have := ih (by omega)
    have := rc_ck_cl h3
    omega
theorem rc_TP_mono (T : rc_TP ta g t c) {j : Nat} (hj : j ≤ c) : ∀ d i, i + d = j → t i ≤ t j := by
  intro d
  induction d with
  | zero =>
    intro i e
    have e2 : i = j := by omega
    rw [e2]; exact Nat.le_refl _
  | succ d ih =>
    intro i e
    have := ih (i + 1) (by omega)
    obtain ⟨f, z, p, h1, h2, h3⟩ := T.2 i (by omega)
    omega
theorem rc_TP_congr {g' : Nat → Bool} (hc : c ≤ 4) (h : ∀ x, x < 512 → g x = g' x) (T : rc_TP ta g t c) : rc_TP ta g' t c := by
  refine ⟨T.1, fun i hi => ?_⟩
  obtain ⟨f, z, p, h1, h2, h3⟩ := T.2 i hi
  exact ⟨f, z, p, h1, h2, rc_ck_congr (fun y hy => h _ (by omega)) h3⟩
theorem rc_TP_snoc {ta' : Nat → Int32} {f z p : Int32} {d : Nat → Int32} (T : rc_TP ta g t c) (hF : ∀ j, j < t c → ta' j = ta j) (h1 : ta' (t c) = rc_hd f p z)
    (h2 : ∀ j, j < rc_cl f p → ta' (t c + 1 + j) = d j) (H : rc_ck f z p d (fun x => g (128 * c + x))) : rc_TP ta' g (fun i => if i = c + 1 then t c + 1 + rc_cl f p else t i) (c + 1) := by
  refine ⟨?_, fun i hi => ?_⟩
  · show (if 0 = c + 1 then _ else t 0) = 0
    rw [if_neg (by omega)]
    exact T.1
  · show ∃ f' z' p' : Int32, (if i + 1 = c + 1 then t c + 1 + rc_cl f p else t (i + 1)) = (if i = c + 1 then t c + 1 + rc_cl f p else t i) + 1 + rc_cl f' p' ∧ ta' (if i = c + 1 then t c + 1 + rc_cl f p else t i) = rc_hd f' p' z' ∧ rc_ck f' z' p' (fun j => ta' ((if i = c + 1 then t c + 1 + rc_cl f p else t i) + 1 + j)) (fun x => g (128 * i + x))
    rw [if_neg (show ¬ i = c + 1 by omega)]
    by_cases e : i = c
    · subst e
      rw [if_pos rfl]
      exact ⟨f, z, p, rfl, h1, rc_ck_data h2 H⟩
    · rw [if_neg (show ¬ i + 1 = c + 1 by omega)]
      obtain ⟨f', z', p', k1, k2, k3⟩ := T.2 i (by omega)
      have m := rc_TP_mono T (Nat.le_refl c) (c - (i + 1)) (i + 1) (by omega)
      refine ⟨f', z', p', k1, by rw [hF _ (by omega)]; exact k2, rc_ck_data (fun j hj => hF _ (by omega)) k3⟩
end
section
variable {tp : Int32} {fo sz pa da bu wh ta : Nat → Int32}
variable {s : Nat} {M : Nat → Bool}
theorem rc_cellsOf {post : Int32 → Prop} {k : Nat} {f z p : Int32} {d : Nat → Int32} {b : Nat → Bool} (hk : k < 12) (hf : fo k = f) (hp : pa k = p) (H : rc_ck f z p d b) (h : post (nI (rc_cl f p))) : wpX_cellsOf post (tp, fo, sz, pa, da, bu, wh, ta) (nI k) := by
  unfold wpX_cellsOf
  dsimp only
  obtain ⟨hz, H⟩ := H
  unfold rc_cl at h
  rcases H with ⟨h1, h2, h3⟩ | ⟨h1, n, st, E, h2, h3, h4, h5⟩ | ⟨h1, n, st, E, h2, h3, h4, h5⟩
  · rw [if_pos h1] at h
    subst h1
    simp (disch := omega) only [nI_1, nI_add, rc_m2, rc_m4, rc_m8, rc_m32, rc_m128, rc_m512, rc_a128, rc_a4, rc_4a, rc_shr5, rc_shr7, rc_and31, rc_and127, nI_clamp, vp_in_nI, nI_leI, nI_ltI, nI_eq, rc_le4, rc_le16, rc_le128, rc_le512, rc_le511, rc_lt511, rc_lt2, rc_lt4, rc_lt8, rc_l128, rc_l511, rc_l0, rc_e0, rc_e1, false_implies, true_implies, not_false_eq_true, not_true_eq_false, true_and, and_true, implies_true, forall_eq, hf]
    exact h
  · subst h1
    have n1 : ¬ ((0 : Int32) = 1) := by decide
    rw [if_neg n1, if_pos rfl, h3, nI_clamp (by omega)] at h
    rw [h3] at hp
    simp (disch := omega) only [nI_1, nI_add, rc_m2, rc_m4, rc_m8, rc_m32, rc_m128, rc_m512, rc_a128, rc_a4, rc_4a, rc_shr5, rc_shr7, rc_and31, rc_and127, nI_clamp, vp_in_nI, nI_leI, nI_ltI, nI_eq, rc_le4, rc_le16, rc_le128, rc_le512, rc_le511, rc_lt511, rc_lt2, rc_lt4, rc_lt8, rc_l128, rc_l511, rc_l0, rc_e0, rc_e1, false_implies, true_implies, not_false_eq_true, not_true_eq_false, true_and, and_true, implies_true, forall_eq, hf, hp, n1]
    exact h
  · subst h1
    have n1 : ¬ ((2 : Int32) = 1) := by decide
    have n0 : ¬ ((2 : Int32) = 0) := by decide
    rw [if_neg n1, if_neg n0, h3, nI_clamp (by omega)] at h
    rw [h3] at hp
    simp (disch := omega) only [nI_1, nI_add, rc_m2, rc_m4, rc_m8, rc_m32, rc_m128, rc_m512, rc_a128, rc_a4, rc_4a, rc_shr5, rc_shr7, rc_and31, rc_and127, nI_clamp, vp_in_nI, nI_leI, nI_ltI, nI_eq, rc_le4, rc_le16, rc_le128, rc_le512, rc_le511, rc_lt511, rc_lt2, rc_lt4, rc_lt8, rc_l128, rc_l511, rc_l0, rc_e0, rc_e1, false_implies, true_implies, not_false_eq_true, not_true_eq_false, true_and, and_true, implies_true, forall_eq, hf, hp, n1, n0]
    exact h
theorem rc_write80 {post : Int32 → SX → Prop} {J : Int32 → Int32 → (Nat → Int32) → (Nat → Int32) → (Nat → Int32) → (Nat → Int32) → (Nat → Int32) → (Nat → Int32) → (Nat → Int32) → Prop} {x1 : Int32} {k T cl : Nat} (hk : k < 12) (hT : T ≤ 27) (hcl : cl ≤ 8) (ta1 : Nat → Int32)
    (h : ∀ ta', (∀ j, j < cl → ta' (T + 1 + j) = da (8 * k + j)) → (∀ j, j ≤ T → ta' j = ta1 j) → J (nI (k + 1)) (nI (T + 1 + cl)) fo sz pa da bu wh ta') :
    ∀ m i, i + m = cl → ∀ ta, (∀ j, j < i → ta (T + 1 + j) = da (8 * k + j)) → (∀ j, j ≤ T → ta j = ta1 j) → wX_write_80 post J x1 (nI k) (nI cl) (m + 1) (nI i) (nI (T + 1 + i)) fo sz pa da bu wh ta := by
  intro m
  induction m with
  | zero =>
    intro i hi ta hI hF
    have e : i = cl := by omega
    subst e
    exact br_t (nI_le (Nat.le_refl i) (by omega)) (nm_r (nI_1 k) (h ta hI hF))
  | succ m ih =>
    intro i hi ta hI hF
    have hle : ¬ cl ≤ i := by omega
    rw [wX_write_80]
    simp (disch := omega) only [nI_1, nI_add, rc_m2, rc_m4, rc_m8, rc_m32, rc_m128, rc_m512, rc_a128, rc_a4, rc_4a, rc_shr5, rc_shr7, rc_and31, rc_and127, nI_clamp, vp_in_nI, nI_leI, nI_ltI, nI_eq, rc_le4, rc_le16, rc_le128, rc_le512, rc_le511, rc_lt511, rc_lt2, rc_lt4, rc_lt8, rc_l128, rc_l511, rc_l0, rc_e0, rc_e1, false_implies, true_implies, not_false_eq_true, not_true_eq_false, true_and, and_true, implies_true, forall_eq, hle]
    refine ih (i + 1) (by omega) _ (fun j hj => ?_) (fun j hj => ?_)
    · by_cases c : j = i
      · subst c; exact pk_us
      · rw [pk_un (by omega)]; exact hI j (by omega)
    · rw [pk_un (by omega)]; exact hF j hj
theorem rc_write18 {post : Int32 → SX → Prop} (hs : s < 3) (X : rc_XR fo sz pa da M)
    (h : ∀ t ta', rc_TP ta' (rc_gs M s) t 4 → post 0 (nI (t 4), fo, sz, pa, da, bu, wh, ta')) :
    ∀ m c, c + m = 4 → ∀ t ta, rc_TP ta (rc_gs M s) t c → wX_write_18 post (nI s) (m + 1) (nI (4 * s + c)) (nI (t c)) fo sz pa da bu wh ta := by
  intro m
  induction m with
  | zero =>
    intro c hc t ta T
    have e : c = 4 := by omega
    subst e
    have hle : 4 * s + 4 ≤ 4 * s + 4 := Nat.le_refl _
    rw [wX_write_18]
    simp (disch := omega) only [nI_1, nI_add, rc_m2, rc_m4, rc_m8, rc_m32, rc_m128, rc_m512, rc_a128, rc_a4, rc_4a, rc_shr5, rc_shr7, rc_and31, rc_and127, nI_clamp, vp_in_nI, nI_leI, nI_ltI, nI_eq, rc_le4, rc_le16, rc_le128, rc_le512, rc_le511, rc_lt511, rc_lt2, rc_lt4, rc_lt8, rc_l128, rc_l511, rc_l0, rc_e0, rc_e1, false_implies, true_implies, not_false_eq_true, not_true_eq_false, true_and, and_true, implies_true, forall_eq, hle]
    exact h t ta T
  | succ m ih =>
    intro c hc t ta T
    have hle : ¬ 4 * s + 4 ≤ 4 * s + c := by omega
    have hT := rc_TP_le T c (Nat.le_refl c)
    have C := rc_XR_ch0 hs (show c < 4 by omega) X
    have h8 := rc_ck_cl C
    rw [wX_write_18]
    simp (disch := omega) only [nI_1, nI_add, rc_m2, rc_m4, rc_m8, rc_m32, rc_m128, rc_m512, rc_a128, rc_a4, rc_4a, rc_shr5, rc_shr7, rc_and31, rc_and127, nI_clamp, vp_in_nI, nI_leI, nI_ltI, nI_eq, rc_le4, rc_le16, rc_le128, rc_le512, rc_le511, rc_lt511, rc_lt2, rc_lt4, rc_lt8, rc_l128, rc_l511, rc_l0, rc_e0, rc_e1, false_implies, true_implies, not_false_eq_true, not_true_eq_false, true_and, and_true, implies_true, forall_eq, hle]
    refine rc_cellsOf (by omega) rfl rfl C ?_
    refine ⟨_, rc_write80 (T := t c) (cl := rc_cl (fo (4 * s + c)) (pa (4 * s + c))) (by omega) (by omega) h8 _ (fun ta' h1 h2 => ?_) (rc_cl (fo (4 * s + c)) (pa (4 * s + c))) 0 (by omega) _ (fun j hj => absurd hj (Nat.not_lt_zero j)) (fun j _ => rfl)⟩
    have T2 := rc_TP_snoc (ta' := ta') T (fun j hj => by rw [h2 j (by omega), pk_un (by omega)]) (by rw [h2 _ (Nat.le_refl _), pk_us]; rfl) h1 C
    have t2 := ih (c + 1) (by omega) _ ta' T2
    rw [if_pos rfl] at t2
    exact t2
theorem rc_write {post : Int32 → SX → Prop} (hs : s < 3) (X : rc_XR fo sz pa da M)
    (h : ∀ t ta', rc_TP ta' (rc_gs M s) t 4 → post 0 (nI (t 4), fo, sz, pa, da, bu, wh, ta')) : wpX_write post (tp, fo, sz, pa, da, bu, wh, ta) (nI s) := by
  unfold wpX_write
  dsimp only
  refine rc_isSet hs (br_f (by decide) (nm_r (rc_m4 s) ⟨5, ?_⟩))
  exact rc_write18 hs X h 4 0 rfl (fun _ => 0) ta ⟨rfl, fun i hi => absurd hi (Nat.not_lt_zero i)⟩
theorem rc_read93 {post : Int32 → SX → Prop} {J : Int32 → Int32 → (Nat → Int32) → (Nat → Int32) → (Nat → Int32) → (Nat → Int32) → (Nat → Int32) → (Nat → Int32) → (Nat → Int32) → Prop} {x1 : Int32} {k T cl : Nat} (hk : k < 12) (hT : T ≤ 27) (hcl : cl ≤ 8) (da1 : Nat → Int32)
    (h : ∀ da', (∀ j, j < cl → da' (8 * k + j) = ta (T + 1 + j)) → (∀ j, (j < 8 * k ∨ 8 * k + 8 ≤ j) → da' j = da1 j) → J (nI (T + 1 + cl)) (nI (k + 1)) fo sz pa da' bu wh ta) :
    ∀ m i, i + m = cl → ∀ da, (∀ j, j < i → da (8 * k + j) = ta (T + 1 + j)) → (∀ j, (j < 8 * k ∨ 8 * k + 8 ≤ j) → da j = da1 j) → wX_read_93 post J x1 (nI k) (nI cl) tp (m + 1) (nI (T + 1 + i)) (nI i) fo sz pa da bu wh ta := by
  intro m
  induction m with
  | zero =>
    intro i hi da hI hF
    have e : i = cl := by omega
    subst e
    exact br_t (nI_le (Nat.le_refl i) (by omega)) (nm_r (nI_1 k) (h da hI hF))
  | succ m ih =>
    intro i hi da hI hF
    have hle : ¬ cl ≤ i := by omega
    rw [wX_read_93]
    simp (disch := omega) only [nI_1, nI_add, rc_m2, rc_m4, rc_m8, rc_m32, rc_m128, rc_m512, rc_a128, rc_a4, rc_4a, rc_shr5, rc_shr7, rc_and31, rc_and127, nI_clamp, vp_in_nI, nI_leI, nI_ltI, nI_eq, rc_le4, rc_le16, rc_le128, rc_le512, rc_le511, rc_lt511, rc_lt2, rc_lt4, rc_lt8, rc_l128, rc_l511, rc_l0, rc_e0, rc_e1, false_implies, true_implies, not_false_eq_true, not_true_eq_false, true_and, and_true, implies_true, forall_eq, hle]
    refine ih (i + 1) (by omega) _ (fun j hj => ?_) (fun j hj => ?_)
    · by_cases c : j = i
      · subst c; exact pk_us
      · rw [pk_un (by omega)]; exact hI j (by omega)
    · rw [pk_un (by omega)]; exact hF j hj
theorem rc_read25 {post : Int32 → SX → Prop} {g : Nat → Bool} {t : Nat → Nat} (hs : s < 3) (T : rc_TP ta g t 4)
    (h : ∀ fo' sz' pa' da', rc_XR fo' sz' pa' da' (rc_pt M s 512 g) → post (nI (rc_cn g 512)) (tp, fo', sz', pa', da', bu, wh, ta)) :
    ∀ m c, c + m = 4 → ∀ fo sz pa da, rc_XR fo sz pa da (rc_pt M s (128 * c) g) → wX_read_25 post (nI s) tp (m + 1) (nI (t c)) (nI (4 * s + c)) fo sz pa da bu wh ta := by
  intro m
  induction m with
  | zero =>
    intro c hc fo sz pa da X
    have e : c = 4 := by omega
    subst e
    have hle : 4 * s + 4 ≤ 4 * s + 4 := Nat.le_refl _
    rw [wX_read_25]
    simp (disch := omega) only [nI_1, nI_add, rc_m2, rc_m4, rc_m8, rc_m32, rc_m128, rc_m512, rc_a128, rc_a4, rc_4a, rc_shr5, rc_shr7, rc_and31, rc_and127, nI_clamp, vp_in_nI, nI_leI, nI_ltI, nI_eq, rc_le4, rc_le16, rc_le128, rc_le512, rc_le511, rc_lt511, rc_lt2, rc_lt4, rc_lt8, rc_l128, rc_l511, rc_l0, rc_e0, rc_e1, false_implies, true_implies, not_false_eq_true, not_true_eq_false, true_and, and_true, implies_true, forall_eq, hle]
    refine rc_total hs X ?_
    rw [show 128 * 4 = 512 from rfl, rc_gs_cn]
    exact h _ _ _ _ X
  | succ m ih =>
    intro c hc fo sz pa da X
    have hle : ¬ 4 * s + 4 ≤ 4 * s + c := by omega
    have hT := rc_TP_le T c (by omega)
    obtain ⟨f, z, p, k1, k2, k3⟩ := T.2 c (by omega)
    obtain ⟨e1, e2, e3⟩ := rc_hd_dec k3
    have h8 := rc_ck_cl k3
    rw [wX_read_25]
    simp (disch := omega) only [nI_1, nI_add, rc_m2, rc_m4, rc_m8, rc_m32, rc_m128, rc_m512, rc_a128, rc_a4, rc_4a, rc_shr5, rc_shr7, rc_and31, rc_and127, nI_clamp, vp_in_nI, nI_leI, nI_ltI, nI_eq, rc_le4, rc_le16, rc_le128, rc_le512, rc_le511, rc_lt511, rc_lt2, rc_lt4, rc_lt8, rc_l128, rc_l511, rc_l0, rc_e0, rc_e1, false_implies, true_implies, not_false_eq_true, not_true_eq_false, true_and, and_true, implies_true, forall_eq, hle, k2, e1, e2, e3]
    refine rc_cellsOf (by omega) pk_us pk_us k3 ?_
    refine ⟨_, rc_read93 (T := t c) (cl := rc_cl f p) (by omega) (by omega) h8 da (fun da' h1 h2 => ?_) (rc_cl f p) 0 (by omega) da (fun j hj => absurd hj (Nat.not_lt_zero j)) (fun j _ => rfl)⟩
    rw [← k1]
    refine ih (c + 1) (by omega) _ _ _ _ (rc_XR_next X (b := fun x => g (128 * c + x)) ?_ ⟨fun j hj => ⟨pk_un hj, pk_un hj, pk_un hj⟩, h2⟩ (fun y _ => rfl))
    unfold rc_CK
    rw [pk_us, pk_us, pk_us]
    exact rc_ck_data h1 k3
end
end
section
/-! ===== the reference ===== -/
def rc_bI (x : Bool) : Int32 := if x = true then 1 else 0
def rc_yM (M : Nat → Bool) : Nat → Int32 := fun j => rc_bI (M j)
def rc_ub (M : Nat → Bool) (j : Nat) (v : Bool) : Nat → Bool := fun i => if i = j then v else M i
theorem rc_bI0 (x : Bool) : rc_bI x = 0 ↔ x = false := by cases x <;> decide
theorem rc_bIe (x y : Bool) : rc_bI x = rc_bI y ↔ x = y := by cases x <;> cases y <;> decide
theorem rc_bIn (x : Bool) : vp_nar .boolean (rc_bI x) = rc_bI x := by cases x <;> rfl
theorem rc_n1 : vp_nar .boolean 1 = rc_bI true := rfl
theorem rc_n0 : vp_nar .boolean 0 = rc_bI false := rfl
theorem rc_yMj (M : Nat → Bool) (j : Nat) : rc_yM M j = rc_bI (M j) := rfl
theorem rc_yMu (M : Nat → Bool) (j : Nat) (v : Bool) : upd (rc_yM M) j (rc_bI v) = rc_yM (rc_ub M j v) := by
  funext i
  unfold upd rc_yM rc_ub
  by_cases c : i = j
  · rw [if_pos c, if_pos c]
  · rw [if_neg c, if_neg c]
theorem rc_ub_pt (M g : Nat → Bool) (s x : Nat) : rc_ub (rc_pt M s x g) (512 * s + x) (g x) = rc_pt M s (x + 1) g := by
  funext j
  unfold rc_ub rc_pt
  by_cases c : j = 512 * s + x
  · rw [if_pos c, if_pos (by omega)]
    congr 1
    omega
  · rw [if_neg c]
    by_cases c2 : 512 * s ≤ j ∧ j < 512 * s + x
    · rw [if_pos c2, if_pos (by omega)]
    · rw [if_neg c2, if_neg (by omega)]
theorem rc_pt_at (M g : Nat → Bool) (s x t : Nat) (hx : x < 512) : rc_pt M s x g (512 * t + x) = rc_gs M t x := by
  unfold rc_pt rc_gs
  rw [if_neg (by omega)]
section
variable {w : Int32} {M : Nat → Bool} {old : Nat → Int32} {s : Nat}
theorem rc_Yset {post : Int32 → Prop} {u : SY} (hs : s < 3) (h : post 0) : wpY_badSet post u (nI s) := by
  obtain ⟨a, b, c⟩ := u
  exact br_f (nI_pos (by omega)) (br_t (nI_le (a := s) (b := 2) (by omega) (by omega)) h)
theorem rc_Yset1 {post : Int32 → Prop} {u : SY} {x : Int32} (hx : x < 0 ∨ nI 3 ≤ x) (h : post 1) : wpY_badSet post u x := by
  obtain ⟨a, b, c⟩ := u
  rcases hx with hx | hx
  · exact br_t hx h
  · rw [rc_leI (by omega)] at hx
    have h2 : ¬ x ≤ (2 : Int32) := by
      rw [show (2 : Int32) = nI 2 from rfl, rc_Ile (by omega)]
      omega
    have h0 : ¬ x < 0 := by
      rw [show (0 : Int32) = nI 0 from rfl, rc_Ilt (by omega)]
      omega
    exact br_f h0 (br_f h2 h)
theorem rc_Ynum {post : Int32 → Prop} {u : SY} {x : Nat} (hx : x < 512) (h : post 0) : wpY_badNumber post u (nI x) := by
  obtain ⟨a, b, c⟩ := u
  exact br_f (nI_pos (by omega)) (br_t (nI_le (a := x) (b := 511) (by omega) (by omega)) h)
theorem rc_Ynum1 {post : Int32 → Prop} {u : SY} {x : Int32} (hx : x < 0 ∨ nI 512 ≤ x) (h : post 1) : wpY_badNumber post u x := by
  obtain ⟨a, b, c⟩ := u
  rcases hx with hx | hx
  · exact br_t hx h
  · rw [rc_leI (by omega)] at hx
    have h2 : ¬ x ≤ (511 : Int32) := by
      rw [show (511 : Int32) = nI 511 from rfl, rc_Ile (by omega)]
      omega
    have h0 : ¬ x < 0 := by
      rw [show (0 : Int32) = nI 0 from rfl, rc_Ilt (by omega)]
      omega
    exact br_f h0 (br_f h2 h)
theorem rc_many4 {post : Int32 → Prop} (hs : s < 3) (h : post (nI (rc_cn (rc_gs M s) 512))) :
    ∀ m x, x + m = 512 → wY_many_4 post (nI s) w (rc_yM M) old (m + 1) (nI (rc_cn (rc_gs M s) x)) (nI x) := by
  intro m
  induction m with
  | zero =>
    intro x hx
    have e : x = 512 := by omega
    subst e
    exact br_t (nI_le (Nat.le_refl 512) (by omega)) h
  | succ m ih =>
    intro x hx
    have hle : ¬ 512 ≤ x := by omega
    rw [wY_many_4]
    simp (disch := omega) only [nI_1, nI_add, rc_m2, rc_m4, rc_m8, rc_m32, rc_m128, rc_m512, rc_a128, rc_a4, rc_4a, rc_shr5, rc_shr7, rc_and31, rc_and127, nI_clamp, vp_in_nI, nI_leI, nI_ltI, nI_eq, rc_le4, rc_le16, rc_le128, rc_le512, rc_le511, rc_lt511, rc_lt2, rc_lt4, rc_lt8, rc_l128, rc_l511, rc_l0, rc_e0, rc_e1, false_implies, true_implies, not_false_eq_true, not_true_eq_false, true_and, and_true, implies_true, forall_eq, hle, rc_yMj, rc_bI0]
    have t := ih (x + 1) (by omega)
    refine br_c (fun c => ?_) (fun c => ?_)
    · rw [rc_cnF (b := rc_gs M s) c] at t
      exact t
    · rw [rc_cnT (b := rc_gs M s) (rc_nf c)] at t
      exact t
theorem rc_many {post : Int32 → Prop} (hs : s < 3) (h : post (nI (rc_cn (rc_gs M s) 512))) : wpY_many post (w, rc_yM M, old) (nI s) := by
  unfold wpY_many
  dsimp only
  exact ⟨513, rc_many4 hs h 512 0 rfl⟩
theorem rc_Yadd {post : Int32 → SY → Prop} {x : Nat} (hs : s < 3) (hx : x < 512) (h : post (rc_bI (!M (512 * s + x))) (w, rc_yM (rc_ub M (512 * s + x) true), old)) : wpY_add post (w, rc_yM M, old) (nI s) (nI x) := by
  unfold wpY_add
  dsimp only
  refine rc_Yset hs (br_t rfl (rc_Ynum hx (br_t rfl ?_)))
  unfold wY_add_41
  simp (disch := omega) only [nI_1, nI_add, rc_m2, rc_m4, rc_m8, rc_m32, rc_m128, rc_m512, rc_a128, rc_a4, rc_4a, rc_shr5, rc_shr7, rc_and31, rc_and127, nI_clamp, vp_in_nI, nI_leI, nI_ltI, nI_eq, rc_le4, rc_le16, rc_le128, rc_le512, rc_le511, rc_lt511, rc_lt2, rc_lt4, rc_lt8, rc_l128, rc_l511, rc_l0, rc_e0, rc_e1, false_implies, true_implies, not_false_eq_true, not_true_eq_false, true_and, and_true, implies_true, forall_eq, rc_yMj, rc_bI0, rc_n1, rc_yMu]
  refine br_c (fun c => ?_) (fun c => ?_)
  · rw [c] at h; exact h
  · rw [rc_nf c] at h; exact h
theorem rc_Yadd2 {post : Int32 → SY → Prop} {x : Int32} (hs : s < 3) (hx : x < 0 ∨ nI 512 ≤ x) (h : post (-2) (w, rc_yM M, old)) : wpY_add post (w, rc_yM M, old) (nI s) x := by
  unfold wpY_add
  dsimp only
  exact rc_Yset hs (br_t rfl (rc_Ynum1 hx (br_f (by decide) h)))
theorem rc_Yrem {post : Int32 → SY → Prop} {x : Nat} (hs : s < 3) (hx : x < 512) (h : post (rc_bI (M (512 * s + x))) (w, rc_yM (rc_ub M (512 * s + x) false), old)) : wpY_remove post (w, rc_yM M, old) (nI s) (nI x) := by
  unfold wpY_remove
  dsimp only
  refine rc_Yset hs (br_t rfl (rc_Ynum hx (br_t rfl ?_)))
  unfold wY_remove_41
  simp (disch := omega) only [nI_1, nI_add, rc_m2, rc_m4, rc_m8, rc_m32, rc_m128, rc_m512, rc_a128, rc_a4, rc_4a, rc_shr5, rc_shr7, rc_and31, rc_and127, nI_clamp, vp_in_nI, nI_leI, nI_ltI, nI_eq, rc_le4, rc_le16, rc_le128, rc_le512, rc_le511, rc_lt511, rc_lt2, rc_lt4, rc_lt8, rc_l128, rc_l511, rc_l0, rc_e0, rc_e1, false_implies, true_implies, not_false_eq_true, not_true_eq_false, true_and, and_true, implies_true, forall_eq, rc_yMj, rc_bI0, rc_n0, rc_yMu]
  refine br_c (fun c => ?_) (fun c => ?_)
  · rw [c] at h; exact h
  · rw [rc_nf c] at h; exact h
theorem rc_bIN (x : Bool) : rc_bI x = nI x.toNat := by cases x <;> rfl
theorem rc_Yfill28 {post : Int32 → SY → Prop} {f l : Nat} (hs : s < 3) (hl : l < 512)
    (h : ∀ c, c + rc_cn (rc_gs M s) (l + 1) = rc_cn (rc_chg 0 f l (rc_gs M s)) (l + 1) → post (nI c) (w, rc_yM (rc_pt M s (l + 1) (rc_chg 0 f l (rc_gs M s))), old)) :
    ∀ m x, x + m = l + 1 → f ≤ x → ∀ c, c + rc_cn (rc_gs M s) x = rc_cn (rc_chg 0 f l (rc_gs M s)) x → wY_fill_28 post (nI s) (nI l) (m + 1) (nI c) (nI x) w (rc_yM (rc_pt M s x (rc_chg 0 f l (rc_gs M s)))) old := by
  intro m
  induction m with
  | zero =>
    intro x hx hf c hc
    have e : x = l + 1 := by omega
    subst e
    exact br_t (nI_lt (by omega) (by omega)) (h c hc)
  | succ m ih =>
    intro x hx hf c hc
    have hle : ¬ l < x := by omega
    rw [wY_fill_28]
    simp (disch := omega) only [nI_1, nI_add, rc_m2, rc_m4, rc_m8, rc_m32, rc_m128, rc_m512, rc_a128, rc_a4, rc_4a, rc_shr5, rc_shr7, rc_and31, rc_and127, nI_clamp, vp_in_nI, nI_leI, nI_ltI, nI_eq, rc_le4, rc_le16, rc_le128, rc_le512, rc_le511, rc_lt511, rc_lt2, rc_lt4, rc_lt8, rc_l128, rc_l511, rc_l0, rc_e0, rc_e1, false_implies, true_implies, not_false_eq_true, not_true_eq_false, true_and, and_true, implies_true, forall_eq, hle]
    refine rc_Yadd hs (by omega) ?_
    simp (disch := omega) only [nI_1, nI_add, rc_m2, rc_m4, rc_m8, rc_m32, rc_m128, rc_m512, rc_a128, rc_a4, rc_4a, rc_shr5, rc_shr7, rc_and31, rc_and127, nI_clamp, vp_in_nI, nI_leI, nI_ltI, nI_eq, rc_le4, rc_le16, rc_le128, rc_le512, rc_le511, rc_lt511, rc_lt2, rc_lt4, rc_lt8, rc_l128, rc_l511, rc_l0, rc_e0, rc_e1, false_implies, true_implies, not_false_eq_true, not_true_eq_false, true_and, and_true, implies_true, forall_eq, rc_bIN]
    have e : rc_chg 0 f l (rc_gs M s) x = true := by
      unfold rc_chg
      rw [if_pos (by omega)]
      rfl
    have e2 := rc_ub_pt M (rc_chg 0 f l (rc_gs M s)) s x
    rw [e] at e2
    rw [e2]
    refine ih (x + 1) (by omega) (by omega) _ ?_
    rw [rc_cnT e, rc_cnS, rc_pt_at _ _ _ _ _ (by omega)]
    cases rc_gs M s x
    · show c + 1 + (_ + 0) = _
      omega
    · show c + 0 + (_ + 1) = _
      omega
theorem rc_Yclear28 {post : Int32 → SY → Prop} {f l : Nat} (hs : s < 3) (hl : l < 512)
    (h : ∀ c, c + rc_cn (rc_chg 1 f l (rc_gs M s)) (l + 1) = rc_cn (rc_gs M s) (l + 1) → post (nI c) (w, rc_yM (rc_pt M s (l + 1) (rc_chg 1 f l (rc_gs M s))), old)) :
    ∀ m x, x + m = l + 1 → f ≤ x → ∀ c, c + rc_cn (rc_chg 1 f l (rc_gs M s)) x = rc_cn (rc_gs M s) x → wY_clear_28 post (nI s) (nI l) (m + 1) (nI c) (nI x) w (rc_yM (rc_pt M s x (rc_chg 1 f l (rc_gs M s)))) old := by
  intro m
  induction m with
  | zero =>
    intro x hx hf c hc
    have e : x = l + 1 := by omega
    subst e
    exact br_t (nI_lt (by omega) (by omega)) (h c hc)
  | succ m ih =>
    intro x hx hf c hc
    have hle : ¬ l < x := by omega
    rw [wY_clear_28]
    simp (disch := omega) only [nI_1, nI_add, rc_m2, rc_m4, rc_m8, rc_m32, rc_m128, rc_m512, rc_a128, rc_a4, rc_4a, rc_shr5, rc_shr7, rc_and31, rc_and127, nI_clamp, vp_in_nI, nI_leI, nI_ltI, nI_eq, rc_le4, rc_le16, rc_le128, rc_le512, rc_le511, rc_lt511, rc_lt2, rc_lt4, rc_lt8, rc_l128, rc_l511, rc_l0, rc_e0, rc_e1, false_implies, true_implies, not_false_eq_true, not_true_eq_false, true_and, and_true, implies_true, forall_eq, hle]
    refine rc_Yrem hs (by omega) ?_
    simp (disch := omega) only [nI_1, nI_add, rc_m2, rc_m4, rc_m8, rc_m32, rc_m128, rc_m512, rc_a128, rc_a4, rc_4a, rc_shr5, rc_shr7, rc_and31, rc_and127, nI_clamp, vp_in_nI, nI_leI, nI_ltI, nI_eq, rc_le4, rc_le16, rc_le128, rc_le512, rc_le511, rc_lt511, rc_lt2, rc_lt4, rc_lt8, rc_l128, rc_l511, rc_l0, rc_e0, rc_e1, false_implies, true_implies, not_false_eq_true, not_true_eq_false, true_and, and_true, implies_true, forall_eq, rc_bIN]
    have e : rc_chg 1 f l (rc_gs M s) x = false := by
      unfold rc_chg
      rw [if_pos (by omega)]
      rfl
    have e2 := rc_ub_pt M (rc_chg 1 f l (rc_gs M s)) s x
    rw [e] at e2
    rw [e2]
    refine ih (x + 1) (by omega) (by omega) _ ?_
    rw [rc_cnF e, rc_cnS, rc_pt_at _ _ _ _ _ (by omega)]
    omega
theorem rc_Yflip25 {post : Int32 → SY → Prop} {f l : Nat} (hs : s < 3) (hl : l < 512)
    (h : post (nI (rc_cn (rc_gs (rc_pt M s (l + 1) (rc_chg 2 f l (rc_gs M s))) s) 512)) (w, rc_yM (rc_pt M s (l + 1) (rc_chg 2 f l (rc_gs M s))), old)) :
    ∀ m x, x + m = l + 1 → f ≤ x → wY_flip_25 post (nI s) (nI l) w (m + 1) (nI x) (rc_yM (rc_pt M s x (rc_chg 2 f l (rc_gs M s)))) old := by
  intro m
  induction m with
  | zero =>
    intro x hx hf
    have e : x = l + 1 := by omega
    subst e
    exact br_t (nI_lt (by omega) (by omega)) (rc_many hs h)
  | succ m ih =>
    intro x hx hf
    have hle : ¬ l < x := by omega
    have e : rc_chg 2 f l (rc_gs M s) x = !rc_gs M s x := by
      unfold rc_chg
      rw [if_pos (by omega)]
      rfl
    have e2 := rc_ub_pt M (rc_chg 2 f l (rc_gs M s)) s x
    rw [wY_flip_25]
    simp (disch := omega) only [nI_1, nI_add, rc_m2, rc_m4, rc_m8, rc_m32, rc_m128, rc_m512, rc_a128, rc_a4, rc_4a, rc_shr5, rc_shr7, rc_and31, rc_and127, nI_clamp, vp_in_nI, nI_leI, nI_ltI, nI_eq, rc_le4, rc_le16, rc_le128, rc_le512, rc_le511, rc_lt511, rc_lt2, rc_lt4, rc_lt8, rc_l128, rc_l511, rc_l0, rc_e0, rc_e1, false_implies, true_implies, not_false_eq_true, not_true_eq_false, true_and, and_true, implies_true, forall_eq, hle, rc_yMj, rc_bI0, rc_n0, rc_n1, rc_yMu, rc_pt_at]
    have t := ih (x + 1) (by omega) (by omega)
    refine br_c (fun c => ?_) (fun c => ?_)
    · rw [e, c] at e2
      rw [← e2] at t
      exact t
    · rw [e, rc_nf c] at e2
      rw [← e2] at t
      exact t
theorem rc_Ysow78 {post : Int32 → SY → Prop} {g : Nat → Bool} {f st cnt : Nat} (hs : s < 3) (hf : f < 512) (hst : st ≤ 100) (hcnt : cnt ≤ 200)
    (h : post (nI (rc_cn (rc_sw g f st cnt) 512)) (w, rc_yM (rc_pt M s 512 (rc_sw g f st cnt)), old)) :
    ∀ m k, k + m = cnt → wY_sow_78 post (nI s) (nI f) (nI st) (nI cnt) (m + 1) (nI k) w (rc_yM (rc_pt M s 512 (rc_sw g f st k))) old := by
  intro m
  induction m with
  | zero =>
    intro k hk
    have e : k = cnt := by omega
    subst e
    refine br_t (nI_le (Nat.le_refl k) (by omega)) (rc_many hs ?_)
    rw [rc_gs_cn]
    exact h
  | succ m ih =>
    intro k hk
    have hle : ¬ cnt ≤ k := by omega
    have hks : k * st ≤ 200 * 100 := Nat.mul_le_mul (by omega) hst
    rw [wY_sow_78]
    simp (disch := omega) only [nI_1, nI_add, rc_m2, rc_m4, rc_m8, rc_m32, rc_m128, rc_m512, rc_a128, rc_a4, rc_4a, rc_shr5, rc_shr7, rc_and31, rc_and127, nI_clamp, vp_in_nI, nI_leI, nI_ltI, nI_eq, rc_le4, rc_le16, rc_le128, rc_le512, rc_le511, rc_lt511, rc_lt2, rc_lt4, rc_lt8, rc_l128, rc_l511, rc_l0, rc_e0, rc_e1, false_implies, true_implies, not_false_eq_true, not_true_eq_false, true_and, and_true, implies_true, forall_eq, hle, pk_mul]
    have t := ih (k + 1) (by omega)
    by_cases c : f + k * st < 512
    · refine rc_Yadd hs c ?_
      dsimp only
      have e : rc_ub (rc_pt M s 512 (rc_sw g f st k)) (512 * s + (f + k * st)) true = rc_pt M s 512 (rc_sw g f st (k + 1)) := by
        funext j
        unfold rc_ub rc_pt
        by_cases c1 : j = 512 * s + (f + k * st)
        · rw [if_pos c1, if_pos (by omega)]
          show _ = (if j - 512 * s = f + k * st then true else rc_sw g f st k (j - 512 * s))
          rw [if_pos (by omega)]
        · rw [if_neg c1]
          by_cases c2 : 512 * s ≤ j ∧ j < 512 * s + 512
          · rw [if_pos c2, if_pos c2]
            show _ = (if j - 512 * s = f + k * st then true else rc_sw g f st k (j - 512 * s))
            rw [if_neg (by omega)]
          · rw [if_neg c2, if_neg c2]
      rw [e]
      exact t
    · refine rc_Yadd2 hs (Or.inr (nI_le (by omega) (by omega))) ?_
      dsimp only
      rw [rc_pt_congr M s 512 (g := rc_sw g f st (k + 1)) (g' := rc_sw g f st k) (fun x hx => ?_)] at t
      · exact t
      · show (if x = f + k * st then true else rc_sw g f st k x) = _
        rw [if_neg (by omega)]
theorem rc_joined {post : Int32 → Prop} {u : SY} {kd : Nat} (hk : kd < 4) (x y : Bool) (h : post (rc_bI (rc_cmb kd x y))) : wpY_joined post u (nI kd) (rc_bI x) (rc_bI y) := by
  obtain ⟨a, b, c⟩ := u
  unfold wpY_joined
  dsimp only
  simp only [rc_bI0, rc_bIe]
  have h4 : kd = 0 ∨ kd = 1 ∨ kd = 2 ∨ kd = 3 := by omega
  rcases h4 with e | e | e | e <;> subst e
  · refine br_t rfl ?_
    cases x <;> cases y <;> simp <;> exact h
  · refine br_f (by decide) (br_t rfl ?_)
    cases x <;> cases y <;> simp <;> exact h
  · refine br_f (by decide) (br_f (by decide) (br_t rfl ?_))
    cases x <;> cases y <;> simp <;> exact h
  · refine br_f (by decide) (br_f (by decide) (br_f (by decide) ?_))
    cases x <;> cases y <;> simp <;> exact h
theorem rc_Yjoin33 {post : Int32 → SY → Prop} {kd a t : Nat} (hk : kd < 4) (ha : a < 3) (ht : t < 3)
    (h : post (nI (rc_cn (fun x => rc_cmb kd (rc_gs M a x) (rc_gs M t x)) 512)) (w, rc_yM (rc_pt M a 512 (fun x => rc_cmb kd (rc_gs M a x) (rc_gs M t x))), old)) :
    ∀ m x, x + m = 512 → wY_join_33 post (nI kd) (nI a) (nI t) w (m + 1) (nI x) (rc_yM (rc_pt M a x (fun x => rc_cmb kd (rc_gs M a x) (rc_gs M t x)))) old := by
  intro m
  induction m with
  | zero =>
    intro x hx
    have e : x = 512 := by omega
    subst e
    refine br_t (nI_le (Nat.le_refl 512) (by omega)) (rc_many ha ?_)
    rw [rc_gs_cn]
    exact h
  | succ m ih =>
    intro x hx
    have hle : ¬ 512 ≤ x := by omega
    rw [wY_join_33]
    simp (disch := omega) only [nI_1, nI_add, rc_m2, rc_m4, rc_m8, rc_m32, rc_m128, rc_m512, rc_a128, rc_a4, rc_4a, rc_shr5, rc_shr7, rc_and31, rc_and127, nI_clamp, vp_in_nI, nI_leI, nI_ltI, nI_eq, rc_le4, rc_le16, rc_le128, rc_le512, rc_le511, rc_lt511, rc_lt2, rc_lt4, rc_lt8, rc_l128, rc_l511, rc_l0, rc_e0, rc_e1, false_implies, true_implies, not_false_eq_true, not_true_eq_false, true_and, and_true, implies_true, forall_eq, hle, rc_yMj, rc_pt_at]
    refine rc_joined hk _ _ ?_
    rw [rc_bIn, rc_yMu]
    have e := rc_ub_pt M (fun x => rc_cmb kd (rc_gs M a x) (rc_gs M t x)) a x
    rw [e]
    exact ih (x + 1) (by omega)
theorem rc_Yshift62 {post : Int32 → SY → Prop} {g : Nat → Bool} {d : Int32} (hs : s < 3) (hd : -511 ≤ d.toInt ∧ d.toInt ≤ 511) (ho : ∀ y, y < 512 → old y = rc_bI (g y))
    (h : post (nI (rc_cn (rc_sf g d.toInt) 512)) (w, rc_yM (rc_pt M s 512 (rc_sf g d.toInt)), old)) :
    ∀ m x, x + m = 512 → wY_shift_62 post (nI s) d w (m + 1) (nI x) (rc_yM (rc_pt M s x (rc_sf g d.toInt))) old := by
  have z0 : (0 : Int32).toInt = 0 := by decide
  have z512 : (512 : Int32).toInt = 512 := by decide
  intro m
  induction m with
  | zero =>
    intro x hx
    have e : x = 512 := by omega
    subst e
    refine br_t (nI_le (Nat.le_refl 512) (by omega)) (rc_many hs ?_)
    rw [rc_gs_cn]
    exact h
  | succ m ih =>
    intro x hx
    have hle : ¬ 512 ≤ x := by omega
    have et : (nI x - d).toInt = (x : Int) - d.toInt := by
      rw [Int32.toInt_sub, nI_toInt (by omega)]
      exact Int.bmod_eq_of_le (by omega) (by omega)
    have K : ∀ v, v = rc_sf g d.toInt x → wY_shift_62 post (nI s) d w (m + 1) (nI (x + 1)) (upd (rc_yM (rc_pt M s x (rc_sf g d.toInt))) (512 * s + x) (rc_bI v)) old := by
      intro v hv
      rw [rc_yMu, hv, rc_ub_pt]
      exact ih (x + 1) (by omega)
    rw [wY_shift_62]
    simp (disch := omega) only [nI_1, nI_add, rc_m2, rc_m4, rc_m8, rc_m32, rc_m128, rc_m512, rc_a128, rc_a4, rc_4a, rc_shr5, rc_shr7, rc_and31, rc_and127, nI_clamp, vp_in_nI, nI_leI, nI_ltI, nI_eq, rc_le4, rc_le16, rc_le128, rc_le512, rc_le511, rc_lt511, rc_lt2, rc_lt4, rc_lt8, rc_l128, rc_l511, rc_l0, rc_e0, rc_e1, false_implies, true_implies, not_false_eq_true, not_true_eq_false, true_and, and_true, implies_true, forall_eq, hle, rc_n0, rc_n1]
    refine br_c (fun c1 => ?_) (fun c1 => br_c (fun c2 => ?_) (fun c2 => ?_))
    · rw [Int32.lt_iff_toInt_lt, et, z0] at c1
      exact K false (rc_ex_out (by omega)).symm
    · rw [Int32.le_iff_toInt_le, et, z512] at c2
      exact K false (rc_ex_out (by omega)).symm
    · rw [Int32.lt_iff_toInt_lt, et, z0] at c1
      rw [Int32.le_iff_toInt_le, et, z512] at c2
      obtain ⟨n, hn⟩ : ∃ n : Nat, (x : Int) - d.toInt = (n : Int) := ⟨((x : Int) - d.toInt).toNat, by omega⟩
      have ex : nI x - d = nI n := by
        apply Int32.toInt_inj.mp
        rw [nI_toInt (by omega), et, hn]
      have es : rc_sf g d.toInt x = g n := rc_ex_in hn (by omega)
      rw [ex, nI_clamp (by omega), ho n (by omega)]
      refine ⟨vp_in_nI (by omega) (by omega), ?_⟩
      rw [rc_bI0]
      exact br_c (fun c => K false (by rw [es, c])) (fun c => K true (by rw [es, rc_nf c]))
theorem rc_Yshift29 {post : Int32 → SY → Prop} {d : Int32} (hs : s < 3) (hd : -511 ≤ d.toInt ∧ d.toInt ≤ 511)
    (h : ∀ old', post (nI (rc_cn (rc_sf (rc_gs M s) d.toInt) 512)) (w, rc_yM (rc_pt M s 512 (rc_sf (rc_gs M s) d.toInt)), old')) :
    ∀ m x, x + m = 512 → ∀ old, (∀ y, y < x → old y = rc_bI (rc_gs M s y)) → wY_shift_29 post (nI s) d w (m + 1) (nI x) (rc_yM M) old := by
  intro m
  induction m with
  | zero =>
    intro x hx old ho
    have e : x = 512 := by omega
    subst e
    have t := rc_Yshift62 (w := w) (M := M) (old := old) hs hd ho (h old) 512 0 rfl
    rw [rc_pt0] at t
    exact br_t (nI_le (Nat.le_refl 512) (by omega)) ⟨513, t⟩
  | succ m ih =>
    intro x hx old ho
    have hle : ¬ 512 ≤ x := by omega
    rw [wY_shift_29]
    simp (disch := omega) only [nI_1, nI_add, rc_m2, rc_m4, rc_m8, rc_m32, rc_m128, rc_m512, rc_a128, rc_a4, rc_4a, rc_shr5, rc_shr7, rc_and31, rc_and127, nI_clamp, vp_in_nI, nI_leI, nI_ltI, nI_eq, rc_le4, rc_le16, rc_le128, rc_le512, rc_le511, rc_lt511, rc_lt2, rc_lt4, rc_lt8, rc_l128, rc_l511, rc_l0, rc_e0, rc_e1, false_implies, true_implies, not_false_eq_true, not_true_eq_false, true_and, and_true, implies_true, forall_eq, hle, rc_yMj, rc_bIn]
    refine ih (x + 1) (by omega) _ (fun y hy => ?_)
    by_cases c : y = x
    · subst c; exact pk_us
    · rw [pk_un c]; exact ho y (by omega)
theorem rc_copy2 {post : SY → Prop} {t : Nat} (hs : s < 4) (ht : t < 4) (hst : s ≠ t) (h : post (w, rc_yM (rc_pt M t 512 (rc_gs M s)), old)) :
    ∀ m x, x + m = 512 → wY_copy_2 post (nI s) (nI t) w (m + 1) (nI x) (rc_yM (rc_pt M t x (rc_gs M s))) old := by
  intro m
  induction m with
  | zero =>
    intro x hx
    have e : x = 512 := by omega
    subst e
    exact br_t (nI_le (Nat.le_refl 512) (by omega)) h
  | succ m ih =>
    intro x hx
    have hle : ¬ 512 ≤ x := by omega
    rw [wY_copy_2]
    simp (disch := omega) only [nI_1, nI_add, rc_m2, rc_m4, rc_m8, rc_m32, rc_m128, rc_m512, rc_a128, rc_a4, rc_4a, rc_shr5, rc_shr7, rc_and31, rc_and127, nI_clamp, vp_in_nI, nI_leI, nI_ltI, nI_eq, rc_le4, rc_le16, rc_le128, rc_le512, rc_le511, rc_lt511, rc_lt2, rc_lt4, rc_lt8, rc_l128, rc_l511, rc_l0, rc_e0, rc_e1, false_implies, true_implies, not_false_eq_true, not_true_eq_false, true_and, and_true, implies_true, forall_eq, hle, rc_yMj, rc_pt_at, rc_bIn, rc_yMu, rc_ub_pt]
    exact ih (x + 1) (by omega)
theorem rc_copy {post : SY → Prop} {t : Nat} (hs : s < 4) (ht : t < 4) (hst : s ≠ t) (h : post (w, rc_yM (rc_pt M t 512 (rc_gs M s)), old)) : wpY_copy post (w, rc_yM M, old) (nI s) (nI t) := by
  unfold wpY_copy
  dsimp only
  have t2 := rc_copy2 hs ht hst h 512 0 rfl
  rw [rc_pt0] at t2
  exact ⟨513, t2⟩
end
end
section
/-! ===== questions to the reference ===== -/
theorem rc_cn_and (a b : Nat → Bool) (n : Nat) : rc_cn (fun x => a x && b x) n + rc_cn (fun x => a x && !b x) n = rc_cn a n := by
  induction n with
  | zero => rfl
  | succ n ih =>
    rw [rc_cnS, rc_cnS, rc_cnS, ← ih]
    cases a n <;> cases b n <;> simp <;> omega
theorem rc_cn_z {c : Nat → Bool} {n : Nat} (h : rc_cn c n = 0) : ∀ x, x < n → c x = false := by
  intro x hx
  by_cases z : c x = true
  · have := rc_cn_lt z hx
    omega
  · exact rc_nt z
theorem rc_cn_z2 {c : Nat → Bool} {n : Nat} (h : ∀ x, x < n → c x = false) : rc_cn c n = 0 := rc_cn_fr (Nat.zero_le n) (fun y _ hy => h y hy)
theorem rc_sub_i (a b : Nat → Bool) (n : Nat) : rc_cn (fun x => a x && b x) n = rc_cn a n ↔ ∀ x, x < n → a x = true → b x = true := by
  have e := rc_cn_and a b n
  constructor
  · intro h x hx ha
    have t := rc_cn_z (c := fun x => a x && !b x) (n := n) (by omega) x hx
    rw [ha] at t
    cases hb : b x
    · rw [hb] at t; exact absurd t (by decide)
    · rfl
  · intro h
    have t := rc_cn_z2 (c := fun x => a x && !b x) (n := n) (fun x hx => by
      cases ha : a x
      · rfl
      · rw [h x hx ha]; rfl)
    omega
theorem rc_same_i (a b : Nat → Bool) (n : Nat) : (rc_cn (fun x => a x && b x) n = rc_cn a n ∧ rc_cn a n = rc_cn b n) ↔ ∀ x, x < n → a x = b x := by
  constructor
  · intro ⟨h1, h2⟩ x hx
    have i1 := (rc_sub_i a b n).mp h1
    have e : rc_cn (fun x => b x && a x) n = rc_cn b n := by
      rw [← h2, ← h1]
      exact rc_cn_ext (fun y _ => Bool.and_comm _ _)
    have i2 := (rc_sub_i b a n).mp e
    cases ha : a x
    · cases hb : b x
      · rfl
      · rw [i2 x hx hb] at ha; exact absurd ha (by decide)
    · exact (i1 x hx ha).symm
  · intro h
    exact ⟨(rc_sub_i a b n).mpr (fun x hx ha => by rw [← h x hx]; exact ha), rc_cn_ext h⟩
section
variable {w : Int32} {M : Nat → Bool} {old : Nat → Int32} {s : Nat} {post : Int32 → Prop}
theorem rc_Yrank15 {bd : Int32} (hs : s < 3) (h : post (nI (rc_cn (rc_gs M s) (rc_lim bd)))) :
    ∀ m x, x + m = rc_lim bd → wY_rank_15 post (nI s) bd w (rc_yM M) old (m + 1) (nI (rc_cn (rc_gs M s) x)) (nI x) := by
  have hl : rc_lim bd = min bd.toInt.toNat 512 := rfl
  intro m
  induction m with
  | zero =>
    intro x hx
    have e : x = rc_lim bd := by omega
    rw [← e] at h
    rw [wY_rank_15]
    refine br_c (fun _ => h) (fun c => br_t ?_ h)
    rw [rc_le512 (by omega)] at c
    rw [rc_Ile (by omega)]
    omega
  | succ m ih =>
    intro x hx
    have hle : ¬ 512 ≤ x := by omega
    have hb : ¬ bd.toInt ≤ (x : Int) := by omega
    rw [wY_rank_15]
    simp (disch := omega) only [nI_1, nI_add, rc_m2, rc_m4, rc_m8, rc_m32, rc_m128, rc_m512, rc_a128, rc_a4, rc_4a, rc_shr5, rc_shr7, rc_and31, rc_and127, nI_clamp, vp_in_nI, nI_leI, nI_ltI, nI_eq, rc_le4, rc_le16, rc_le128, rc_le512, rc_le511, rc_lt511, rc_lt2, rc_lt4, rc_lt8, rc_l128, rc_l511, rc_l0, rc_e0, rc_e1, false_implies, true_implies, not_false_eq_true, not_true_eq_false, true_and, and_true, implies_true, forall_eq, hle, rc_yMj, rc_bI0]
    simp (disch := omega) only [rc_Ile, false_implies, true_implies, not_false_eq_true, not_true_eq_false, true_and, and_true, implies_true, forall_eq, hb]
    have t := ih (x + 1) (by omega)
    refine br_c (fun c => ?_) (fun c => ?_)
    · rw [rc_cnF (b := rc_gs M s) c] at t
      exact t
    · rw [rc_cnT (b := rc_gs M s) (rc_nf c)] at t
      exact t
theorem rc_Yrank {bd : Int32} (hs : s < 3) (h : post (nI (rc_cn (rc_gs M s) (rc_lim bd)))) : wpY_rank post (w, rc_yM M, old) (nI s) bd := by
  unfold wpY_rank
  dsimp only
  exact rc_Yset hs (br_t rfl ⟨_, rc_Yrank15 hs h (rc_lim bd) 0 (by omega)⟩)
theorem rc_Yselect15 {k : Int32} (hs : s < 3) (h : ∀ v, rc_Sel (rc_gs M s) k v → post v) :
    ∀ m x, x + m = 512 → (∀ y, y < x → rc_gs M s y = true → ¬ k = nI (rc_cn (rc_gs M s) y)) → wY_select_15 post (nI s) k w (rc_yM M) old (m + 1) (nI (rc_cn (rc_gs M s) x)) (nI x) := by
  intro m
  induction m with
  | zero =>
    intro x hx hI
    have e : x = 512 := by omega
    subst e
    exact br_t (nI_le (Nat.le_refl 512) (by omega)) (h _ (Or.inr ⟨rfl, hI⟩))
  | succ m ih =>
    intro x hx hI
    have hle : ¬ 512 ≤ x := by omega
    rw [wY_select_15]
    simp (disch := omega) only [nI_1, nI_add, rc_m2, rc_m4, rc_m8, rc_m32, rc_m128, rc_m512, rc_a128, rc_a4, rc_4a, rc_shr5, rc_shr7, rc_and31, rc_and127, nI_clamp, vp_in_nI, nI_leI, nI_ltI, nI_eq, rc_le4, rc_le16, rc_le128, rc_le512, rc_le511, rc_lt511, rc_lt2, rc_lt4, rc_lt8, rc_l128, rc_l511, rc_l0, rc_e0, rc_e1, false_implies, true_implies, not_false_eq_true, not_true_eq_false, true_and, and_true, implies_true, forall_eq, hle, rc_yMj, rc_bI0]
    refine br_c (fun c => ?_) (fun c => br_c (fun c2 => ?_) (fun c2 => ?_))
    · have t := ih (x + 1) (by omega) (fun y hy hg => ?_)
      · rw [rc_cnF (b := rc_gs M s) c] at t
        exact t
      · by_cases e : y = x
        · subst e
          have c' : rc_gs M s y = false := c
          rw [c'] at hg
          exact absurd hg (by decide)
        · exact hI y (by omega) hg
    · exact h _ (Or.inl ⟨x, by omega, rc_nf c, c2.symm, rfl⟩)
    · have t := ih (x + 1) (by omega) (fun y hy hg => ?_)
      · rw [rc_cnT (b := rc_gs M s) (rc_nf c)] at t
        exact t
      · by_cases e : y = x
        · subst e
          exact fun z => c2 z.symm
        · exact hI y (by omega) hg
theorem rc_Yselect {k : Int32} (hs : s < 3) (h : ∀ v, rc_Sel (rc_gs M s) k v → post v) : wpY_select post (w, rc_yM M, old) (nI s) k := by
  unfold wpY_select
  dsimp only
  exact rc_Yset hs (br_t rfl ⟨513, rc_Yselect15 hs h 512 0 rfl (fun y hy => absurd hy (Nat.not_lt_zero y))⟩)
theorem rc_Ynext12 {f : Int32} (hs : s < 3) (h : ∀ v, rc_Nx (rc_gs M s) f v → post v) :
    ∀ m x, x + m = 512 → (∀ y : Nat, y < x → f.toInt ≤ (y : Int) → rc_gs M s y = false) → wY_next_12 post (nI s) f w (rc_yM M) old (m + 1) (nI x) := by
  intro m
  induction m with
  | zero =>
    intro x hx hI
    have e : x = 512 := by omega
    subst e
    exact br_t (nI_le (Nat.le_refl 512) (by omega)) (h _ (Or.inr ⟨rfl, hI⟩))
  | succ m ih =>
    intro x hx hI
    have hle : ¬ 512 ≤ x := by omega
    rw [wY_next_12]
    simp (disch := omega) only [nI_1, nI_add, rc_m2, rc_m4, rc_m8, rc_m32, rc_m128, rc_m512, rc_a128, rc_a4, rc_4a, rc_shr5, rc_shr7, rc_and31, rc_and127, nI_clamp, vp_in_nI, nI_leI, nI_ltI, nI_eq, rc_le4, rc_le16, rc_le128, rc_le512, rc_le511, rc_lt511, rc_lt2, rc_lt4, rc_lt8, rc_l128, rc_l511, rc_l0, rc_e0, rc_e1, false_implies, true_implies, not_false_eq_true, not_true_eq_false, true_and, and_true, implies_true, forall_eq, hle, rc_yMj, rc_bI0]
    simp (disch := omega) only [rc_ltI]
    refine br_c (fun c => ?_) (fun c => br_c (fun c2 => ?_) (fun c2 => ?_))
    · refine ih (x + 1) (by omega) (fun y hy hf => ?_)
      omega
    · refine ih (x + 1) (by omega) (fun y hy hf => ?_)
      by_cases e : y = x
      · subst e; exact c2
      · exact hI y (by omega) hf
    · exact h _ (Or.inl ⟨x, by omega, rc_nf c2, by omega, hI, rfl⟩)
theorem rc_Ynext {f : Int32} (hs : s < 3) (h : ∀ v, rc_Nx (rc_gs M s) f v → post v) : wpY_next post (w, rc_yM M, old) (nI s) f := by
  unfold wpY_next
  dsimp only
  exact rc_Yset hs (br_t rfl ⟨513, rc_Ynext12 hs h 512 0 rfl (fun y hy => absurd hy (Nat.not_lt_zero y))⟩)
theorem rc_Yprev14 {t : Int32} (hs : s < 3) (h : ∀ v, rc_Pv (rc_gs M s) t v → post v) :
    ∀ n, n ≤ 512 → (∀ y : Nat, n ≤ y → y < 512 → (y : Int) ≤ t.toInt → rc_gs M s y = false) → wY_previous_14 post (nI s) t w (rc_yM M) old (n + 1) (nI n + (-1)) := by
  intro n
  induction n with
  | zero =>
    intro hn hI
    exact br_t (by decide) (h _ (Or.inr ⟨rfl, fun y hy => hI y (Nat.zero_le y) hy⟩))
  | succ n ih =>
    intro hn hI
    rw [pk_m1, wY_previous_14]
    simp (disch := omega) only [nI_1, nI_add, rc_m2, rc_m4, rc_m8, rc_m32, rc_m128, rc_m512, rc_a128, rc_a4, rc_4a, rc_shr5, rc_shr7, rc_and31, rc_and127, nI_clamp, vp_in_nI, nI_leI, nI_ltI, nI_eq, rc_le4, rc_le16, rc_le128, rc_le512, rc_le511, rc_lt511, rc_lt2, rc_lt4, rc_lt8, rc_l128, rc_l511, rc_l0, rc_e0, rc_e1, false_implies, true_implies, not_false_eq_true, not_true_eq_false, true_and, and_true, implies_true, forall_eq, rc_yMj, rc_bI0]
    simp (disch := omega) only [rc_Ilt]
    refine br_c (fun c => ?_) (fun c => br_c (fun c2 => ?_) (fun c2 => ?_))
    · refine ih (by omega) (fun y hy1 hy2 hyt => ?_)
      by_cases e : y = n
      · subst e; omega
      · exact hI y (by omega) hy2 hyt
    · refine ih (by omega) (fun y hy1 hy2 hyt => ?_)
      by_cases e : y = n
      · subst e; exact c2
      · exact hI y (by omega) hy2 hyt
    · exact h _ (Or.inl ⟨n, by omega, rc_nf c2, by omega, fun y hy => hI y (by omega), rfl⟩)
theorem rc_Yprev {t : Int32} (hs : s < 3) (h : ∀ v, rc_Pv (rc_gs M s) t v → post v) : wpY_previous post (w, rc_yM M, old) (nI s) t := by
  unfold wpY_previous
  dsimp only
  have t2 := rc_Yprev14 (w := w) (old := old) hs h 512 (Nat.le_refl _) (fun y h1 h2 => absurd h1 (by omega))
  rw [pk_m1] at t2
  exact rc_Yset hs (br_t rfl ⟨513, t2⟩)
theorem rc_Ygap23 {f : Nat} (hs : s < 3) (h : ∀ v, rc_Gp (rc_gs M s) f v → post v) :
    ∀ m x, x + m = 512 → f ≤ x → (∀ y, f ≤ y → y < x → rc_gs M s y = true) → wY_gap_23 post (nI s) w (rc_yM M) old (m + 1) (nI x) := by
  intro m
  induction m with
  | zero =>
    intro x hx hf hI
    have e : x = 512 := by omega
    subst e
    exact br_t (nI_le (Nat.le_refl 512) (by omega)) (h _ (Or.inr ⟨rfl, hI⟩))
  | succ m ih =>
    intro x hx hf hI
    have hle : ¬ 512 ≤ x := by omega
    rw [wY_gap_23]
    simp (disch := omega) only [nI_1, nI_add, rc_m2, rc_m4, rc_m8, rc_m32, rc_m128, rc_m512, rc_a128, rc_a4, rc_4a, rc_shr5, rc_shr7, rc_and31, rc_and127, nI_clamp, vp_in_nI, nI_leI, nI_ltI, nI_eq, rc_le4, rc_le16, rc_le128, rc_le512, rc_le511, rc_lt511, rc_lt2, rc_lt4, rc_lt8, rc_l128, rc_l511, rc_l0, rc_e0, rc_e1, false_implies, true_implies, not_false_eq_true, not_true_eq_false, true_and, and_true, implies_true, forall_eq, hle, rc_yMj, rc_bI0]
    refine br_c (fun c => ?_) (fun c => ?_)
    · exact h _ (Or.inl ⟨x, hf, by omega, c, hI, rfl⟩)
    · refine ih (x + 1) (by omega) (by omega) (fun y h1 h2 => ?_)
      by_cases e : y = x
      · subst e; exact rc_nf c
      · exact hI y h1 (by omega)
theorem rc_Yruns14 (hs : s < 3) (h : post (nI (rc_cn (rc_st (rc_gs M s)) 512))) :
    ∀ m x, x + m = 512 → wY_runs_14 post (nI s) w (rc_yM M) old (m + 1) (nI (rc_cn (rc_st (rc_gs M s)) x)) (nI x) := by
  intro m
  induction m with
  | zero =>
    intro x hx
    have e : x = 512 := by omega
    subst e
    exact br_t (nI_le (Nat.le_refl 512) (by omega)) h
  | succ m ih =>
    intro x hx
    have hle : ¬ 512 ≤ x := by omega
    have t := ih (x + 1) (by omega)
    rw [wY_runs_14]
    by_cases c : rc_gs M s x = true
    · have c' : M (512 * s + x) = true := c
      by_cases c0 : x = 0
      · rw [rc_cnT (rc_stT c (Or.inl c0))] at t
        simp (disch := omega) only [nI_1, nI_add, rc_m2, rc_m4, rc_m8, rc_m32, rc_m128, rc_m512, rc_a128, rc_a4, rc_4a, rc_shr5, rc_shr7, rc_and31, rc_and127, nI_clamp, vp_in_nI, nI_leI, nI_ltI, nI_eq, rc_le4, rc_le16, rc_le128, rc_le512, rc_le511, rc_lt511, rc_lt2, rc_lt4, rc_lt8, rc_l128, rc_l511, rc_l0, rc_e0, rc_e1, false_implies, true_implies, not_false_eq_true, not_true_eq_false, true_and, and_true, implies_true, forall_eq, hle, rc_yMj, rc_bI0, c', Bool.true_eq_false]
        exact br_t c0 t
      · have e1 : M (512 * s + x - 1) = rc_gs M s (x - 1) := by
          unfold rc_gs
          congr 1
          omega
        simp (disch := omega) only [nI_1, nI_add, rc_m2, rc_m4, rc_m8, rc_m32, rc_m128, rc_m512, rc_a128, rc_a4, rc_4a, rc_shr5, rc_shr7, rc_and31, rc_and127, nI_clamp, vp_in_nI, nI_leI, nI_ltI, nI_eq, rc_le4, rc_le16, rc_le128, rc_le512, rc_le511, rc_lt511, rc_lt2, rc_lt4, rc_lt8, rc_l128, rc_l511, rc_l0, rc_e0, rc_e1, false_implies, true_implies, not_false_eq_true, not_true_eq_false, true_and, and_true, implies_true, forall_eq, hle, rc_yMj, rc_bI0, c', c0, Bool.true_eq_false, rc_s1, e1]
        refine br_c (fun c2 => ?_) (fun c2 => ?_)
        · rw [rc_cnT (rc_stT c (Or.inr c2))] at t
          exact t
        · rw [rc_cnF (rc_stF (Or.inr ⟨by omega, rc_nf c2⟩))] at t
          exact t
    · have c' : M (512 * s + x) = false := rc_nt c
      rw [rc_cnF (rc_stF (Or.inl (rc_nt c)))] at t
      simp (disch := omega) only [nI_1, nI_add, rc_m2, rc_m4, rc_m8, rc_m32, rc_m128, rc_m512, rc_a128, rc_a4, rc_4a, rc_shr5, rc_shr7, rc_and31, rc_and127, nI_clamp, vp_in_nI, nI_leI, nI_ltI, nI_eq, rc_le4, rc_le16, rc_le128, rc_le512, rc_le511, rc_lt511, rc_lt2, rc_lt4, rc_lt8, rc_l128, rc_l511, rc_l0, rc_e0, rc_e1, false_implies, true_implies, not_false_eq_true, not_true_eq_false, true_and, and_true, implies_true, forall_eq, hle, rc_yMj, rc_bI0, c']
      exact t
theorem rc_Yruns (hs : s < 3) (h : post (nI (rc_cn (rc_st (rc_gs M s)) 512))) : wpY_runs post (w, rc_yM M, old) (nI s) := by
  unfold wpY_runs
  dsimp only
  exact rc_Yset hs (br_t rfl ⟨513, rc_Yruns14 hs h 512 0 rfl⟩)
theorem rc_Ycommon23 {a t : Nat} (ha : a < 3) (ht : t < 3) (h : post (nI (rc_cn (fun x => rc_gs M a x && rc_gs M t x) 512))) :
    ∀ m x, x + m = 512 → wY_common_23 post (nI a) (nI t) w (rc_yM M) old (m + 1) (nI (rc_cn (fun x => rc_gs M a x && rc_gs M t x) x)) (nI x) := by
  intro m
  induction m with
  | zero =>
    intro x hx
    have e : x = 512 := by omega
    subst e
    exact br_t (nI_le (Nat.le_refl 512) (by omega)) h
  | succ m ih =>
    intro x hx
    have hle : ¬ 512 ≤ x := by omega
    have t2 := ih (x + 1) (by omega)
    rw [wY_common_23]
    simp (disch := omega) only [nI_1, nI_add, rc_m2, rc_m4, rc_m8, rc_m32, rc_m128, rc_m512, rc_a128, rc_a4, rc_4a, rc_shr5, rc_shr7, rc_and31, rc_and127, nI_clamp, vp_in_nI, nI_leI, nI_ltI, nI_eq, rc_le4, rc_le16, rc_le128, rc_le512, rc_le511, rc_lt511, rc_lt2, rc_lt4, rc_lt8, rc_l128, rc_l511, rc_l0, rc_e0, rc_e1, false_implies, true_implies, not_false_eq_true, not_true_eq_false, true_and, and_true, implies_true, forall_eq, hle, rc_yMj, rc_bI0]
    refine br_c (fun c => ?_) (fun c => br_c (fun c2 => ?_) (fun c2 => ?_))
    · have c' : rc_gs M a x = false := c
      rw [rc_cnF (b := fun x => rc_gs M a x && rc_gs M t x) (by rw [c']; rfl)] at t2
      exact t2
    · have c' : rc_gs M t x = false := c2
      rw [rc_cnF (b := fun x => rc_gs M a x && rc_gs M t x) (by rw [c', Bool.and_false])] at t2
      exact t2
    · have c' : rc_gs M a x = true := rc_nf c
      have c2' : rc_gs M t x = true := rc_nf c2
      rw [rc_cnT (b := fun x => rc_gs M a x && rc_gs M t x) (by rw [c', c2']; rfl)] at t2
      exact t2
theorem rc_Ycommon {a t : Nat} (ha : a < 3) (ht : t < 3) (h : post (nI (rc_cn (fun x => rc_gs M a x && rc_gs M t x) 512))) : wpY_common post (w, rc_yM M, old) (nI a) (nI t) := by
  unfold wpY_common
  dsimp only
  exact rc_Yset ha (br_t rfl (rc_Yset ht (br_t rfl ⟨513, rc_Ycommon23 ha ht h 512 0 rfl⟩)))
theorem rc_Ywithin20 {a t : Nat} (ha : a < 3) (ht : t < 3) (h1 : (∀ x, x < 512 → rc_gs M a x = true → rc_gs M t x = true) → post 1) (h0 : ¬ (∀ x, x < 512 → rc_gs M a x = true → rc_gs M t x = true) → post 0) :
    ∀ m x, x + m = 512 → (∀ y, y < x → rc_gs M a y = true → rc_gs M t y = true) → wY_within_20 post (nI a) (nI t) w (rc_yM M) old (m + 1) (nI x) := by
  intro m
  induction m with
  | zero =>
    intro x hx hI
    have e : x = 512 := by omega
    subst e
    exact br_t (nI_le (Nat.le_refl 512) (by omega)) (h1 hI)
  | succ m ih =>
    intro x hx hI
    have hle : ¬ 512 ≤ x := by omega
    rw [wY_within_20]
    simp (disch := omega) only [nI_1, nI_add, rc_m2, rc_m4, rc_m8, rc_m32, rc_m128, rc_m512, rc_a128, rc_a4, rc_4a, rc_shr5, rc_shr7, rc_and31, rc_and127, nI_clamp, vp_in_nI, nI_leI, nI_ltI, nI_eq, rc_le4, rc_le16, rc_le128, rc_le512, rc_le511, rc_lt511, rc_lt2, rc_lt4, rc_lt8, rc_l128, rc_l511, rc_l0, rc_e0, rc_e1, false_implies, true_implies, not_false_eq_true, not_true_eq_false, true_and, and_true, implies_true, forall_eq, hle, rc_yMj, rc_bI0]
    refine br_c (fun c => ?_) (fun c => br_c (fun c2 => ?_) (fun c2 => ?_))
    · refine ih (x + 1) (by omega) (fun y hy hg => ?_)
      by_cases e : y = x
      · subst e
        have c' : rc_gs M a y = false := c
        rw [c'] at hg
        exact absurd hg (by decide)
      · exact hI y (by omega) hg
    · refine h0 (fun H => ?_)
      have c' : rc_gs M t x = false := c2
      have z := H x (by omega) (rc_nf c)
      rw [c'] at z
      exact absurd z (by decide)
    · refine ih (x + 1) (by omega) (fun y hy hg => ?_)
      by_cases e : y = x
      · subst e; exact rc_nf c2
      · exact hI y (by omega) hg
theorem rc_Ysame20 {a t : Nat} (ha : a < 3) (ht : t < 3) (h1 : (∀ x, x < 512 → rc_gs M a x = rc_gs M t x) → post 1) (h0 : ¬ (∀ x, x < 512 → rc_gs M a x = rc_gs M t x) → post 0) :
    ∀ m x, x + m = 512 → (∀ y, y < x → rc_gs M a y = rc_gs M t y) → wY_same_20 post (nI a) (nI t) w (rc_yM M) old (m + 1) (nI x) := by
  intro m
  induction m with
  | zero =>
    intro x hx hI
    have e : x = 512 := by omega
    subst e
    exact br_t (nI_le (Nat.le_refl 512) (by omega)) (h1 hI)
  | succ m ih =>
    intro x hx hI
    have hle : ¬ 512 ≤ x := by omega
    rw [wY_same_20]
    simp (disch := omega) only [nI_1, nI_add, rc_m2, rc_m4, rc_m8, rc_m32, rc_m128, rc_m512, rc_a128, rc_a4, rc_4a, rc_shr5, rc_shr7, rc_and31, rc_and127, nI_clamp, vp_in_nI, nI_leI, nI_ltI, nI_eq, rc_le4, rc_le16, rc_le128, rc_le512, rc_le511, rc_lt511, rc_lt2, rc_lt4, rc_lt8, rc_l128, rc_l511, rc_l0, rc_e0, rc_e1, false_implies, true_implies, not_false_eq_true, not_true_eq_false, true_and, and_true, implies_true, forall_eq, hle, rc_yMj, rc_bIe]
    refine br_c (fun c => ?_) (fun c => ?_)
    · refine ih (x + 1) (by omega) (fun y hy => ?_)
      by_cases e : y = x
      · subst e; exact c
      · exact hI y (by omega)
    · exact h0 (fun H => c (H x (by omega)))
end
end
section
/-! ===== the relation; changes ===== -/
def rc_TT (tp w : Int32) (ta : Nat → Int32) (M : Nat → Bool) : Prop := (tp = 0 ∧ w = 0) ∨ (¬ tp = 0 ∧ w = 1 ∧ ∃ t, rc_TP ta (rc_gs M 3) t 4)
/-- one table of marks M for both: the reference's marks are M, X's chunks stand for its sets 0 to 2, X's tape for its set 3 -/
def i_Rel (k : Nat) (u : SX) (v : SY) : Prop :=
  ∃ (tp : Int32) (fo sz pa da bu wh ta : Nat → Int32) (w : Int32) (old : Nat → Int32) (M : Nat → Bool), u = (tp, fo, sz, pa, da, bu, wh, ta) ∧ v = (w, rc_yM M, old) ∧ rc_XR fo sz pa da M ∧ rc_TT tp w ta M
theorem i_up {k : Nat} {u : SX} {v : SY} (h : i_Rel k u v) : i_Rel (k + 4) u v := h
theorem rc_mk {tp : Int32} {fo sz pa da bu wh ta : Nat → Int32} {w : Int32} {old : Nat → Int32} {M : Nat → Bool} (k : Nat) (X : rc_XR fo sz pa da M) (T : rc_TT tp w ta M) : i_Rel k (tp, fo, sz, pa, da, bu, wh, ta) (w, rc_yM M, old) :=
  ⟨tp, fo, sz, pa, da, bu, wh, ta, w, old, M, rfl, rfl, X, T⟩
theorem i_vc0 : wpX_init (fun u => wpY_init (fun v => i_Rel 0 u v)) := by
  refine ⟨_, _, _, _, _, _, _, _, _, _, fun _ => false, rfl, rfl, fun k hk => ?_, Or.inl ⟨rfl, rfl⟩⟩
  refine ⟨?_, Or.inr (Or.inl ⟨rfl, 0, fun _ => 0, fun _ => 0, Nat.zero_le _, rfl, ⟨rfl, fun i hi => absurd hi (Nat.not_lt_zero i), fun y _ _ => rfl⟩, fun i hi => absurd hi (Nat.not_lt_zero i)⟩)⟩
  rw [rc_cn_z2 (fun x _ => rfl)]
  rfl
theorem rc_set (x : Int32) : (x < 0 ∨ nI 3 ≤ x) ∨ ∃ s : Nat, s < 3 ∧ x = nI s := by
  rcases pk_ix x (n := 3) (by omega) with h | h | h
  · exact Or.inl (Or.inl h)
  · exact Or.inl (Or.inr h)
  · exact Or.inr h
theorem rc_num (x : Int32) : (x < 0 ∨ nI 512 ≤ x) ∨ ∃ s : Nat, s < 512 ∧ x = nI s := by
  rcases pk_ix x (n := 512) (by omega) with h | h | h
  · exact Or.inl (Or.inl h)
  · exact Or.inl (Or.inr h)
  · exact Or.inr h
theorem rc_rng (x y : Int32) : (x < 0 ∨ y < x ∨ nI 512 ≤ y) ∨ ∃ f l : Nat, f ≤ l ∧ l < 512 ∧ x = nI f ∧ y = nI l := by
  by_cases h : x < 0
  · exact Or.inl (Or.inl h)
  obtain ⟨f, hf, rfl⟩ := nI_of h
  by_cases h2 : y < nI f
  · exact Or.inl (Or.inr (Or.inl h2))
  rcases pk_ix y (n := 512) (by omega) with h3 | h3 | ⟨l, hl, rfl⟩
  · rw [rc_Ilt hf] at h2
    rw [show (0 : Int32) = nI 0 from rfl, rc_Ilt (by omega)] at h3
    omega
  · exact Or.inl (Or.inr (Or.inr h3))
  · rw [nI_ltI (by omega) hf] at h2
    exact Or.inr ⟨f, l, by omega, hl, rfl, rfl⟩
theorem rc_isRange {post : Int32 → Prop} {f l : Nat} (h1 : f ≤ l) (h2 : l < 512) (h : post 1) : wpX_isRange post (nI f) (nI l) :=
  br_f (nI_pos (by omega)) (br_f (nI_nlt h1 (by omega)) (br_f (nI_nlt (a := 511) (by omega) (by omega)) h))
theorem rc_isRange0 {post : Int32 → Prop} {x y : Int32} (hx : x < 0 ∨ y < x ∨ nI 512 ≤ y) (h : post 0) : wpX_isRange post x y := by
  refine br_c (fun _ => h) (fun c1 => br_c (fun _ => h) (fun c2 => br_t ?_ h))
  rcases hx with hx | hx | hx
  · exact absurd hx c1
  · exact absurd hx c2
  · rw [rc_leI (by omega)] at hx
    rw [show (511 : Int32) = nI 511 from rfl, rc_ltI (by omega)]
    omega
theorem rc_Yrng {post : Int32 → Prop} {u : SY} {f l : Nat} (h1 : f ≤ l) (h2 : l < 512) (h : post 0) : wpY_badRange post u (nI f) (nI l) := by
  obtain ⟨a, b, c⟩ := u
  exact br_f (nI_pos (by omega)) (br_f (nI_nlt h1 (by omega)) (br_t (nI_le (a := l) (b := 511) (by omega) (by omega)) h))
theorem rc_Yrng1 {post : Int32 → Prop} {u : SY} {x y : Int32} (hx : x < 0 ∨ y < x ∨ nI 512 ≤ y) (h : post 1) : wpY_badRange post u x y := by
  obtain ⟨a, b, c⟩ := u
  refine br_c (fun _ => h) (fun c1 => br_c (fun _ => h) (fun c2 => br_f ?_ h))
  rcases hx with hx | hx | hx
  · exact absurd hx c1
  · exact absurd hx c2
  · rw [rc_leI (by omega)] at hx
    rw [show (511 : Int32) = nI 511 from rfl, rc_Ile (by omega)]
    omega
theorem rc_TT_pt {tp w : Int32} {ta : Nat → Int32} {M g : Nat → Bool} {s : Nat} (hs : s < 3) (T : rc_TT tp w ta M) : rc_TT tp w ta (rc_pt M s 512 g) := by
  rcases T with T | ⟨h1, h2, t, h3⟩
  · exact Or.inl T
  · refine Or.inr ⟨h1, h2, t, rc_TP_congr (Nat.le_refl 4) (fun x hx => ?_) h3⟩
    unfold rc_gs rc_pt
    rw [if_neg (by omega)]
/-! counts of a changed range -/
theorem rc_chg_cnlo (h f l : Nat) (g : Nat → Bool) {n : Nat} (hn : n ≤ f) : rc_cn (rc_chg h f l g) n = rc_cn g n :=
  rc_cn_ext (fun x hx => by unfold rc_chg; rw [if_neg (by omega)])
theorem rc_chg_cnhi (h f l : Nat) (g : Nat → Bool) (hl : l < 512) : rc_cn (rc_chg h f l g) 512 + rc_cn g (l + 1) = rc_cn (rc_chg h f l g) (l + 1) + rc_cn g 512 := by
  have e1 := rc_cn_add (rc_chg h f l g) (l + 1) (511 - l)
  have e2 := rc_cn_add g (l + 1) (511 - l)
  rw [show l + 1 + (511 - l) = 512 by omega] at e1 e2
  have e3 : rc_cn (fun x => rc_chg h f l g (l + 1 + x)) (511 - l) = rc_cn (fun x => g (l + 1 + x)) (511 - l) :=
    rc_cn_ext (fun x hx => by unfold rc_chg; rw [if_neg (by omega)])
  omega
theorem rc_fill_eq {f l c : Nat} {g : Nat → Bool} (hl : l < 512) (hc : c + rc_cn g (l + 1) = rc_cn (rc_chg 0 f l g) (l + 1)) : nI c = nI (rc_cn (rc_chg 0 f l g) 512) - nI (rc_cn g 512) := by
  have e := rc_chg_cnhi 0 f l g hl
  rw [pk_sub (by omega)]
  congr 1
  omega
theorem rc_clear_eq {f l c : Nat} {g : Nat → Bool} (hl : l < 512) (hc : c + rc_cn (rc_chg 1 f l g) (l + 1) = rc_cn g (l + 1)) : nI c = nI (rc_cn g 512) - nI (rc_cn (rc_chg 1 f l g) 512) := by
  have e := rc_chg_cnhi 1 f l g hl
  rw [pk_sub (by omega)]
  congr 1
  omega
theorem rc_one (M : Nat → Bool) (s h x : Nat) (hx : x < 512) : rc_ub M (512 * s + x) (rc_op h (rc_gs M s x)) = rc_pt M s 512 (rc_chg h x x (rc_gs M s)) := by
  have e := rc_ub_pt M (rc_chg h x x (rc_gs M s)) s x
  rw [rc_chg_ptlo M s h x x x (Nat.le_refl x), rc_chg_pthi M s h x x (x + 1) 512 (by omega) (by omega)] at e
  have e2 : rc_chg h x x (rc_gs M s) x = rc_op h (rc_gs M s x) := by
    unfold rc_chg
    rw [if_pos (by omega)]
  rw [e2] at e
  exact e
section
variable {tp : Int32} {fo sz pa da bu wh ta : Nat → Int32}
variable {s : Nat} {M : Nat → Bool}
theorem rc_Xfill {post : Int32 → SX → Prop} {f l : Nat} (hs : s < 3) (hfl : f ≤ l) (hl : l < 512) (X : rc_XR fo sz pa da M)
    (h : ∀ fo' sz' pa' da' bu', rc_XR fo' sz' pa' da' (rc_pt M s 512 (rc_chg 0 f l (rc_gs M s))) → post (nI (rc_cn (rc_chg 0 f l (rc_gs M s)) 512) - nI (rc_cn (rc_gs M s) 512)) (tp, fo', sz', pa', da', bu', wh, ta)) : wpX_fill post (tp, fo, sz, pa, da, bu, wh, ta) (nI s) (nI f) (nI l) := by
  unfold wpX_fill
  dsimp only
  refine rc_isSet hs (br_f (by decide) (rc_isRange hfl hl (br_f (by decide) (rc_total hs X ?_))))
  refine rc_change (h := 0) hs hfl hl (by omega) X (fun fo' sz' pa' da' bu' X' => ?_)
  dsimp only
  refine rc_total hs X' ?_
  rw [rc_gs_cn]
  exact h _ _ _ _ _ X'
theorem rc_Xclear {post : Int32 → SX → Prop} {f l : Nat} (hs : s < 3) (hfl : f ≤ l) (hl : l < 512) (X : rc_XR fo sz pa da M)
    (h : ∀ fo' sz' pa' da' bu', rc_XR fo' sz' pa' da' (rc_pt M s 512 (rc_chg 1 f l (rc_gs M s))) → post (nI (rc_cn (rc_gs M s) 512) - nI (rc_cn (rc_chg 1 f l (rc_gs M s)) 512)) (tp, fo', sz', pa', da', bu', wh, ta)) : wpX_clear post (tp, fo, sz, pa, da, bu, wh, ta) (nI s) (nI f) (nI l) := by
  unfold wpX_clear
  dsimp only
  refine rc_isSet hs (br_f (by decide) (rc_isRange hfl hl (br_f (by decide) (rc_total hs X ?_))))
  refine rc_change (h := 1) hs hfl hl (by omega) X (fun fo' sz' pa' da' bu' X' => ?_)
  dsimp only
  refine rc_total hs X' ?_
  rw [rc_gs_cn]
  exact h _ _ _ _ _ X'
end
theorem i_vc_add {k : Nat} {u : SX} {v : SY} (I : i_Rel k u v) (hk : k + 4 ≤ 2048) (v1 : Int32) (v2 : Int32) : wpX_add (fun r u' => wpY_add (fun r' v' => r' = r ∧ i_Rel (k + 4) u' v') v v1 v2) u v1 v2 := by
  have I0 := I
  obtain ⟨tp, fo, sz, pa, da, bu, wh, ta, w, old, M, rfl, rfl, X, T⟩ := I
  rcases rc_set v1 with hv | ⟨s, hs, rfl⟩
  · unfold wpX_add
    dsimp only
    refine rc_isSet0 hv (br_t rfl ?_)
    unfold wpY_add
    dsimp only
    exact rc_Yset1 hv (br_f (by decide) ⟨rfl, I0⟩)
  rcases rc_num v2 with hv | ⟨x, hx, rfl⟩
  · unfold wpX_add
    dsimp only
    refine rc_isSet hs (br_f (by decide) (rc_isNum0 hv (br_t rfl ?_)))
    exact rc_Yadd2 hs hv ⟨rfl, I0⟩
  · unfold wpX_add
    dsimp only
    refine rc_isSet hs (br_f (by decide) (rc_isNum hx (br_f (by decide) ?_)))
    refine rc_Xfill hs (Nat.le_refl x) hx X (fun fo' sz' pa' da' bu' X' => ?_)
    dsimp only
    refine rc_Yadd hs hx ⟨?_, ?_⟩
    · rw [rc_bIN]
      refine rc_fill_eq hx ?_
      rw [rc_cnS, rc_cnT (b := rc_chg 0 x x (rc_gs M s)) (by unfold rc_chg; rw [if_pos (by omega)]; rfl), rc_chg_cnlo 0 x x _ (Nat.le_refl x)]
      show (!rc_gs M s x).toNat + _ = _
      cases rc_gs M s x
      · show 1 + (_ + 0) = _
        omega
      · show 0 + (_ + 1) = _
        omega
    · have e := rc_one M s 0 x hx
      have e2 : rc_op 0 (rc_gs M s x) = true := rfl
      rw [e2] at e
      rw [e]
      exact rc_mk _ X' (rc_TT_pt hs T)
theorem i_vc_remove {k : Nat} {u : SX} {v : SY} (I : i_Rel k u v) (hk : k + 4 ≤ 2048) (v1 : Int32) (v2 : Int32) : wpX_remove (fun r u' => wpY_remove (fun r' v' => r' = r ∧ i_Rel (k + 4) u' v') v v1 v2) u v1 v2 := by
  have I0 := I
  obtain ⟨tp, fo, sz, pa, da, bu, wh, ta, w, old, M, rfl, rfl, X, T⟩ := I
  rcases rc_set v1 with hv | ⟨s, hs, rfl⟩
  · unfold wpX_remove
    dsimp only
    refine rc_isSet0 hv (br_t rfl ?_)
    unfold wpY_remove
    dsimp only
    exact rc_Yset1 hv (br_f (by decide) ⟨rfl, I0⟩)
  rcases rc_num v2 with hv | ⟨x, hx, rfl⟩
  · unfold wpX_remove
    dsimp only
    refine rc_isSet hs (br_f (by decide) (rc_isNum0 hv (br_t rfl ?_)))
    unfold wpY_remove
    dsimp only
    exact rc_Yset hs (br_t rfl (rc_Ynum1 hv (br_f (by decide) ⟨rfl, I0⟩)))
  · unfold wpX_remove
    dsimp only
    refine rc_isSet hs (br_f (by decide) (rc_isNum hx (br_f (by decide) ?_)))
    refine rc_Xclear hs (Nat.le_refl x) hx X (fun fo' sz' pa' da' bu' X' => ?_)
    dsimp only
    refine rc_Yrem hs hx ⟨?_, ?_⟩
    · rw [rc_bIN]
      refine rc_clear_eq hx ?_
      rw [rc_cnS (rc_gs M s), rc_cnF (b := rc_chg 1 x x (rc_gs M s)) (by unfold rc_chg; rw [if_pos (by omega)]; rfl), rc_chg_cnlo 1 x x _ (Nat.le_refl x)]
      exact Nat.add_comm _ _
    · have e := rc_one M s 1 x hx
      have e2 : rc_op 1 (rc_gs M s x) = false := rfl
      rw [e2] at e
      rw [e]
      exact rc_mk _ X' (rc_TT_pt hs T)
theorem i_vc_fill {k : Nat} {u : SX} {v : SY} (I : i_Rel k u v) (hk : k + 4 ≤ 2048) (v1 : Int32) (v2 : Int32) (v3 : Int32) : wpX_fill (fun r u' => wpY_fill (fun r' v' => r' = r ∧ i_Rel (k + 4) u' v') v v1 v2 v3) u v1 v2 v3 := by
  have I0 := I
  obtain ⟨tp, fo, sz, pa, da, bu, wh, ta, w, old, M, rfl, rfl, X, T⟩ := I
  rcases rc_set v1 with hv | ⟨s, hs, rfl⟩
  · unfold wpX_fill
    dsimp only
    refine rc_isSet0 hv (br_t rfl ?_)
    unfold wpY_fill
    dsimp only
    exact rc_Yset1 hv (br_f (by decide) ⟨rfl, I0⟩)
  rcases rc_rng v2 v3 with hv | ⟨f, l, hfl, hl, rfl, rfl⟩
  · unfold wpX_fill
    dsimp only
    refine rc_isSet hs (br_f (by decide) (rc_isRange0 hv (br_t rfl ?_)))
    unfold wpY_fill
    dsimp only
    exact rc_Yset hs (br_t rfl (rc_Yrng1 hv (br_f (by decide) ⟨rfl, I0⟩)))
  · refine rc_Xfill hs hfl hl X (fun fo' sz' pa' da' bu' X' => ?_)
    unfold wpY_fill
    dsimp only
    refine rc_Yset hs (br_t rfl (rc_Yrng hfl hl (br_t rfl ⟨l + 1 - f + 1, ?_⟩)))
    have t := fun hh => rc_Yfill28 (w := w) (M := M) (old := old) (f := f) (post := fun r' v' => r' = nI (rc_cn (rc_chg 0 f l (rc_gs M s)) 512) - nI (rc_cn (rc_gs M s) 512) ∧ i_Rel (k + 4) (tp, fo', sz', pa', da', bu', wh, ta) v') hs hl hh (l + 1 - f) f (by omega) (Nat.le_refl f) 0 (by rw [rc_chg_cnlo 0 f l _ (Nat.le_refl f), Nat.zero_add])
    rw [rc_chg_ptlo M s 0 f l f (Nat.le_refl f)] at t
    refine t (fun c hc => ⟨rc_fill_eq hl hc, ?_⟩)
    rw [rc_chg_pthi M s 0 f l (l + 1) 512 (by omega) (by omega)]
    exact rc_mk _ X' (rc_TT_pt hs T)
theorem i_vc_clear {k : Nat} {u : SX} {v : SY} (I : i_Rel k u v) (hk : k + 4 ≤ 2048) (v1 : Int32) (v2 : Int32) (v3 : Int32) : wpX_clear (fun r u' => wpY_clear (fun r' v' => r' = r ∧ i_Rel (k + 4) u' v') v v1 v2 v3) u v1 v2 v3 := by
  have I0 := I
  obtain ⟨tp, fo, sz, pa, da, bu, wh, ta, w, old, M, rfl, rfl, X, T⟩ := I
  rcases rc_set v1 with hv | ⟨s, hs, rfl⟩
  · unfold wpX_clear
    dsimp only
    refine rc_isSet0 hv (br_t rfl ?_)
    unfold wpY_clear
    dsimp only
    exact rc_Yset1 hv (br_f (by decide) ⟨rfl, I0⟩)
  rcases rc_rng v2 v3 with hv | ⟨f, l, hfl, hl, rfl, rfl⟩
  · unfold wpX_clear
    dsimp only
    refine rc_isSet hs (br_f (by decide) (rc_isRange0 hv (br_t rfl ?_)))
    unfold wpY_clear
    dsimp only
    exact rc_Yset hs (br_t rfl (rc_Yrng1 hv (br_f (by decide) ⟨rfl, I0⟩)))
  · refine rc_Xclear hs hfl hl X (fun fo' sz' pa' da' bu' X' => ?_)
    unfold wpY_clear
    dsimp only
    refine rc_Yset hs (br_t rfl (rc_Yrng hfl hl (br_t rfl ⟨l + 1 - f + 1, ?_⟩)))
    have t := fun hh => rc_Yclear28 (w := w) (M := M) (old := old) (f := f) (post := fun r' v' => r' = nI (rc_cn (rc_gs M s) 512) - nI (rc_cn (rc_chg 1 f l (rc_gs M s)) 512) ∧ i_Rel (k + 4) (tp, fo', sz', pa', da', bu', wh, ta) v') hs hl hh (l + 1 - f) f (by omega) (Nat.le_refl f) 0 (by rw [rc_chg_cnlo 1 f l _ (Nat.le_refl f), Nat.zero_add])
    rw [rc_chg_ptlo M s 1 f l f (Nat.le_refl f)] at t
    refine t (fun c hc => ⟨rc_clear_eq hl hc, ?_⟩)
    rw [rc_chg_pthi M s 1 f l (l + 1) 512 (by omega) (by omega)]
    exact rc_mk _ X' (rc_TT_pt hs T)
theorem i_vc_flip {k : Nat} {u : SX} {v : SY} (I : i_Rel k u v) (hk : k + 4 ≤ 2048) (v1 : Int32) (v2 : Int32) (v3 : Int32) : wpX_flip (fun r u' => wpY_flip (fun r' v' => r' = r ∧ i_Rel (k + 4) u' v') v v1 v2 v3) u v1 v2 v3 := by
  have I0 := I
  obtain ⟨tp, fo, sz, pa, da, bu, wh, ta, w, old, M, rfl, rfl, X, T⟩ := I
  rcases rc_set v1 with hv | ⟨s, hs, rfl⟩
  · unfold wpX_flip
    dsimp only
    refine rc_isSet0 hv (br_t rfl ?_)
    unfold wpY_flip
    dsimp only
    exact rc_Yset1 hv (br_f (by decide) ⟨rfl, I0⟩)
  rcases rc_rng v2 v3 with hv | ⟨f, l, hfl, hl, rfl, rfl⟩
  · unfold wpX_flip
    dsimp only
    refine rc_isSet hs (br_f (by decide) (rc_isRange0 hv (br_t rfl ?_)))
    unfold wpY_flip
    dsimp only
    exact rc_Yset hs (br_t rfl (rc_Yrng1 hv (br_f (by decide) ⟨rfl, I0⟩)))
  · unfold wpX_flip
    dsimp only
    refine rc_isSet hs (br_f (by decide) (rc_isRange hfl hl (br_f (by decide) ?_)))
    refine rc_change (h := 2) hs hfl hl (by omega) X (fun fo' sz' pa' da' bu' X' => ?_)
    dsimp only
    refine rc_total hs X' ?_
    unfold wpY_flip
    dsimp only
    refine rc_Yset hs (br_t rfl (rc_Yrng hfl hl (br_t rfl ⟨l + 1 - f + 1, ?_⟩)))
    have t := fun hh => rc_Yflip25 (w := w) (M := M) (old := old) (f := f) (post := fun r' v' => r' = nI (rc_cn (rc_gs (rc_pt M s 512 (rc_chg 2 f l (rc_gs M s))) s) 512) ∧ i_Rel (k + 4) (tp, fo', sz', pa', da', bu', wh, ta) v') hs hl hh (l + 1 - f) f (by omega) (Nat.le_refl f)
    rw [rc_chg_ptlo M s 2 f l f (Nat.le_refl f)] at t
    refine t ?_
    rw [rc_chg_pthi M s 2 f l (l + 1) 512 (by omega) (by omega)]
    exact ⟨rfl, rc_mk _ X' (rc_TT_pt hs T)⟩
end
section
/-! ===== sow, join, shift, write, read ===== -/
theorem rc_lt1 {a : Nat} (h : a < 2 ^ 31) : (nI a < 1) ↔ a < 1 := nI_ltI (b := 1) h (by omega)
theorem rc_le100 {a : Nat} (h : a < 2 ^ 31) : (nI a ≤ 100) ↔ a ≤ 100 := nI_leI (b := 100) h (by omega)
theorem rc_le200 {a : Nat} (h : a < 2 ^ 31) : (nI a ≤ 200) ↔ a ≤ 200 := nI_leI (b := 200) h (by omega)
theorem rc_XR_congr {fo sz pa da : Nat → Int32} {M M' : Nat → Bool} (h : ∀ j, j < 1536 → M j = M' j) (X : rc_XR fo sz pa da M) : rc_XR fo sz pa da M' :=
  fun k hk => rc_ck_congr (fun y hy => h _ (by omega)) (X k hk)
theorem rc_sw_pt (M : Nat → Bool) (s : Nat) : rc_pt M s 512 (rc_gs M s) = M := by
  funext j
  unfold rc_pt rc_gs
  by_cases c : 512 * s ≤ j ∧ j < 512 * s + 512
  · rw [if_pos c]
    congr 1
    omega
  · rw [if_neg c]
theorem i_vc_sow {k : Nat} {u : SX} {v : SY} (I : i_Rel k u v) (hk : k + 4 ≤ 2048) (v1 : Int32) (v2 : Int32) (v3 : Int32) : wpX_sow (fun r u' => wpY_sow (fun r' v' => r' = r ∧ i_Rel (k + 4) u' v') v v1 v2 v3) u v1 v2 v3 := by
  have I0 := I
  obtain ⟨tp, fo, sz, pa, da, bu, wh, ta, w, old, M, rfl, rfl, X, T⟩ := I
  rcases rc_set v1 with hv | ⟨s, hs, rfl⟩
  · unfold wpX_sow
    dsimp only
    refine nm_e (nm_e (rc_isSet0 hv (br_t rfl ?_)))
    unfold wpY_sow
    dsimp only
    exact rc_Yset1 hv (br_f (by decide) ⟨rfl, I0⟩)
  rcases rc_num v2 with hv | ⟨f, hf, rfl⟩
  · unfold wpX_sow
    dsimp only
    refine nm_e (nm_e (rc_isSet hs (br_f (by decide) (rc_isNum0 hv (br_t rfl ?_)))))
    unfold wpY_sow
    dsimp only
    exact rc_Yset hs (br_t rfl (rc_Ynum1 hv (br_f (by decide) ⟨rfl, I0⟩)))
  by_cases hr : v3 < 0
  · have hr2 : ¬ 0 ≤ v3 := Int32.not_le.mpr hr
    unfold wpX_sow
    dsimp only
    refine nm_e (nm_e (rc_isSet hs (br_f (by decide) (rc_isNum hf (br_f (by decide) (br_t hr ?_))))))
    unfold wpY_sow
    dsimp only
    exact rc_Yset hs (br_t rfl (rc_Ynum hf (br_t rfl (br_f hr2 ⟨rfl, I0⟩))))
  have hr2 : 0 ≤ v3 := Int32.not_lt.mp hr
  obtain ⟨R, hR, rfl⟩ := nI_of hr
  have n256 : ¬ (256 : Int32) = 0 := by decide
  have x1 : nI R >>> ((8 : Int32) &&& 31) = nI (R / 256) := pk_shrN hR _ 8 (by decide)
  have x2 : nI R &&& 255 = nI (R % 256) := pk_andN (by omega) 8 (by decide)
  have y1 : nI R / 256 = nI (R / 256) := pk_div (d := 256) hR (by omega) (by omega)
  have y2 : nI R - nI R / 256 * 256 = nI (R % 256) := pk_rem (d := 256) hR (by omega) (by omega)
  unfold wpX_sow
  dsimp only
  refine nm_r x1 (nm_r x2 (rc_isSet hs (br_f (by decide) (rc_isNum hf (br_f (by decide) (br_f hr ?_))))))
  have KY : ∀ {post : Int32 → SY → Prop}, ((nI (R / 256) < 1 → post (-3) (w, rc_yM M, old)) ∧ (¬ nI (R / 256) < 1 → ((nI (R / 256) ≤ 100 → ((nI (R % 256) < 1 → post (-4) (w, rc_yM M, old)) ∧ (¬ nI (R % 256) < 1 → ((nI (R % 256) ≤ 200 → (∃ n78 : Nat, wY_sow_78 post (nI s) (nI f) (nI (R / 256)) (nI (R % 256)) n78 0 w (rc_yM M) old)) ∧ (¬ nI (R % 256) ≤ 200 → post (-4) (w, rc_yM M, old)))))) ∧ (¬ nI (R / 256) ≤ 100 → post (-3) (w, rc_yM M, old))))) → wpY_sow post (w, rc_yM M, old) (nI s) (nI f) (nI R) := by
    intro post h
    unfold wpY_sow
    dsimp only
    exact rc_Yset hs (br_t rfl (rc_Ynum hf (br_t rfl (br_t hr2 ⟨n256, nm_r y1 ⟨n256, nm_r y2 h⟩⟩))))
  refine br_c (fun c1 => KY (br_t c1 ⟨rfl, I0⟩)) (fun c1 => br_c (fun c2 => br_c (fun c3 => KY (br_f c1 (br_t c2 (br_t c3 ⟨rfl, I0⟩)))) (fun c3 => br_c (fun c4 => ?_) (fun c4 => KY (br_f c1 (br_t c2 (br_f c3 (br_f c4 ⟨rfl, I0⟩))))))) (fun c2 => KY (br_f c1 (br_f c2 ⟨rfl, I0⟩))))
  have d2 := c2
  have d4 := c4
  rw [rc_le100 (by omega)] at d2
  rw [rc_le200 (by omega)] at d4
  refine rc_gather hs X (fun bu' wh' hw => ?_)
  dsimp only
  have t := fun hp => rc_sow80 (tp := tp) (fo := fo) (sz := sz) (pa := pa) (da := da) (bu := bu') (ta := ta) (post := fun r u' => wpY_sow (fun r' v' => r' = r ∧ i_Rel (k + 4) u' v') (w, rc_yM M, old) (nI s) (nI f) (nI R)) (g := rc_gs M s) (f := f) (st := R / 256) (cnt := R % 256) hs d2 d4 X hp (R % 256) 0 (by omega) (by omega) wh' hw
  rw [Nat.zero_mul, Nat.add_zero] at t
  refine ⟨_, t (fun fo' sz' pa' da' bu2 wh2 X' => KY (br_f c1 (br_t c2 (br_f c3 (br_t c4 ?_)))))⟩
  have t2 := fun hp => rc_Ysow78 (w := w) (M := M) (old := old) (post := fun r' v' => r' = nI (rc_cn (rc_sw (rc_gs M s) f (R / 256) (R % 256)) 512) ∧ i_Rel (k + 4) (tp, fo', sz', pa', da', bu2, wh2, ta) v') (g := rc_gs M s) (f := f) (st := R / 256) (cnt := R % 256) hs hf d2 d4 hp (R % 256) 0 (by omega)
  have e0 : rc_pt M s 512 (rc_sw (rc_gs M s) f (R / 256) 0) = M := rc_sw_pt M s
  rw [e0] at t2
  exact ⟨_, t2 ⟨rfl, rc_mk _ X' (rc_TT_pt hs T)⟩⟩
theorem i_vc_join {k : Nat} {u : SX} {v : SY} (I : i_Rel k u v) (hk : k + 4 ≤ 2048) (v1 : Int32) (v2 : Int32) (v3 : Int32) : wpX_join (fun r u' => wpY_join (fun r' v' => r' = r ∧ i_Rel (k + 4) u' v') v v1 v2 v3) u v1 v2 v3 := by
  have I0 := I
  obtain ⟨tp, fo, sz, pa, da, bu, wh, ta, w, old, M, rfl, rfl, X, T⟩ := I
  have z3 : (3 : Int32).toInt = 3 := by decide
  rcases pk_ix v1 (n := 4) (by omega) with hv | hv | ⟨kd, hk4, rfl⟩
  · unfold wpX_join
    dsimp only
    refine br_t hv ?_
    unfold wpY_join
    dsimp only
    exact br_t hv ⟨rfl, I0⟩
  · have h0 : ¬ v1 < 0 := by
      rw [rc_leI (by omega)] at hv
      rw [show (0 : Int32) = nI 0 from rfl, rc_Ilt (by omega)]
      omega
    have h3 : ¬ v1 ≤ 3 := by
      rw [rc_leI (by omega)] at hv
      rw [show (3 : Int32) = nI 3 from rfl, rc_Ile (by omega)]
      omega
    unfold wpX_join
    dsimp only
    refine br_f h0 (br_f h3 ?_)
    unfold wpY_join
    dsimp only
    exact br_f h0 (br_f h3 ⟨rfl, I0⟩)
  have h0 : ¬ nI kd < 0 := nI_pos (by omega)
  have h3 : nI kd ≤ 3 := nI_le (b := 3) (by omega) (by omega)
  unfold wpX_join
  dsimp only
  refine br_f h0 (br_t h3 ?_)
  rcases rc_set v2 with hv | ⟨a, ha, rfl⟩
  · refine rc_isSet0 hv (br_t rfl ?_)
    unfold wpY_join
    dsimp only
    exact br_f h0 (br_t h3 (rc_Yset1 hv (br_f (by decide) ⟨rfl, I0⟩)))
  rcases rc_set v3 with hv | ⟨t, ht, rfl⟩
  · refine rc_isSet ha (br_f (by decide) (rc_isSet0 hv (br_t rfl ?_)))
    unfold wpY_join
    dsimp only
    exact br_f h0 (br_t h3 (rc_Yset ha (br_t rfl (rc_Yset1 hv (br_f (by decide) ⟨rfl, I0⟩)))))
  · refine rc_isSet ha (br_f (by decide) (rc_isSet ht (br_f (by decide) ⟨5, ?_⟩)))
    refine rc_join31 (M := M) hk4 ha ht (fun fo' sz' pa' da' bu' X' => ?_) 4 0 rfl fo sz pa da bu (by rw [Nat.mul_zero, rc_pt0]; exact X)
    unfold wpY_join
    dsimp only
    refine br_f h0 (br_t h3 (rc_Yset ha (br_t rfl (rc_Yset ht (br_t rfl ⟨513, ?_⟩)))))
    have t2 := fun hp => rc_Yjoin33 (w := w) (M := M) (old := old) (post := fun r' v' => r' = nI (rc_cn (fun x => rc_cmb kd (rc_gs M a x) (rc_gs M t x)) 512) ∧ i_Rel (k + 4) (tp, fo', sz', pa', da', bu', wh, ta) v') hk4 ha ht hp 512 0 rfl
    rw [rc_pt0] at t2
    exact t2 ⟨rfl, rc_mk _ X' (rc_TT_pt ha T)⟩
theorem i_vc_shift {k : Nat} {u : SX} {v : SY} (I : i_Rel k u v) (hk : k + 4 ≤ 2048) (v1 : Int32) (v2 : Int32) : wpX_shift (fun r u' => wpY_shift (fun r' v' => r' = r ∧ i_Rel (k + 4) u' v') v v1 v2) u v1 v2 := by
  have I0 := I
  obtain ⟨tp, fo, sz, pa, da, bu, wh, ta, w, old, M, rfl, rfl, X, T⟩ := I
  have zm : (-511 : Int32).toInt = -511 := by decide
  have zp : (511 : Int32).toInt = 511 := by decide
  rcases rc_set v1 with hv | ⟨s, hs, rfl⟩
  · unfold wpX_shift
    dsimp only
    refine rc_isSet0 hv (br_t rfl ?_)
    unfold wpY_shift
    dsimp only
    exact rc_Yset1 hv (br_f (by decide) ⟨rfl, I0⟩)
  have KY : ∀ {post : Int32 → SY → Prop}, ((v2 < (-511) → post (-2) (w, rc_yM M, old)) ∧ (¬ v2 < (-511) → ((v2 ≤ 511 → (∃ n29 : Nat, wY_shift_29 post (nI s) v2 w n29 0 (rc_yM M) old)) ∧ (¬ v2 ≤ 511 → post (-2) (w, rc_yM M, old))))) → wpY_shift post (w, rc_yM M, old) (nI s) v2 := by
    intro post h
    unfold wpY_shift
    dsimp only
    exact rc_Yset hs (br_t rfl h)
  unfold wpX_shift
  dsimp only
  refine rc_isSet hs (br_f (by decide) (br_c (fun c1 => KY (br_t c1 ⟨rfl, I0⟩)) (fun c1 => br_c (fun c2 => ?_) (fun c2 => KY (br_f c1 (br_f c2 ⟨rfl, I0⟩))))))
  have d1 := c1
  have d2 := c2
  rw [Int32.lt_iff_toInt_lt, zm] at d1
  rw [Int32.le_iff_toInt_le, zp] at d2
  have hd : -511 ≤ v2.toInt ∧ v2.toInt ≤ 511 := by omega
  refine rc_gather hs X (fun bu' wh' hw => ?_)
  dsimp only
  refine ⟨5, rc_shift33 (M := M) hs hd hw (fun fo' sz' pa' da' bu2 X' => ?_) 4 0 rfl fo sz pa da bu' (by rw [Nat.mul_zero, rc_pt0]; exact X)⟩
  refine KY (br_f c1 (br_t c2 ⟨513, ?_⟩))
  exact rc_Yshift29 hs hd (fun old' => ⟨rfl, rc_mk _ X' (rc_TT_pt hs T)⟩) 512 0 rfl old (fun y hy => absurd hy (Nat.not_lt_zero y))
theorem i_vc_write {k : Nat} {u : SX} {v : SY} (I : i_Rel k u v) (hk : k + 4 ≤ 2048) (v1 : Int32) : wpX_write (fun r u' => wpY_write (fun r' v' => r' = r ∧ i_Rel (k + 4) u' v') v v1) u v1 := by
  have I0 := I
  obtain ⟨tp, fo, sz, pa, da, bu, wh, ta, w, old, M, rfl, rfl, X, T⟩ := I
  rcases rc_set v1 with hv | ⟨s, hs, rfl⟩
  · unfold wpX_write
    dsimp only
    refine rc_isSet0 hv (br_t rfl ?_)
    unfold wpY_write
    dsimp only
    exact rc_Yset1 hv (br_f (by decide) ⟨rfl, I0⟩)
  · refine rc_write hs X (fun t ta' TP => ?_)
    unfold wpY_write
    dsimp only
    refine rc_Yset hs (br_t rfl (rc_copy (t := 3) (by omega) (by omega) (by omega) ?_))
    dsimp only
    refine ⟨rfl, rc_mk _ (rc_XR_congr (fun j hj => ?_) X) (Or.inr ⟨?_, rfl, t, rc_TP_congr (Nat.le_refl 4) (fun x hx => (rc_gs_pt M _ 3 hx).symm) TP⟩)⟩
    · unfold rc_pt
      rw [if_neg (by omega)]
    · have h1 := rc_TP_le TP 4 (Nat.le_refl 4)
      obtain ⟨f, z, p, k1, k2, k3⟩ := TP.2 3 (by omega)
      have k4 : t 4 = t 3 + 1 + rc_cl f p := k1
      have k5 : t 4 ≤ 36 := h1
      have k6 : 0 < t 4 := by omega
      exact nI_ne0 k6 (by omega)
theorem i_vc_read {k : Nat} {u : SX} {v : SY} (I : i_Rel k u v) (hk : k + 4 ≤ 2048) (v1 : Int32) : wpX_read (fun r u' => wpY_read (fun r' v' => r' = r ∧ i_Rel (k + 4) u' v') v v1) u v1 := by
  have I0 := I
  obtain ⟨tp, fo, sz, pa, da, bu, wh, ta, w, old, M, rfl, rfl, X, T⟩ := I
  rcases rc_set v1 with hv | ⟨s, hs, rfl⟩
  · unfold wpX_read
    dsimp only
    refine rc_isSet0 hv (br_t rfl ?_)
    unfold wpY_read
    dsimp only
    exact rc_Yset1 hv (br_f (by decide) ⟨rfl, I0⟩)
  have T0 := T
  rcases T with ⟨h1, h2⟩ | ⟨h1, h2, t, TP⟩
  · unfold wpX_read
    dsimp only
    refine rc_isSet hs (br_f (by decide) (br_t h1 ?_))
    unfold wpY_read
    dsimp only
    exact rc_Yset hs (br_t rfl (br_t h2 ⟨rfl, I0⟩))
  · unfold wpX_read
    dsimp only
    refine rc_isSet hs (br_f (by decide) (br_f h1 (nm_r (rc_m4 s) ⟨5, ?_⟩)))
    have t2 := fun hp => rc_read25 (tp := tp) (bu := bu) (wh := wh) (ta := ta) (M := M) (post := fun r u' => wpY_read (fun r' v' => r' = r ∧ i_Rel (k + 4) u' v') (w, rc_yM M, old) (nI s)) hs TP hp 4 0 rfl fo sz pa da (by rw [Nat.mul_zero, rc_pt0]; exact X)
    rw [TP.1] at t2
    refine t2 (fun fo' sz' pa' da' X' => ?_)
    have hw1 : ¬ w = 0 := by rw [h2]; decide
    unfold wpY_read
    dsimp only
    refine rc_Yset hs (br_t rfl (br_f hw1 (rc_copy (s := 3) (by omega) (by omega) (by omega) ?_)))
    dsimp only
    refine rc_many hs ⟨?_, rc_mk _ X' (rc_TT_pt hs T0)⟩
    rw [rc_gs_cn]
end
section
/-! ===== questions ===== -/
theorem i_vc_has {k : Nat} {u : SX} {v : SY} (I : i_Rel k u v) (hk : k + 4 ≤ 2048) (v1 : Int32) (v2 : Int32) : wpX_has (fun r => wpY_has (fun r' => r' = r ∧ i_Rel (k + 4) u v) v v1 v2) u v1 v2 := by
  have I0 := I
  obtain ⟨tp, fo, sz, pa, da, bu, wh, ta, w, old, M, rfl, rfl, X, T⟩ := I
  rcases rc_set v1 with hv | ⟨s, hs, rfl⟩
  · unfold wpX_has
    dsimp only
    refine rc_isSet0 hv (br_t rfl ?_)
    unfold wpY_has
    dsimp only
    exact rc_Yset1 hv (br_f (by decide) ⟨rfl, I0⟩)
  rcases rc_num v2 with hv | ⟨x, hx, rfl⟩
  · unfold wpX_has
    dsimp only
    refine rc_isSet hs (br_f (by decide) (rc_isNum0 hv (br_t rfl ?_)))
    unfold wpY_has
    dsimp only
    exact rc_Yset hs (br_t rfl (rc_Ynum1 hv (br_f (by decide) ⟨rfl, I0⟩)))
  have KY : ∀ {post : Int32 → Prop}, post (rc_bI (rc_gs M s x)) → wpY_has post (w, rc_yM M, old) (nI s) (nI x) := by
    intro post h
    unfold wpY_has
    dsimp only
    refine rc_Yset hs (br_t rfl (rc_Ynum hx (br_t rfl ?_)))
    simp (disch := omega) only [nI_1, nI_add, rc_m2, rc_m4, rc_m8, rc_m32, rc_m128, rc_m512, rc_a128, rc_a4, rc_4a, rc_shr5, rc_shr7, rc_and31, rc_and127, nI_clamp, vp_in_nI, nI_leI, nI_ltI, nI_eq, rc_le4, rc_le16, rc_le128, rc_le512, rc_le511, rc_lt511, rc_lt2, rc_lt4, rc_lt8, rc_l128, rc_l511, rc_l0, rc_e0, rc_e1, false_implies, true_implies, not_false_eq_true, not_true_eq_false, true_and, and_true, implies_true, forall_eq, rc_yMj, rc_bI0]
    refine br_c (fun c => ?_) (fun c => ?_)
    · have c' : rc_gs M s x = false := c
      rw [c'] at h
      exact h
    · have c' : rc_gs M s x = true := rc_nf c
      rw [c'] at h
      exact h
  unfold wpX_has
  dsimp only
  refine rc_isSet hs (br_f (by decide) (rc_isNum hx (br_f (by decide) ?_)))
  have e7 : nI x >>> ((7 : Int32) &&& 31) = nI (x / 128) := rc_shr7 (by omega)
  have e127 : nI x &&& 127 = nI (x % 128) := rc_and127 (by omega)
  rw [e7, e127, rc_m4, nI_add]
  have hd : 128 * (x / 128) + x % 128 = x := by omega
  refine rc_nextIn (by omega) (rc_XR_ch0 hs (show x / 128 < 4 by omega) X) (by omega) (fun z hz hfz hb hn => ?_) (fun hn => ?_)
  · by_cases c : z = x % 128
    · refine br_t (by rw [c]) (KY ⟨?_, I0⟩)
      rw [c, hd] at hb
      rw [hb]
      rfl
    · refine br_f (fun e => c ((nI_eq (by omega) (by omega)).mp e)) (KY ⟨?_, I0⟩)
      have t := hn (x % 128) (Nat.le_refl _) (by omega)
      rw [hd] at t
      rw [t]
      rfl
  · refine br_f (fun e => ?_) (KY ⟨?_, I0⟩)
    · have := nI_pos (n := x % 128) (by omega)
      rw [← e] at this
      exact this (by decide)
    · have t := hn (x % 128) (Nat.le_refl _) (by omega)
      rw [hd] at t
      rw [t]
      rfl
theorem i_vc_size {k : Nat} {u : SX} {v : SY} (I : i_Rel k u v) (hk : k + 4 ≤ 2048) (v1 : Int32) : wpX_size (fun r => wpY_size (fun r' => r' = r ∧ i_Rel (k + 4) u v) v v1) u v1 := by
  have I0 := I
  obtain ⟨tp, fo, sz, pa, da, bu, wh, ta, w, old, M, rfl, rfl, X, T⟩ := I
  unfold wpX_size
  dsimp only
  rcases rc_set v1 with hv | ⟨s, hs, rfl⟩
  · refine rc_isSet0 hv (br_t rfl ?_)
    unfold wpY_size
    dsimp only
    exact rc_Yset1 hv (br_f (by decide) ⟨rfl, I0⟩)
  · refine rc_isSet hs (br_f (by decide) (rc_total hs X ?_))
    unfold wpY_size
    dsimp only
    exact rc_Yset hs (br_t rfl (rc_many hs ⟨rfl, I0⟩))
theorem i_vc_rank {k : Nat} {u : SX} {v : SY} (I : i_Rel k u v) (hk : k + 4 ≤ 2048) (v1 : Int32) (v2 : Int32) : wpX_rank (fun r => wpY_rank (fun r' => r' = r ∧ i_Rel (k + 4) u v) v v1 v2) u v1 v2 := by
  have I0 := I
  obtain ⟨tp, fo, sz, pa, da, bu, wh, ta, w, old, M, rfl, rfl, X, T⟩ := I
  rcases rc_set v1 with hv | ⟨s, hs, rfl⟩
  · unfold wpX_rank
    dsimp only
    refine rc_isSet0 hv (br_t rfl ?_)
    unfold wpY_rank
    dsimp only
    exact rc_Yset1 hv (br_f (by decide) ⟨rfl, I0⟩)
  · exact rc_rank hs X (rc_Yrank hs ⟨rfl, I0⟩)
theorem i_vc_select {k : Nat} {u : SX} {v : SY} (I : i_Rel k u v) (hk : k + 4 ≤ 2048) (v1 : Int32) (v2 : Int32) : wpX_select (fun r => wpY_select (fun r' => r' = r ∧ i_Rel (k + 4) u v) v v1 v2) u v1 v2 := by
  have I0 := I
  obtain ⟨tp, fo, sz, pa, da, bu, wh, ta, w, old, M, rfl, rfl, X, T⟩ := I
  rcases rc_set v1 with hv | ⟨s, hs, rfl⟩
  · unfold wpX_select
    dsimp only
    refine rc_isSet0 hv (br_t rfl ?_)
    unfold wpY_select
    dsimp only
    exact rc_Yset1 hv (br_f (by decide) ⟨rfl, I0⟩)
  · exact rc_select hs X (fun r hr => rc_Yselect hs (fun r' hr' => ⟨rc_Sel_u hr hr', I0⟩))
theorem i_vc_next {k : Nat} {u : SX} {v : SY} (I : i_Rel k u v) (hk : k + 4 ≤ 2048) (v1 : Int32) (v2 : Int32) : wpX_next (fun r => wpY_next (fun r' => r' = r ∧ i_Rel (k + 4) u v) v v1 v2) u v1 v2 := by
  have I0 := I
  obtain ⟨tp, fo, sz, pa, da, bu, wh, ta, w, old, M, rfl, rfl, X, T⟩ := I
  rcases rc_set v1 with hv | ⟨s, hs, rfl⟩
  · unfold wpX_next
    dsimp only
    refine rc_isSet0 hv (br_t rfl ?_)
    unfold wpY_next
    dsimp only
    exact rc_Yset1 hv (br_f (by decide) ⟨rfl, I0⟩)
  · exact rc_next hs X (fun r hr => rc_Ynext hs (fun r' hr' => ⟨rc_Nx_u hr hr', I0⟩))
theorem i_vc_previous {k : Nat} {u : SX} {v : SY} (I : i_Rel k u v) (hk : k + 4 ≤ 2048) (v1 : Int32) (v2 : Int32) : wpX_previous (fun r => wpY_previous (fun r' => r' = r ∧ i_Rel (k + 4) u v) v v1 v2) u v1 v2 := by
  have I0 := I
  obtain ⟨tp, fo, sz, pa, da, bu, wh, ta, w, old, M, rfl, rfl, X, T⟩ := I
  rcases rc_set v1 with hv | ⟨s, hs, rfl⟩
  · unfold wpX_previous
    dsimp only
    refine rc_isSet0 hv (br_t rfl ?_)
    unfold wpY_previous
    dsimp only
    exact rc_Yset1 hv (br_f (by decide) ⟨rfl, I0⟩)
  · exact rc_previous hs X (fun r hr => rc_Yprev hs (fun r' hr' => ⟨rc_Pv_u hr hr', I0⟩))
theorem i_vc_gap {k : Nat} {u : SX} {v : SY} (I : i_Rel k u v) (hk : k + 4 ≤ 2048) (v1 : Int32) (v2 : Int32) : wpX_gap (fun r => wpY_gap (fun r' => r' = r ∧ i_Rel (k + 4) u v) v v1 v2) u v1 v2 := by
  have I0 := I
  obtain ⟨tp, fo, sz, pa, da, bu, wh, ta, w, old, M, rfl, rfl, X, T⟩ := I
  rcases rc_set v1 with hv | ⟨s, hs, rfl⟩
  · unfold wpX_gap
    dsimp only
    refine rc_isSet0 hv (br_t rfl ?_)
    unfold wpY_gap
    dsimp only
    exact rc_Yset1 hv (br_f (by decide) ⟨rfl, I0⟩)
  rcases rc_num v2 with hv | ⟨f, hf, rfl⟩
  · unfold wpX_gap
    dsimp only
    refine rc_isSet hs (br_f (by decide) (rc_isNum0 hv (br_t rfl ?_)))
    unfold wpY_gap
    dsimp only
    exact rc_Yset hs (br_t rfl (rc_Ynum1 hv (br_f (by decide) ⟨rfl, I0⟩)))
  · unfold wpX_gap
    dsimp only
    refine rc_isSet hs (br_f (by decide) (rc_isNum hf (br_f (by decide) (nm_r (rc_shr7 (by omega)) ⟨4 - f / 128 + 1, ?_⟩))))
    refine rc_gap27 hs hf X (fun r hr => ?_) (4 - f / 128) (f / 128) (by omega) f (Nat.le_refl f) (by omega) (by omega) (fun y h1 h2 => absurd h1 (by omega))
    unfold wpY_gap
    dsimp only
    refine rc_Yset hs (br_t rfl (rc_Ynum hf (br_t rfl ⟨512 - f + 1, ?_⟩)))
    exact rc_Ygap23 hs (fun r' hr' => ⟨rc_Gp_u hr hr', I0⟩) (512 - f) f (by omega) (Nat.le_refl f) (fun y h1 h2 => absurd h1 (by omega))
theorem i_vc_runs {k : Nat} {u : SX} {v : SY} (I : i_Rel k u v) (hk : k + 4 ≤ 2048) (v1 : Int32) : wpX_runs (fun r u' => wpY_runs (fun r' => r' = r ∧ i_Rel (k + 4) u' v) v v1) u v1 := by
  have I0 := I
  obtain ⟨tp, fo, sz, pa, da, bu, wh, ta, w, old, M, rfl, rfl, X, T⟩ := I
  rcases rc_set v1 with hv | ⟨s, hs, rfl⟩
  · unfold wpX_runs
    dsimp only
    refine rc_isSet0 hv (br_t rfl ?_)
    unfold wpY_runs
    dsimp only
    exact rc_Yset1 hv (br_f (by decide) ⟨rfl, I0⟩)
  · unfold wpX_runs
    dsimp only
    refine rc_isSet hs (br_f (by decide) (rc_gather hs X (fun bu' wh' hw => ?_)))
    dsimp only
    exact ⟨17, rc_runs21 hw (rc_Yruns hs ⟨rfl, rc_mk _ X T⟩) 16 0 rfl 0 (rc_Ca0 _)⟩
theorem i_vc_common {k : Nat} {u : SX} {v : SY} (I : i_Rel k u v) (hk : k + 4 ≤ 2048) (v1 : Int32) (v2 : Int32) : wpX_common (fun r u' => wpY_common (fun r' => r' = r ∧ i_Rel (k + 4) u' v) v v1 v2) u v1 v2 := by
  have I0 := I
  obtain ⟨tp, fo, sz, pa, da, bu, wh, ta, w, old, M, rfl, rfl, X, T⟩ := I
  rcases rc_set v1 with hv | ⟨a, ha, rfl⟩
  · unfold wpX_common
    dsimp only
    refine rc_isSet0 hv (br_t rfl ?_)
    unfold wpY_common
    dsimp only
    exact rc_Yset1 hv (br_f (by decide) ⟨rfl, I0⟩)
  rcases rc_set v2 with hv | ⟨t, ht, rfl⟩
  · unfold wpX_common
    dsimp only
    refine rc_isSet ha (br_f (by decide) (rc_isSet0 hv (br_t rfl ?_)))
    unfold wpY_common
    dsimp only
    exact rc_Yset ha (br_t rfl (rc_Yset1 hv (br_f (by decide) ⟨rfl, I0⟩)))
  · exact rc_common ha ht X (fun bu' => rc_Ycommon ha ht ⟨rfl, rc_mk _ X T⟩)
theorem i_vc_within {k : Nat} {u : SX} {v : SY} (I : i_Rel k u v) (hk : k + 4 ≤ 2048) (v1 : Int32) (v2 : Int32) : wpX_within (fun r u' => wpY_within (fun r' => r' = r ∧ i_Rel (k + 4) u' v) v v1 v2) u v1 v2 := by
  have I0 := I
  obtain ⟨tp, fo, sz, pa, da, bu, wh, ta, w, old, M, rfl, rfl, X, T⟩ := I
  rcases rc_set v1 with hv | ⟨a, ha, rfl⟩
  · unfold wpX_within
    dsimp only
    refine rc_isSet0 hv (br_t rfl ?_)
    unfold wpY_within
    dsimp only
    exact rc_Yset1 hv (br_f (by decide) ⟨rfl, I0⟩)
  rcases rc_set v2 with hv | ⟨t, ht, rfl⟩
  · unfold wpX_within
    dsimp only
    refine rc_isSet ha (br_f (by decide) (rc_isSet0 hv (br_t rfl ?_)))
    unfold wpY_within
    dsimp only
    exact rc_Yset ha (br_t rfl (rc_Yset1 hv (br_f (by decide) ⟨rfl, I0⟩)))
  have KY : ∀ {post : Int32 → Prop}, ((∀ x, x < 512 → rc_gs M a x = true → rc_gs M t x = true) → post 1) → (¬ (∀ x, x < 512 → rc_gs M a x = true → rc_gs M t x = true) → post 0) → wpY_within post (w, rc_yM M, old) (nI a) (nI t) := by
    intro post h1 h0
    unfold wpY_within
    dsimp only
    exact rc_Yset ha (br_t rfl (rc_Yset ht (br_t rfl ⟨513, rc_Ywithin20 ha ht h1 h0 512 0 rfl (fun y hy => absurd hy (Nat.not_lt_zero y))⟩)))
  have l1 := rc_cn_le (fun x => rc_gs M a x && rc_gs M t x) 512
  have l2 := rc_cn_le (rc_gs M a) 512
  have ii := rc_sub_i (rc_gs M a) (rc_gs M t) 512
  unfold wpX_within
  dsimp only
  refine rc_isSet ha (br_f (by decide) (rc_isSet ht (br_f (by decide) (rc_common ha ht X (fun bu' => ?_)))))
  dsimp only
  refine rc_total ha X ?_
  refine br_c (fun c => ?_) (fun c => ?_)
  · have c2 := ii.mp ((nI_eq (by omega) (by omega)).mp c)
    exact KY (fun _ => ⟨rfl, rc_mk _ X T⟩) (fun n => absurd c2 n)
  · have c2 := fun z => c ((nI_eq (by omega) (by omega)).mpr (ii.mpr z))
    exact KY (fun y => absurd y c2) (fun _ => ⟨rfl, rc_mk _ X T⟩)
theorem i_vc_same {k : Nat} {u : SX} {v : SY} (I : i_Rel k u v) (hk : k + 4 ≤ 2048) (v1 : Int32) (v2 : Int32) : wpX_same (fun r u' => wpY_same (fun r' => r' = r ∧ i_Rel (k + 4) u' v) v v1 v2) u v1 v2 := by
  have I0 := I
  obtain ⟨tp, fo, sz, pa, da, bu, wh, ta, w, old, M, rfl, rfl, X, T⟩ := I
  rcases rc_set v1 with hv | ⟨a, ha, rfl⟩
  · unfold wpX_same
    dsimp only
    refine rc_isSet0 hv (br_t rfl ?_)
    unfold wpY_same
    dsimp only
    exact rc_Yset1 hv (br_f (by decide) ⟨rfl, I0⟩)
  rcases rc_set v2 with hv | ⟨t, ht, rfl⟩
  · unfold wpX_same
    dsimp only
    refine rc_isSet ha (br_f (by decide) (rc_isSet0 hv (br_t rfl ?_)))
    unfold wpY_same
    dsimp only
    exact rc_Yset ha (br_t rfl (rc_Yset1 hv (br_f (by decide) ⟨rfl, I0⟩)))
  have KY : ∀ {post : Int32 → Prop}, ((∀ x, x < 512 → rc_gs M a x = rc_gs M t x) → post 1) → (¬ (∀ x, x < 512 → rc_gs M a x = rc_gs M t x) → post 0) → wpY_same post (w, rc_yM M, old) (nI a) (nI t) := by
    intro post h1 h0
    unfold wpY_same
    dsimp only
    exact rc_Yset ha (br_t rfl (rc_Yset ht (br_t rfl ⟨513, rc_Ysame20 ha ht h1 h0 512 0 rfl (fun y hy => absurd hy (Nat.not_lt_zero y))⟩)))
  have l1 := rc_cn_le (fun x => rc_gs M a x && rc_gs M t x) 512
  have l2 := rc_cn_le (rc_gs M a) 512
  have l3 := rc_cn_le (rc_gs M t) 512
  have ii := rc_same_i (rc_gs M a) (rc_gs M t) 512
  unfold wpX_same
  dsimp only
  refine rc_isSet ha (br_f (by decide) (rc_isSet ht (br_f (by decide) (rc_common ha ht X (fun bu' => ?_)))))
  dsimp only
  refine rc_total ha X ?_
  refine br_c (fun c => ?_) (fun c => ?_)
  · have c1 := (nI_eq (by omega) (by omega)).mp c
    refine rc_total ha X (rc_total ht X ?_)
    refine br_c (fun d => ?_) (fun d => ?_)
    · have c2 := ii.mp ⟨c1, (nI_eq (by omega) (by omega)).mp d⟩
      exact KY (fun _ => ⟨rfl, rc_mk _ X T⟩) (fun n => absurd c2 n)
    · have c2 := fun z => d ((nI_eq (by omega) (by omega)).mpr (ii.mpr z).2)
      exact KY (fun y => absurd y c2) (fun _ => ⟨rfl, rc_mk _ X T⟩)
  · have c2 := fun z => c ((nI_eq (by omega) (by omega)).mpr (ii.mpr z).1)
    exact KY (fun y => absurd y c2) (fun _ => ⟨rfl, rc_mk _ X T⟩)
end
