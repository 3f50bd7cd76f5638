section
theorem pk_us {f : Nat → Int32} {k : Nat} {x : Int32} : upd f k x k = x := if_pos rfl
theorem pk_un {f : Nat → Int32} {k j : Nat} {x : Int32} (h : j ≠ k) : upd f k x j = f j := if_neg h
theorem pk_uLs {f : Nat → Int64} {k : Nat} {x : Int64} : vp_updL f k x k = x := if_pos rfl
theorem pk_uLn {f : Nat → Int64} {k j : Nat} {x : Int64} (h : j ≠ k) : vp_updL f k x j = f j := if_neg h
theorem pk_sub {a b : Nat} (h : b ≤ a) : nI a - nI b = nI (a - b) := by
  obtain ⟨c, rfl⟩ : ∃ c, a = c + b := ⟨a - b, by omega⟩
  rw [← nI_add, Int32.add_sub_cancel, Nat.add_sub_cancel]
theorem pk_m1 (n : Nat) : nI (n + 1) + (-1) = nI n := by
  rw [← nI_1, Int32.add_assoc, show (1 : Int32) + (-1) = 0 from rfl, Int32.add_zero]
theorem pk_mul (a b : Nat) : nI a * nI b = nI (a * b) := (Int32.ofNat_mul a b).symm
theorem pk_div {a d : Nat} (ha : a < 2 ^ 31) (h0 : 0 < d) (hd : d < 2 ^ 31) : nI a / nI d = nI (a / d) := by
  apply Int32.toInt_inj.mp
  rw [lg_idiv_nonneg (by rw [nI_toInt ha]; omega) (by rw [nI_toInt hd]; omega), nI_toInt ha, nI_toInt hd, nI_toInt (Nat.lt_of_le_of_lt (Nat.div_le_self a d) ha)]
  first | rfl | exact (Int.natCast_ediv _ _).symm
theorem pk_rem {a d : Nat} (ha : a < 2 ^ 31) (h0 : 0 < d) (hd : d < 2 ^ 31) : nI a - nI a / nI d * nI d = nI (a % d) := by
  rw [pk_div ha h0 hd, pk_mul, pk_sub (Nat.div_mul_le_self a d)]
  exact congrArg nI (by have := Nat.div_add_mod' a d; omega)
theorem pk_sub_toInt {a b : Nat} (ha : a < 2 ^ 30) (hb : b < 2 ^ 30) : (nI a - nI b).toInt = (a : Int) - b := by
  rw [Int32.toInt_sub, nI_toInt (by omega), nI_toInt (by omega)]
  exact Int.bmod_eq_of_le (by omega) (by omega)
theorem pk_sneg {a b : Nat} (hb : b < 2 ^ 30) (h : a < b) : nI a - nI b < 0 := by
  rw [Int32.lt_iff_toInt_lt, pk_sub_toInt (by omega) hb, show (0 : Int32).toInt = 0 from by decide]
  omega
theorem pk_ix (x : Int32) {n : Nat} (hn : n < 2 ^ 31) : x < 0 ∨ nI n ≤ x ∨ ∃ j : Nat, j < n ∧ x = nI j := by
  by_cases h : x < 0
  · exact Or.inl h
  · obtain ⟨j, hj, rfl⟩ := nI_of h
    by_cases h2 : j < n
    · exact Or.inr (Or.inr ⟨j, h2, rfl⟩)
    · exact Or.inr (Or.inl (nI_le (by omega) hj))
theorem pk_le {x y : Int32} {A B : Prop} (a b : Nat) (f : a ≤ b → A) (g : b < a → B) (hx : x = nI a := by rfl) (hy : y = nI b := by rfl) (ha : a < 2 ^ 31 := by omega) (hb : b < 2 ^ 31 := by omega) : (x ≤ y → A) ∧ (¬ x ≤ y → B) := by
  subst hx hy
  rw [nI_leI ha hb]
  exact ⟨f, fun z => g (by omega)⟩
theorem pk_lt {x y : Int32} {A B : Prop} (a b : Nat) (f : a < b → A) (g : b ≤ a → B) (hx : x = nI a := by rfl) (hy : y = nI b := by rfl) (ha : a < 2 ^ 31 := by omega) (hb : b < 2 ^ 31 := by omega) : (x < y → A) ∧ (¬ x < y → B) := by
  subst hx hy
  rw [nI_ltI ha hb]
  exact ⟨f, fun z => g (by omega)⟩
theorem pk_eq {x y : Int32} {A B : Prop} (a b : Nat) (f : a = b → A) (g : a ≠ b → B) (hx : x = nI a := by rfl) (hy : y = nI b := by rfl) (ha : a < 2 ^ 31 := by omega) (hb : b < 2 ^ 31 := by omega) : (x = y → A) ∧ (¬ x = y → B) := by
  subst hx hy
  rw [nI_eq ha hb]
  exact ⟨f, g⟩
theorem pk_in {x : Int32} (n N : Nat) (h : n < N) (hx : x = nI n := by rfl) (hN : N < 2 ^ 31 := by omega) : vp_in x N := by
  subst hx
  exact vp_in_nI h hN
theorem pk_cl {x : Int32} (n : Nat) (hx : x = nI n := by rfl) (h : n < 2 ^ 31 := by omega) : x.toNatClampNeg = n := by
  subst hx
  exact nI_clamp h
theorem pk_tn {n : Nat} (h : n < 2 ^ 32) : (nI n).toBitVec.toNat = n := Nat.mod_eq_of_lt h
theorem pk_and (x : Int32) {m : Int32} (k : Nat) (hm : m.toBitVec.toNat = 2 ^ k - 1) : x &&& m = nI (x.toBitVec.toNat % 2 ^ k) := by
  apply Int32.toBitVec_inj.mp
  apply BitVec.eq_of_toNat_eq
  rw [Int32.toBitVec_and, BitVec.toNat_and, hm, Nat.and_two_pow_sub_one_eq_mod]
  show _ = (BitVec.ofNat 32 _).toNat
  rw [BitVec.toNat_ofNat]
  exact (Nat.mod_eq_of_lt (Nat.lt_of_le_of_lt (Nat.mod_le _ _) x.toBitVec.isLt)).symm
theorem pk_andN {n : Nat} (h : n < 2 ^ 32) {m : Int32} (k : Nat) (hm : m.toBitVec.toNat = 2 ^ k - 1) : nI n &&& m = nI (n % 2 ^ k) := by
  rw [pk_and _ k hm, pk_tn h]
theorem pk_andE (x : Int32) {m : Int32} (k : Nat) (hm : m.toBitVec.toNat = 2 ^ k - 1) : ∃ j : Nat, j < 2 ^ k ∧ x &&& m = nI j := ⟨_, Nat.mod_lt _ (Nat.two_pow_pos k), pk_and x k hm⟩
theorem pk_andIn (x : Int32) {m : Int32} (k : Nat) (hm : m.toBitVec.toNat = 2 ^ k - 1) (hk : k ≤ 30) : vp_in (x &&& m) (2 ^ k) := by
  obtain ⟨j, hj, e⟩ := pk_andE x k hm
  rw [e]
  exact vp_in_nI hj (Nat.lt_of_le_of_lt (Nat.pow_le_pow_right (by decide) hk) (by decide))
theorem pk_shl (a s : Int32) (k : Nat) (hs : (s.toBitVec.smod 32).toNat = k) : (a <<< s).toBitVec.toNat = a.toBitVec.toNat * 2 ^ k % 2 ^ 32 := by
  show (a.toBitVec <<< (s.toBitVec.smod 32).toNat).toNat = _
  rw [hs, BitVec.toNat_shiftLeft, Nat.shiftLeft_eq]
theorem pk_shlN {n : Nat} (s : Int32) (k : Nat) (hs : (s.toBitVec.smod 32).toNat = k) (h : n * 2 ^ k < 2 ^ 32) : nI n <<< s = nI (n * 2 ^ k) := by
  apply Int32.toBitVec_inj.mp
  apply BitVec.eq_of_toNat_eq
  have hn : n < 2 ^ 32 := Nat.lt_of_le_of_lt (Nat.le_mul_of_pos_right n (Nat.two_pow_pos k)) h
  rw [pk_shl _ _ k hs, pk_tn hn, pk_tn h, Nat.mod_eq_of_lt h]
theorem pk_shr (a s : Int32) (k : Nat) (hs : (s.toBitVec.smod 32).toNat = k) : (a >>> s).toInt = a.toInt >>> k := by
  show (a.toBitVec.sshiftRight (s.toBitVec.smod 32).toNat).toInt = _
  rw [hs, BitVec.toInt_sshiftRight]
  rfl
theorem pk_shrN {n : Nat} (h : n < 2 ^ 31) (s : Int32) (k : Nat) (hs : (s.toBitVec.smod 32).toNat = k) : nI n >>> s = nI (n / 2 ^ k) := by
  apply Int32.toInt_inj.mp
  have h2 : n / 2 ^ k ≤ n := Nat.div_le_self _ _
  rw [pk_shr _ _ k hs, nI_toInt h, nI_toInt (by omega), Int.shiftRight_eq_div_pow]
  rfl
theorem pk_ushr (x s : Int32) (k : Nat) (hs : ((s.toUInt32 &&& Int32.toUInt32 31).toBitVec % 32).toNat = k) : (x.toUInt32 >>> (s.toUInt32 &&& Int32.toUInt32 31)).toInt32.toBitVec.toNat = x.toBitVec.toNat / 2 ^ k := by
  have e : (x.toUInt32 >>> (s.toUInt32 &&& Int32.toUInt32 31)).toInt32.toBitVec = x.toBitVec >>> k := by
    rw [← hs]
    exact UInt32.toBitVec_shiftRight _ _
  rw [e, BitVec.toNat_ushiftRight, Nat.shiftRight_eq_div_pow]
theorem pk_ushrN {n : Nat} (hn : n < 2 ^ 32) (s : Int32) (k : Nat) (hs : ((s.toUInt32 &&& Int32.toUInt32 31).toBitVec % 32).toNat = k) : ((nI n).toUInt32 >>> (s.toUInt32 &&& Int32.toUInt32 31)).toInt32 = nI (n / 2 ^ k) := by
  apply Int32.toBitVec_inj.mp
  apply BitVec.eq_of_toNat_eq
  rw [pk_ushr _ s k hs, pk_tn hn, pk_tn (Nat.lt_of_le_of_lt (Nat.div_le_self _ _) hn)]
/-! ===== Int32 by its bits: bt x i ===== -/
def bt (x : Int32) (i : Nat) : Bool := x.toBitVec.getLsbD i
theorem b_ext {x y : Int32} (h : ∀ i, i < 32 → bt x i = bt y i) : x = y := Int32.toBitVec_inj.mp (BitVec.eq_of_getLsbD_eq (fun i hi => h i hi))
theorem b_or (x y : Int32) (i : Nat) : bt (x ||| y) i = (bt x i || bt y i) := by unfold bt; rw [Int32.toBitVec_or, BitVec.getLsbD_or]
theorem b_and (x y : Int32) (i : Nat) : bt (x &&& y) i = (bt x i && bt y i) := by unfold bt; rw [Int32.toBitVec_and, BitVec.getLsbD_and]
theorem b_xor (x y : Int32) (i : Nat) : bt (x ^^^ y) i = (bt x i ^^ bt y i) := by unfold bt; rw [Int32.toBitVec_xor, BitVec.getLsbD_xor]
theorem b_big {x : Int32} {i : Nat} (h : 32 ≤ i) : bt x i = false := BitVec.getLsbD_of_ge _ _ h
theorem b_255 (i : Nat) : bt 255 i = decide (i < 8) := by
  rcases Nat.lt_or_ge i 32 with h | h
  · exact (by decide +kernel : ∀ i, i < 32 → bt 255 i = decide (i < 8)) i h
  · rw [b_big h, decide_eq_false (by omega)]
theorem b_65535 (i : Nat) : bt 65535 i = decide (i < 16) := by
  rcases Nat.lt_or_ge i 32 with h | h
  · exact (by decide +kernel : ∀ i, i < 32 → bt 65535 i = decide (i < 16)) i h
  · rw [b_big h, decide_eq_false (by omega)]
theorem b_m1 : ∀ i, i < 32 → bt (-1) i = true := by decide +kernel
theorem b_0 (i : Nat) : bt 0 i = false := BitVec.getLsbD_zero
theorem s_l : ∀ n, n < 32 → ((nI n &&& 31).toBitVec.smod 32).toNat = n := by decide +kernel
theorem s_u : ∀ n, n < 32 → (((nI n).toUInt32 &&& Int32.toUInt32 31).toBitVec % 32).toNat = n := by decide +kernel
theorem b_shl (n : Nat) (hn : n < 32) (x : Int32) {i : Nat} (hi : i < 32) : bt (x <<< (nI n &&& 31)) i = (decide (n ≤ i) && bt x (i - n)) := by
  unfold bt
  rw [Int32.toBitVec_shiftLeft]
  show (x.toBitVec <<< ((nI n &&& 31).toBitVec.smod 32).toNat).getLsbD i = _
  rw [s_l n hn, BitVec.getLsbD_shiftLeft]
  rcases Nat.lt_or_ge i n with h | h
  · simp [h, Nat.not_le.mpr h]
  · simp [hi, h, Nat.not_lt.mpr h]
theorem b_ushr (n : Nat) (hn : n < 32) (x : Int32) (i : Nat) : bt ((x.toUInt32 >>> ((nI n).toUInt32 &&& Int32.toUInt32 31)).toInt32) i = bt x (n + i) := by
  show (x.toUInt32 >>> ((nI n).toUInt32 &&& Int32.toUInt32 31)).toBitVec.getLsbD i = x.toUInt32.toBitVec.getLsbD (n + i)
  rw [UInt32.toBitVec_shiftRight]
  show (x.toUInt32.toBitVec >>> (((nI n).toUInt32 &&& Int32.toUInt32 31).toBitVec % 32).toNat).getLsbD i = _
  rw [s_u n hn, BitVec.getLsbD_ushiftRight]
theorem b_sshr (n : Nat) (hn : n < 32) (x : Int32) {i : Nat} (hi : i < 32) : bt (x >>> (nI n &&& 31)) i = if n + i < 32 then bt x (n + i) else bt x 31 := by
  unfold bt
  rw [Int32.toBitVec_shiftRight]
  show (x.toBitVec.sshiftRight ((nI n &&& 31).toBitVec.smod 32).toNat).getLsbD i = _
  rw [s_l n hn, BitVec.getLsbD_sshiftRight, BitVec.msb_eq_getLsbD_last]
  simp [hi]
theorem b_shl8 (x : Int32) {i : Nat} (hi : i < 32) : bt (x <<< ((8 : Int32) &&& 31)) i = (decide (8 ≤ i) && bt x (i - 8)) := b_shl 8 (by omega) x hi
theorem b_shl16 (x : Int32) {i : Nat} (hi : i < 32) : bt (x <<< ((16 : Int32) &&& 31)) i = (decide (16 ≤ i) && bt x (i - 16)) := b_shl 16 (by omega) x hi
theorem b_shl24 (x : Int32) {i : Nat} (hi : i < 32) : bt (x <<< ((24 : Int32) &&& 31)) i = (decide (24 ≤ i) && bt x (i - 24)) := b_shl 24 (by omega) x hi
theorem b_sshr8 (x : Int32) {i : Nat} (hi : i < 32) : bt (x >>> ((8 : Int32) &&& 31)) i = if 8 + i < 32 then bt x (8 + i) else bt x 31 := b_sshr 8 (by omega) x hi
/-! ===== nI under and, xor, >>>, one bit, 65535 ===== -/
theorem nx_and (a b : Nat) : nI a &&& nI b = nI (a &&& b) := by
  apply Int32.toBitVec_inj.1
  show BitVec.ofNat 32 a &&& BitVec.ofNat 32 b = BitVec.ofNat 32 (a &&& b)
  apply BitVec.eq_of_getLsbD_eq
  intro i hi
  simp [hi]
theorem nx_xor (a b : Nat) : nI a ^^^ nI b = nI (a ^^^ b) := by
  apply Int32.toBitVec_inj.1
  show BitVec.ofNat 32 a ^^^ BitVec.ofNat 32 b = BitVec.ofNat 32 (a ^^^ b)
  apply BitVec.eq_of_getLsbD_eq
  intro i hi
  simp [hi]
theorem nx_cnt : ∀ j : Fin 32, (UInt32.ofNat j.val &&& Int32.toUInt32 31).toNat % 32 = j.val := by decide +kernel
theorem nx_ush {k j : Nat} (hk : k < 65536) (hj : j < 32) : ((nI k).toUInt32 >>> ((nI j).toUInt32 &&& Int32.toUInt32 31)).toInt32 = nI (k >>> j) := by
  have hs : k >>> j ≤ k := by
    rw [Nat.shiftRight_eq_div_pow]
    exact Nat.div_le_self _ _
  have e2 : UInt32.ofNat k >>> (UInt32.ofNat j &&& Int32.toUInt32 31) = UInt32.ofNat (k >>> j) := by
    apply UInt32.toNat_inj.1
    have h1 : (UInt32.ofNat k).toNat = k := Nat.mod_eq_of_lt (by omega)
    have h2 : (UInt32.ofNat (k >>> j)).toNat = k >>> j := Nat.mod_eq_of_lt (by omega)
    rw [UInt32.toNat_shiftRight, nx_cnt ⟨j, hj⟩, h1, h2]
  show (UInt32.ofNat k >>> (UInt32.ofNat j &&& Int32.toUInt32 31)).toInt32 = _
  rw [e2]
  rfl
theorem nx_bit {k j : Nat} (hk : k < 65536) (hj : j < 16) : (((nI k).toUInt32 >>> ((nI j).toUInt32 &&& Int32.toUInt32 31)).toInt32 &&& 1) = 0 ↔ k.testBit j = false := by
  rw [nx_ush hk (by omega)]
  show nI (k >>> j) &&& nI 1 = 0 ↔ _
  rw [nx_and, Nat.and_one_is_mod, ← nI_0, nI_eq (by omega) (by omega), Nat.testBit_eq_decide_div_mod_eq, Nat.shiftRight_eq_div_pow, decide_eq_false_iff_not]
  generalize k / 2 ^ j = z
  omega
theorem nx_mod (k : Nat) : nI k &&& 65535 = nI (k % 65536) := by
  show nI k &&& nI 65535 = _
  rw [nx_and, show (65535 : Nat) = 2 ^ 16 - 1 from rfl, Nat.and_two_pow_sub_one_eq_mod]
theorem nx_m16 {k : Nat} (h : k < 65536) : nI k &&& 65535 = nI k := by rw [nx_mod, Nat.mod_eq_of_lt h]
theorem nx_mask (x : Int32) : ∃ k, k < 65536 ∧ x &&& 65535 = nI k := by
  have e : x = nI x.toBitVec.toNat := by
    apply Int32.toBitVec_inj.1
    show x.toBitVec = BitVec.ofNat 32 x.toBitVec.toNat
    simp
  refine ⟨x.toBitVec.toNat % 65536, Nat.mod_lt _ (by omega), ?_⟩
  rw [← nx_mod, ← e]
/-! ===== Int32 as a set of bits: test, set ===== -/
def nf_M (m : Int32) : Nat := 4294967296 - m.toBitVec.toNat
theorem nf_sh : ∀ l, l < 32 → ((1 : Int32) <<< (nI l &&& 31)).toBitVec = BitVec.twoPow 32 l := by decide +kernel
theorem nf_sl : ∀ l, l < 32 → (((nI l).toUInt32 &&& Int32.toUInt32 31).toBitVec % 32).toNat = l := by decide +kernel
theorem nf_tp : ∀ l, l < 32 → BitVec.twoPow 32 l ≠ 0#32 := by decide +kernel
theorem nf_bit (m : Int32) (l : Nat) (hl : l < 32) : ((m.toUInt32 >>> ((nI l).toUInt32 &&& Int32.toUInt32 31)).toInt32 &&& 1) = 0 ↔ (m &&& ((1 : Int32) <<< (nI l &&& 31))) = 0 := by
  have e : ((m.toUInt32 >>> ((nI l).toUInt32 &&& Int32.toUInt32 31)).toInt32).toBitVec = m.toBitVec >>> l := by
    show m.toBitVec >>> (((nI l).toUInt32 &&& Int32.toUInt32 31).toBitVec % 32) = m.toBitVec >>> l
    rw [BitVec.ushiftRight_eq', nf_sl l hl]
  rw [← Int32.toBitVec_inj, ← Int32.toBitVec_inj, Int32.toBitVec_and, Int32.toBitVec_and, nf_sh l hl, e, BitVec.and_twoPow]
  show (m.toBitVec >>> l &&& 1#32) = 0#32 ↔ _ = 0#32
  rw [BitVec.and_one_eq_setWidth_ofBool_getLsbD, BitVec.getLsbD_ushiftRight, Nat.add_zero]
  cases hb : m.toBitVec.getLsbD l
  · exact ⟨fun _ => by simp, fun _ => by decide⟩
  · exact ⟨fun z => absurd z (by decide), fun z => absurd ((if_pos rfl).symm.trans z) (nf_tp l hl)⟩
theorem nf_gr (m k : Int32) (h : m &&& k = 0) (hk : k ≠ 0) : nf_M (m ||| k) < nf_M m := by
  have hm := m.toBitVec.isLt
  have hm' := (m ||| k).toBitVec.isLt
  have h1 : m.toBitVec.toNat ≤ (m ||| k).toBitVec.toNat := by
    rw [Int32.toBitVec_or, BitVec.toNat_or]
    exact Nat.left_le_or
  have h2 : m.toBitVec.toNat ≠ (m ||| k).toBitVec.toNat := by
    intro e
    have e2 : m = m ||| k := Int32.toBitVec_inj.mp (BitVec.eq_of_toNat_eq e)
    apply hk
    apply Int32.toBitVec_inj.mp
    show k.toBitVec = 0#32
    apply BitVec.eq_of_getLsbD_eq
    intro i hi
    have a : m.toBitVec.getLsbD i = (m.toBitVec.getLsbD i || k.toBitVec.getLsbD i) := by rw [← BitVec.getLsbD_or, ← Int32.toBitVec_or, ← e2]
    have b : (m.toBitVec.getLsbD i && k.toBitVec.getLsbD i) = false := by
      rw [← BitVec.getLsbD_and, ← Int32.toBitVec_and, h]
      exact BitVec.getLsbD_zero
    rw [BitVec.getLsbD_zero]
    revert a b
    cases m.toBitVec.getLsbD i <;> cases k.toBitVec.getLsbD i <;> simp
  unfold nf_M
  omega
theorem pk_least (P : Nat → Prop) (h : ∃ k, P k) : ∃ k, P k ∧ ∀ j, j < k → ¬ P j := by
  obtain ⟨k, hk⟩ := h
  induction k using Nat.strongRecOn with
  | ind k ih =>
    by_cases e : ∃ j, j < k ∧ P j
    · obtain ⟨j, hj, pj⟩ := e
      exact ih j hj pj
    · exact ⟨k, hk, fun j hj pj => e ⟨j, hj, pj⟩⟩
end
section
/-! integers: masks, shifts, the PC, the flags -/
theorem ia_mono {x : Int32} {a b : Nat} (h : vp_in x a) (hab : a ≤ b) : vp_in x b := by
  rw [vp_in_iff] at h ⊢
  omega
theorem ia_7 (x : Int32) : vp_in (x &&& 7) 16 := ia_mono (pk_andIn x 3 (by decide) (by decide)) (by decide)
theorem ia_78 (x : Int32) : vp_in (x &&& 7) 8 := pk_andIn x 3 (by decide) (by decide)
theorem ia_15 (x : Int32) : vp_in (x &&& 15) 16 := pk_andIn x 4 (by decide) (by decide)
theorem ia_63 (x : Int32) : vp_in (x &&& 63) 64 := pk_andIn x 6 (by decide) (by decide)
theorem ia_127 (x : Int32) : vp_in (x &&& 127) 128 := pk_andIn x 7 (by decide) (by decide)
theorem ia_3 (x : Int32) : vp_in (x &&& 3) 4 := pk_andIn x 2 (by decide) (by decide)
theorem dx_of (x : Int32) : x = nI x.toBitVec.toNat := by
  apply Int32.toBitVec_inj.1
  show x.toBitVec = BitVec.ofNat 32 x.toBitVec.toNat
  simp
theorem dx_ex (x : Int32) : ∃ n, n < 4294967296 ∧ x = nI n := ⟨x.toBitVec.toNat, x.toBitVec.isLt, dx_of x⟩
theorem dx_tn (a : Nat) : (nI a).toBitVec.toNat = a % 4294967296 := rfl
theorem dx_mod (a : Nat) : nI a = nI (a % 4294967296) := by
  have h := dx_of (nI a)
  rw [dx_tn] at h
  exact h
theorem dx_inj {a b : Nat} (h : a % 4294967296 = b % 4294967296) : nI a = nI b := by rw [dx_mod a, dx_mod b, h]
theorem da_1 {n : Nat} (h : n < 65536) : nI n &&& 1 = nI (n % 2) := pk_andN (by omega) 1 (by decide)
theorem da_3 {n : Nat} (h : n < 65536) : nI n &&& 3 = nI (n % 4) := pk_andN (by omega) 2 (by decide)
theorem da_7 {n : Nat} (h : n < 65536) : nI n &&& 7 = nI (n % 8) := pk_andN (by omega) 3 (by decide)
theorem da_15 {n : Nat} (h : n < 65536) : nI n &&& 15 = nI (n % 16) := pk_andN (by omega) 4 (by decide)
theorem da_31 {n : Nat} (h : n < 65536) : nI n &&& 31 = nI (n % 32) := pk_andN (by omega) 5 (by decide)
theorem da_63 {n : Nat} (h : n < 65536) : nI n &&& 63 = nI (n % 64) := pk_andN (by omega) 6 (by decide)
theorem da_127 {n : Nat} (h : n < 65536) : nI n &&& 127 = nI (n % 128) := pk_andN (by omega) 7 (by decide)
theorem da_255 {n : Nat} (h : n < 65536) : nI n &&& 255 = nI (n % 256) := pk_andN (by omega) 8 (by decide)
theorem da_511 {n : Nat} (h : n < 65536) : nI n &&& 511 = nI (n % 512) := pk_andN (by omega) 9 (by decide)
theorem du_1 {n : Nat} (h : n < 65536) : ((nI n).toUInt32 >>> ((1 : Int32).toUInt32 &&& Int32.toUInt32 31)).toInt32 = nI (n / 2) := pk_ushrN (by omega) 1 1 (by decide)
theorem du_3 {n : Nat} (h : n < 65536) : ((nI n).toUInt32 >>> ((3 : Int32).toUInt32 &&& Int32.toUInt32 31)).toInt32 = nI (n / 8) := pk_ushrN (by omega) 3 3 (by decide)
theorem du_4 {n : Nat} (h : n < 65536) : ((nI n).toUInt32 >>> ((4 : Int32).toUInt32 &&& Int32.toUInt32 31)).toInt32 = nI (n / 16) := pk_ushrN (by omega) 4 4 (by decide)
theorem du_6 {n : Nat} (h : n < 65536) : ((nI n).toUInt32 >>> ((6 : Int32).toUInt32 &&& Int32.toUInt32 31)).toInt32 = nI (n / 64) := pk_ushrN (by omega) 6 6 (by decide)
theorem du_8 {n : Nat} (h : n < 65536) : ((nI n).toUInt32 >>> ((8 : Int32).toUInt32 &&& Int32.toUInt32 31)).toInt32 = nI (n / 256) := pk_ushrN (by omega) 8 8 (by decide)
theorem du_11 {n : Nat} (h : n < 65536) : ((nI n).toUInt32 >>> ((11 : Int32).toUInt32 &&& Int32.toUInt32 31)).toInt32 = nI (n / 2048) := pk_ushrN (by omega) 11 11 (by decide)
theorem du_12 {n : Nat} (h : n < 65536) : ((nI n).toUInt32 >>> ((12 : Int32).toUInt32 &&& Int32.toUInt32 31)).toInt32 = nI (n / 4096) := pk_ushrN (by omega) 12 12 (by decide)
theorem ds_1 {n : Nat} (h : n < 65536) : nI n >>> ((1 : Int32) &&& 31) = nI (n / 2) := pk_shrN (by omega) _ 1 (by decide)
theorem ds_3 {n : Nat} (h : n < 65536) : nI n >>> ((3 : Int32) &&& 31) = nI (n / 8) := pk_shrN (by omega) _ 3 (by decide)
theorem ds_4 {n : Nat} (h : n < 65536) : nI n >>> ((4 : Int32) &&& 31) = nI (n / 16) := pk_shrN (by omega) _ 4 (by decide)
theorem ds_6 {n : Nat} (h : n < 65536) : nI n >>> ((6 : Int32) &&& 31) = nI (n / 64) := pk_shrN (by omega) _ 6 (by decide)
theorem ds_8 {n : Nat} (h : n < 65536) : nI n >>> ((8 : Int32) &&& 31) = nI (n / 256) := pk_shrN (by omega) _ 8 (by decide)
theorem ds_12 {n : Nat} (h : n < 65536) : nI n >>> ((12 : Int32) &&& 31) = nI (n / 4096) := pk_shrN (by omega) _ 12 (by decide)
theorem db_u {n k : Nat} (h : n < 65536) (hk : k < 32) : ((nI n).toUInt32 >>> ((nI k).toUInt32 &&& Int32.toUInt32 31)).toInt32 &&& 1 = nI (n / 2 ^ k % 2) := by
  rw [pk_ushrN (by omega) _ k (s_u k hk)]
  exact da_1 (Nat.lt_of_le_of_lt (Nat.div_le_self _ _) h)
theorem db_s {n k : Nat} (h : n < 65536) (hk : k < 32) : (nI n >>> (nI k &&& 31)) &&& 1 = nI (n / 2 ^ k % 2) := by
  rw [pk_shrN (by omega) _ k (s_l k hk)]
  exact da_1 (Nat.lt_of_le_of_lt (Nat.div_le_self _ _) h)
theorem dm_bit {n : Nat} (h : n < 65536) (l : Nat) (hl : l < 16) {c : Int32} (hc : (1 : Int32) <<< (nI l &&& 31) = c) : nI n &&& c = 0 ↔ n / 2 ^ l % 2 = 0 := by
  have e := nf_bit (nI n) l (by omega)
  rw [db_u h (by omega), hc] at e
  rw [← e, ← nI_0, nI_eq (by omega) (by omega)]
theorem dm_512 {n : Nat} (h : n < 65536) : nI n &&& 512 = 0 ↔ n / 512 % 2 = 0 := dm_bit h 9 (by decide) (by decide)
theorem dm_1024 {n : Nat} (h : n < 65536) : nI n &&& 1024 = 0 ↔ n / 1024 % 2 = 0 := dm_bit h 10 (by decide) (by decide)
theorem dm_2048 {n : Nat} (h : n < 65536) : nI n &&& 2048 = 0 ↔ n / 2048 % 2 = 0 := dm_bit h 11 (by decide) (by decide)
theorem dm_256 {n : Nat} (h : n < 65536) : nI n &&& 256 = 0 ↔ n / 256 % 2 = 0 := dm_bit h 8 (by decide) (by decide)
theorem dn_hi {m w s c : Nat} (h : m < 2 ^ w) (hc : ∀ i, i < w → c.testBit i = decide (s ≤ i)) : m &&& c = m / 2 ^ s * 2 ^ s := by
  rw [← Nat.shiftRight_eq_div_pow, ← Nat.shiftLeft_eq]
  apply Nat.eq_of_testBit_eq
  intro i
  rw [Nat.testBit_and, Nat.testBit_shiftLeft, Nat.testBit_shiftRight]
  rcases Nat.lt_or_ge i w with hi | hi
  · rw [hc i hi]
    by_cases hs : s ≤ i
    · rw [Nat.add_sub_cancel' hs]
      simp [hs]
    · simp [hs]
  · have z : m.testBit i = false := Nat.testBit_lt_two_pow (Nat.lt_of_lt_of_le h (Nat.pow_le_pow_right (by decide) hi))
    by_cases hs : s ≤ i
    · rw [Nat.add_sub_cancel' hs, z]
      simp
    · rw [z]
      simp [hs]
theorem dm_fe00 {n : Nat} (h : n < 65536) : nI n &&& 65024 = nI (n / 512 * 512) := by
  show nI n &&& nI 65024 = _
  rw [nx_and, dn_hi (w := 16) (s := 9) h (by decide)]
theorem dm_fff0 {n : Nat} (h : n < 65536) : nI n &&& 65520 = nI (n / 16 * 16) := by
  show nI n &&& nI 65520 = _
  rw [nx_and, dn_hi (w := 16) (s := 4) h (by decide)]
theorem dx_254 (a : Nat) : nI a &&& 254 = nI (a % 256 / 2 * 2) := by
  show nI a &&& nI 254 = _
  have e : a &&& 254 = (a &&& 255) &&& 254 := by rw [Nat.and_assoc]; rfl
  rw [nx_and, e, show (255 : Nat) = 2 ^ 8 - 1 from rfl, Nat.and_two_pow_sub_one_eq_mod, dn_hi (w := 8) (s := 1) (Nat.mod_lt _ (by decide)) (by decide)]
theorem dx_m4 (a b : Nat) : nI a * nI b = nI (a * b) := pk_mul a b
theorem pc_4 (x : Int32) : (((x + 2) &&& 254) + 2) &&& 254 = (x + 4) &&& 254 := by
  obtain ⟨a, ha, rfl⟩ := dx_ex x
  show ((nI a + nI 2 &&& 254) + nI 2) &&& 254 = (nI a + nI 4) &&& 254
  rw [nI_add, nI_add, dx_254, nI_add, dx_254, dx_254]
  exact congrArg nI (by omega)
theorem pc_b (x t : Int32) : ((((x + 2) &&& 254) + 2) + 2 * t) &&& 254 = (x + (4 + 2 * t)) &&& 254 := by
  obtain ⟨a, ha, rfl⟩ := dx_ex x
  obtain ⟨b, hb, rfl⟩ := dx_ex t
  show ((nI a + nI 2 &&& 254) + nI 2 + nI 2 * nI b) &&& 254 = (nI a + (nI 4 + nI 2 * nI b)) &&& 254
  rw [nI_add, pk_mul, nI_add, nI_add, dx_254, nI_add, nI_add, dx_254, dx_254]
  exact congrArg nI (by omega)
theorem bb_sshr1 (x : Int32) {i : Nat} (hi : i < 32) : bt (x >>> ((1 : Int32) &&& 31)) i = if 1 + i < 32 then bt x (1 + i) else bt x 31 := b_sshr 1 (by omega) x hi
theorem bb_ushr1 (x : Int32) (i : Nat) : bt ((x.toUInt32 >>> ((1 : Int32).toUInt32 &&& Int32.toUInt32 31)).toInt32) i = bt x (1 + i) := b_ushr 1 (by omega) x i
theorem bb_127 : ∀ i, i < 32 → bt 127 i = decide (i < 7) := by decide +kernel
theorem pc_ix (x : Int32) : (x >>> ((1 : Int32) &&& 31)) &&& 127 = ((x.toUInt32 >>> ((1 : Int32).toUInt32 &&& Int32.toUInt32 31)).toInt32) &&& 127 := by
  apply b_ext
  intro i hi
  rw [b_and, b_and, bb_sshr1 x hi, bb_ushr1, bb_127 i hi]
  by_cases h : i < 7
  · rw [if_pos (by omega)]
  · simp [h]
theorem pc_sp (x : Int32) : ∃ q : Nat, q < 128 ∧ ((x &&& 254).toUInt32 >>> ((1 : Int32).toUInt32 &&& Int32.toUInt32 31)).toInt32 = nI q ∧ ((x &&& 254) >>> ((1 : Int32) &&& 31)) &&& 127 = nI q := by
  obtain ⟨a, ha, rfl⟩ := dx_ex x
  refine ⟨a % 256 / 2 * 2 / 2, by omega, ?_, ?_⟩
  · rw [dx_254, du_1 (by omega)]
  · rw [dx_254, ds_1 (by omega), da_127 (by omega)]
    exact congrArg nI (by omega)
theorem bo_8t : ∀ b, b < 256 → (nI b <<< ((24 : Int32) &&& 31)) >>> ((23 : Int32) &&& 31) = 2 * (if b < 128 then nI b else nI b - 256) := by decide +kernel
theorem bo_8 {n : Nat} (h : n < 65536) : (nI n <<< ((24 : Int32) &&& 31)) >>> ((23 : Int32) &&& 31) = 2 * (if n % 256 < 128 then nI (n % 256) else nI (n % 256) - 256) := by
  rw [← bo_8t (n % 256) (Nat.mod_lt _ (by decide))]
  refine congrArg (fun z : Int32 => z >>> ((23 : Int32) &&& 31)) ?_
  apply Int32.toBitVec_inj.mp
  apply BitVec.eq_of_toNat_eq
  rw [pk_shl _ _ 24 (by decide), pk_shl _ _ 24 (by decide), dx_tn, dx_tn]
  omega
theorem bo_11t : ∀ b, b < 2048 → (nI b <<< ((21 : Int32) &&& 31)) >>> ((20 : Int32) &&& 31) = 2 * ((nI b <<< ((21 : Int32) &&& 31)) >>> ((21 : Int32) &&& 31)) := by decide +kernel
theorem bo_11 {n : Nat} (h : n < 65536) : (nI n <<< ((21 : Int32) &&& 31)) >>> ((20 : Int32) &&& 31) = 2 * ((nI n <<< ((21 : Int32) &&& 31)) >>> ((21 : Int32) &&& 31)) := by
  have e : nI n <<< ((21 : Int32) &&& 31) = nI (n % 2048) <<< ((21 : Int32) &&& 31) := by
    apply Int32.toBitVec_inj.mp
    apply BitVec.eq_of_toNat_eq
    rw [pk_shl _ _ 21 (by decide), pk_shl _ _ 21 (by decide), dx_tn, dx_tn]
    omega
  rw [e]
  exact bo_11t _ (Nat.mod_lt _ (by decide))
end
section
/-! flags: the shift's, the sums' -/
theorem bb_shl29 (x : Int32) {i : Nat} (hi : i < 32) : bt (x <<< ((29 : Int32) &&& 31)) i = (decide (29 ≤ i) && bt x (i - 29)) := b_shl 29 (by omega) x hi
theorem fl_t0 : ∀ i, i < 28 → bt 805306368 i = false ∧ bt (-2147483648) i = false ∧ bt (-805306368) i = false ∧ bt 1073741824 i = false := by decide +kernel
theorem fl_lsl (f v z c : Int32) (hz : z = 0 ∨ z = 1073741824) : ((((f &&& 805306368) ||| (v &&& (-2147483648))) ||| z) &&& (-805306368)) ||| ((c &&& 1) <<< ((29 : Int32) &&& 31)) = ((((f &&& (-536870913)) ||| ((c &&& 1) <<< ((29 : Int32) &&& 31))) &&& 805306368) ||| (v &&& (-2147483648))) ||| z := by
  apply b_ext
  intro i hi
  rw [b_or, b_and, b_or, b_or, b_and, b_and, b_or, b_or, b_and, b_and, b_or, b_and, bb_shl29 _ hi]
  rcases (by omega : i < 28 ∨ i = 28 ∨ i = 29 ∨ i = 30 ∨ i = 31) with h | h | h | h | h
  · obtain ⟨h1, h2, h3, h4⟩ := fl_t0 i h
    have h5 : decide (29 ≤ i) = false := decide_eq_false (by omega)
    have h6 : bt z i = false := by
      rcases hz with rfl | rfl
      · exact b_0 i
      · exact h4
    rw [h1, h2, h3, h5, h6]
    simp
  · subst h
    have h6 : bt z 28 = false := by
      rcases hz with rfl | rfl <;> decide
    rw [show bt 805306368 28 = true from by decide, show bt (-2147483648) 28 = false from by decide, show bt (-805306368) 28 = true from by decide, show bt (-536870913) 28 = true from by decide, h6]
    simp
  · subst h
    have h6 : bt z 29 = false := by
      rcases hz with rfl | rfl <;> decide
    rw [show bt 805306368 29 = true from by decide, show bt (-2147483648) 29 = false from by decide, show bt (-805306368) 29 = false from by decide, show bt (-536870913) 29 = false from by decide, h6]
    simp
  · subst h
    rw [b_and, show bt 805306368 30 = false from by decide, show bt (-2147483648) 30 = false from by decide, show bt (-805306368) 30 = true from by decide, show bt (-536870913) 30 = true from by decide, show bt 1 (30 - 29) = false from by decide]
    simp
  · subst h
    have h6 : bt z 31 = false := by
      rcases hz with rfl | rfl <;> decide
    rw [b_and, show bt 805306368 31 = false from by decide, show bt (-2147483648) 31 = true from by decide, show bt (-805306368) 31 = true from by decide, show bt (-536870913) 31 = true from by decide, show bt 1 (31 - 29) = false from by decide, h6]
    simp
theorem fx_xor {a : Nat} (h : a < 4294967296) : a ^^^ 2147483648 = (a + 2147483648) % 4294967296 := by
  show a ^^^ 2 ^ 31 = _
  have h1 : (a ^^^ 2 ^ 31) % 2 ^ 31 = a % 2 ^ 31 := by rw [Nat.xor_mod_two_pow, Nat.mod_self, Nat.xor_zero]
  have h2 : (a ^^^ 2 ^ 31) / 2 ^ 31 = (a / 2 ^ 31) ^^^ 1 := by rw [Nat.xor_div_two_pow, Nat.div_self (Nat.two_pow_pos 31)]
  have h3 : a / 2 ^ 31 = 0 ∨ a / 2 ^ 31 = 1 := by omega
  generalize a ^^^ 2 ^ 31 = t at h1 h2
  rcases h3 with h3 | h3
  · rw [h3] at h2
    have h2 : t / 2 ^ 31 = 1 := h2
    omega
  · rw [h3] at h2
    have h2 : t / 2 ^ 31 = 0 := h2
    omega
theorem fx_ti {n : Nat} (h : n < 4294967296) : (nI n).toInt = if n < 2147483648 then (n : Int) else (n : Int) - 4294967296 := by
  show (BitVec.ofNat 32 n).toInt = _
  rw [BitVec.toInt_eq_toNat_cond, BitVec.toNat_ofNat, Nat.mod_eq_of_lt h]
  by_cases g : n < 2147483648
  · rw [if_pos (by omega), if_pos g]
  · rw [if_neg (by omega), if_neg g]
    rfl
theorem fx_min {n : Nat} (h : n < 4294967296) : (nI n ^^^ (-2147483648)).toInt = (n : Int) - 2147483648 := by
  show (nI n ^^^ nI 2147483648).toInt = _
  rw [nx_xor, fx_xor h, fx_ti (by omega)]
  by_cases g : n < 2147483648
  · rw [if_neg (by omega)]
    omega
  · rw [if_pos (by omega)]
    omega
theorem fx_le {a b : Nat} (ha : a < 4294967296) (hb : b < 4294967296) : (nI a ^^^ (-2147483648)) ≤ (nI b ^^^ (-2147483648)) ↔ a ≤ b := by
  rw [Int32.le_iff_toInt_le, fx_min ha, fx_min hb]
  omega
theorem fx_lt {a b : Nat} (ha : a < 4294967296) (hb : b < 4294967296) : (nI a ^^^ (-2147483648)) < (nI b ^^^ (-2147483648)) ↔ a < b := by
  rw [Int32.lt_iff_toInt_lt, fx_min ha, fx_min hb]
  omega
theorem fx_64 {a : Nat} (ha : a < 4294967296) : (nI a).toInt64 &&& 4294967295 = lN a := by
  apply Int64.toBitVec_inj.mp
  apply BitVec.eq_of_toNat_eq
  rw [Int64.toBitVec_and, BitVec.toNat_and, Int32.toBitVec_toInt64, BitVec.toNat_signExtend]
  show _ &&& 4294967295 = (BitVec.ofNat 64 a).toNat
  rw [BitVec.toNat_ofNat, BitVec.toNat_setWidth, dx_tn, show (4294967295 : Nat) = 2 ^ 32 - 1 from rfl, Nat.and_two_pow_sub_one_eq_mod]
  split <;> omega
theorem fx_L {a b : Nat} (ha : a < 8589934592) (hb : b < 8589934592) : lN a ≤ lN b ↔ a ≤ b := by
  rw [Int64.le_iff_toInt_le, show (lN a).toInt = (a : Int) from lg_ofNat_toInt (by omega), show (lN b).toInt = (b : Int) from lg_ofNat_toInt (by omega)]
  omega
theorem fx_l {a b : Nat} (ha : a < 8589934592) (hb : b < 8589934592) : lN a < lN b ↔ a < b := by
  rw [Int64.lt_iff_toInt_lt, show (lN a).toInt = (a : Int) from lg_ofNat_toInt (by omega), show (lN b).toInt = (b : Int) from lg_ofNat_toInt (by omega)]
  omega
theorem fa_carry (a b : Int32) : (a ^^^ (-2147483648)) ≤ ((a + b) ^^^ (-2147483648)) ↔ (a.toInt64 &&& 4294967295) + (b.toInt64 &&& 4294967295) ≤ 4294967295 := by
  obtain ⟨p, hp, rfl⟩ := dx_ex a
  obtain ⟨q, hq, rfl⟩ := dx_ex b
  rw [nI_add, dx_mod (p + q), fx_le hp (by omega), fx_64 hp, fx_64 hq, lN_add]
  show _ ↔ lN (p + q) ≤ lN 4294967295
  rw [fx_L (by omega) (by omega)]
  omega
theorem fs_carry (a b : Int32) : (a ^^^ (-2147483648)) < (b ^^^ (-2147483648)) ↔ (a.toInt64 &&& 4294967295) < (b.toInt64 &&& 4294967295) := by
  obtain ⟨p, hp, rfl⟩ := dx_ex a
  obtain ⟨q, hq, rfl⟩ := dx_ex b
  rw [fx_lt hp hq, fx_64 hp, fx_64 hq, fx_l (by omega) (by omega)]
theorem fx_sg (x : Int32) : 0 ≤ x ↔ bt x 31 = false := by
  rw [Int32.le_iff_toInt_le, show (0 : Int32).toInt = 0 from by decide]
  have e : bt x 31 = decide (x.toInt < 0) := by
    show x.toBitVec.getLsbD 31 = _
    rw [← show x.toBitVec.msb = x.toBitVec.getLsbD 31 from BitVec.msb_eq_getLsbD_last _]
    exact BitVec.msb_eq_toInt
  rw [e, decide_eq_false_iff_not]
  omega
theorem fx_b (x : Int32) : bt x 31 = decide (x.toInt < 0) := by
  show x.toBitVec.getLsbD 31 = _
  rw [← show x.toBitVec.msb = x.toBitVec.getLsbD 31 from BitVec.msb_eq_getLsbD_last _]
  exact BitVec.msb_eq_toInt
theorem fx_up (x : Int32) : x.toInt64.toInt = x.toInt := Int32.toInt_toInt64 x
theorem fa_r (a b : Int32) : (a.toInt64 + b.toInt64).toInt32 = a + b := by
  apply Int32.toInt_inj.mp
  rw [Int64.toInt_toInt32, Int64.toInt_add, fx_up, fx_up, Int32.toInt_add]
  have h1 := a.le_toInt
  have h2 := a.toInt_lt
  have h3 := b.le_toInt
  have h4 := b.toInt_lt
  rw [Int.bmod_eq_of_le (n := a.toInt + b.toInt) (m := 2 ^ 64) (by omega) (by omega)]
theorem fs_r (a b : Int32) : (a.toInt64 - b.toInt64).toInt32 = a - b := by
  apply Int32.toInt_inj.mp
  rw [Int64.toInt_toInt32, Int64.toInt_sub, fx_up, fx_up, Int32.toInt_sub]
  have h1 := a.le_toInt
  have h2 := a.toInt_lt
  have h3 := b.le_toInt
  have h4 := b.toInt_lt
  rw [Int.bmod_eq_of_le (n := a.toInt - b.toInt) (m := 2 ^ 64) (by omega) (by omega)]
theorem fx_pl {A B S : Int} (h1 : -2147483648 ≤ A) (h2 : A < 2147483648) (h3 : -2147483648 ≤ B) (h4 : B < 2147483648) (hS : S = Int.bmod (A + B) 4294967296) : ((decide (A < 0) ^^ decide (S < 0)) && (decide (B < 0) ^^ decide (S < 0))) = false ↔ A + B = S := by
  have hS' : S = A + B ∨ S = A + B - 4294967296 ∨ S = A + B + 4294967296 := by
    rw [hS, Int.bmod_def]
    split <;> omega
  have hb1 : -2147483648 ≤ S := by rw [hS]; exact Int.le_bmod (by decide)
  have hb2 : S < 2147483648 := by rw [hS]; exact Int.bmod_lt (by decide)
  by_cases a : A < 0 <;> by_cases b : B < 0 <;> by_cases c : S < 0 <;> simp [a, b, c] <;> omega
theorem fx_mi {A B S : Int} (h1 : -2147483648 ≤ A) (h2 : A < 2147483648) (h3 : -2147483648 ≤ B) (h4 : B < 2147483648) (hS : S = Int.bmod (A - B) 4294967296) : ((decide (A < 0) ^^ decide (B < 0)) && (decide (A < 0) ^^ decide (S < 0))) = false ↔ A - B = S := by
  have hS' : S = A - B ∨ S = A - B - 4294967296 ∨ S = A - B + 4294967296 := by
    rw [hS, Int.bmod_def]
    split <;> omega
  have hb1 : -2147483648 ≤ S := by rw [hS]; exact Int.le_bmod (by decide)
  have hb2 : S < 2147483648 := by rw [hS]; exact Int.bmod_lt (by decide)
  by_cases a : A < 0 <;> by_cases b : B < 0 <;> by_cases c : S < 0 <;> simp [a, b, c] <;> omega
theorem fa_v (a b : Int32) : 0 ≤ ((a ^^^ (a + b)) &&& (b ^^^ (a + b))) ↔ a.toInt64 + b.toInt64 = (a.toInt64 + b.toInt64).toInt32.toInt64 := by
  have h1 := a.le_toInt
  have h2 := a.toInt_lt
  have h3 := b.le_toInt
  have h4 := b.toInt_lt
  rw [fx_sg, b_and, b_xor, b_xor, fx_b, fx_b, fx_b, fx_pl (by omega) (by omega) (by omega) (by omega) (Int32.toInt_add a b), fa_r, ← Int64.toInt_inj, fx_up, Int64.toInt_add, fx_up, fx_up, Int.bmod_eq_of_le (n := a.toInt + b.toInt) (m := 2 ^ 64) (by omega) (by omega)]
theorem fs_v (a b : Int32) : 0 ≤ ((a ^^^ b) &&& (a ^^^ (a - b))) ↔ a.toInt64 - b.toInt64 = (a.toInt64 - b.toInt64).toInt32.toInt64 := by
  have h1 := a.le_toInt
  have h2 := a.toInt_lt
  have h3 := b.le_toInt
  have h4 := b.toInt_lt
  rw [fx_sg, b_and, b_xor, b_xor, fx_b, fx_b, fx_b, fx_mi (by omega) (by omega) (by omega) (by omega) (Int32.toInt_sub a b), fs_r, ← Int64.toInt_inj, fx_up, Int64.toInt_sub, fx_up, fx_up, Int.bmod_eq_of_le (n := a.toInt - b.toInt) (m := 2 ^ 64) (by omega) (by omega)]
end
section
/-! arbitration: the masks against the arrays, the least priority, the best number -/
def ar_v (L k : Nat) : Prop := k = 3 ∨ k = 11 ∨ (16 ≤ k ∧ k < 16 + L)
def ar_A (L D : Nat) (pm am : Int32) (py lv ac wt : Nat → Int32) : Prop :=
  (1 ≤ L ∧ L ≤ 8) ∧ D ≤ 10 ∧
  (∀ j, j < D → ∃ k, ar_v L k ∧ ac j = nI k) ∧
  (∀ i j, i < j → j < D → ac i ≠ ac j) ∧
  (∀ k, k < 24 → (bt am k = true ↔ ∃ j, j < D ∧ ac j = nI k)) ∧
  (∀ k, k < 24 → wt k = if bt pm k = true then 1 else 0) ∧
  (∀ k, k < 24 → bt pm k = true → ar_v L k) ∧
  (∀ p k, p < 4 → k < 32 → (bt (lv p) k = true ↔ (ar_v L k ∧ k ≠ 3 ∧ py k = nI p))) ∧
  (∀ k, ar_v L k → k ≠ 3 → ∃ p, p < 4 ∧ py k = nI p)
def ar_E (c : Int32) (D : Nat) (ac pY : Nat → Int32) (t : Int32) : Prop :=
  t ≤ c ∧ (∀ j, j < D → t ≤ pY (ac j).toNatClampNeg) ∧ (t = c ∨ ∃ j, j < D ∧ t = pY (ac j).toNatClampNeg)
def ar_N (K : Nat) (wt pY : Nat → Int32) (t b l : Int32) : Prop :=
  (b = 0 ∧ l = t ∧ ∀ k, 3 ≤ k → k < K → ¬ wt k = 0 → t ≤ pY k) ∨
  (∃ k, 3 ≤ k ∧ k < K ∧ b = nI k ∧ ¬ wt k = 0 ∧ pY k < t ∧ l = pY k ∧ ∀ j, 3 ≤ j → j < K → ¬ wt j = 0 → pY k ≤ pY j ∧ (j < k → pY k < pY j))
def ar_c (pr : Int32) : Int32 := if pr = 1 then 0 else 4
def ar_EN (pr : Int32) (D : Nat) (ac pY wt : Nat → Int32) (t b : Int32) : Prop :=
  ar_E (ar_c pr) D ac pY t ∧ ∃ l, ar_N 24 wt pY t b l
theorem ar_le {x y z : Int32} (h : x ≤ y) (g : y ≤ z) : x ≤ z := by
  rw [Int32.le_iff_toInt_le] at *; omega
theorem ar_as {x y : Int32} (h : x ≤ y) (g : y ≤ x) : x = y := by
  rw [Int32.le_iff_toInt_le] at *; exact Int32.toInt_inj.mp (by omega)
theorem ar_ll {x y z : Int32} (h : x < y) (g : y ≤ z) : x < z := by
  rw [Int32.le_iff_toInt_le] at *; rw [Int32.lt_iff_toInt_lt] at *; omega
theorem ar_lt {x y z : Int32} (h : x < y) (g : y < z) : x < z := by
  rw [Int32.lt_iff_toInt_lt] at *; omega
theorem ar_wk {x y : Int32} (h : x < y) : x ≤ y := by
  rw [Int32.lt_iff_toInt_lt] at h; rw [Int32.le_iff_toInt_le]; omega
theorem ar_nl {x y : Int32} (h : ¬ x ≤ y) : y < x := by
  rw [Int32.le_iff_toInt_le] at h; rw [Int32.lt_iff_toInt_lt]; omega
theorem ar_no {x y : Int32} (h : x < y) (g : y ≤ x) : False := by
  rw [Int32.lt_iff_toInt_lt] at h; rw [Int32.le_iff_toInt_le] at g; omega
theorem ar_Eu {c : Int32} {D : Nat} {ac pY : Nat → Int32} {t t' : Int32} (h : ar_E c D ac pY t) (h' : ar_E c D ac pY t') : t = t' := by
  obtain ⟨a, b, d⟩ := h
  obtain ⟨a', b', d'⟩ := h'
  apply ar_as
  · rcases d' with rfl | ⟨j, hj, rfl⟩
    · exact a
    · exact b j hj
  · rcases d with rfl | ⟨j, hj, rfl⟩
    · exact a'
    · exact b' j hj
theorem ar_E0 (c : Int32) (ac pY : Nat → Int32) : ar_E c 0 ac pY c := ⟨Int32.le_refl c, fun j hj => by omega, Or.inl rfl⟩
theorem ar_Es {c : Int32} {D : Nat} {ac pY : Nat → Int32} {t : Int32} (h : ar_E c D ac pY t) (g : t ≤ pY (ac D).toNatClampNeg) : ar_E c (D + 1) ac pY t := by
  obtain ⟨a, b, d⟩ := h
  refine ⟨a, lt_s b g, ?_⟩
  rcases d with rfl | ⟨j, hj, e⟩
  · exact Or.inl rfl
  · exact Or.inr ⟨j, by omega, e⟩
theorem ar_En {c : Int32} {D : Nat} {ac pY : Nat → Int32} {t : Int32} (h : ar_E c D ac pY t) (g : ¬ t ≤ pY (ac D).toNatClampNeg) : ar_E c (D + 1) ac pY (pY (ac D).toNatClampNeg) := by
  obtain ⟨a, b, d⟩ := h
  have g' := ar_wk (ar_nl g)
  exact ⟨ar_le g' a, lt_s (fun j hj => ar_le g' (b j hj)) (Int32.le_refl _), Or.inr ⟨D, by omega, rfl⟩⟩
theorem ar_Ex (c : Int32) (ac pY : Nat → Int32) : ∀ D, ∃ t, ar_E c D ac pY t
  | 0 => ⟨c, ar_E0 c ac pY⟩
  | D + 1 => by
    obtain ⟨t, ht⟩ := ar_Ex c ac pY D
    by_cases g : t ≤ pY (ac D).toNatClampNeg
    · exact ⟨t, ar_Es ht g⟩
    · exact ⟨_, ar_En ht g⟩
theorem ar_N3 (wt pY : Nat → Int32) (t : Int32) : ar_N 3 wt pY t 0 t := Or.inl ⟨rfl, rfl, fun k h1 h2 => by omega⟩
theorem ar_N0 {K : Nat} {wt pY : Nat → Int32} {t b l : Int32} (h : ar_N K wt pY t b l) (g : wt K = 0) : ar_N (K + 1) wt pY t b l := by
  rcases h with ⟨h1, h2, h3⟩ | ⟨k, h1, h2, h3, h4, h5, h6, h7⟩
  · refine Or.inl ⟨h1, h2, fun k a b w => h3 k a ?_ w⟩
    have : k ≠ K := fun z => w (z ▸ g)
    omega
  · refine Or.inr ⟨k, h1, by omega, h3, h4, h5, h6, fun j a b w => h7 j a ?_ w⟩
    have : j ≠ K := fun z => w (z ▸ g)
    omega
theorem ar_N1 {K : Nat} {wt pY : Nat → Int32} {t b l : Int32} (h : ar_N K wt pY t b l) (g : l ≤ pY K) : ar_N (K + 1) wt pY t b l := by
  rcases h with ⟨h1, h2, h3⟩ | ⟨k, h1, h2, h3, h4, h5, h6, h7⟩
  · refine Or.inl ⟨h1, h2, fun k a b w => ?_⟩
    by_cases e : k = K
    · rw [e, ← h2]; exact g
    · exact h3 k a (by omega) w
  · refine Or.inr ⟨k, h1, by omega, h3, h4, h5, h6, fun j a b w => ?_⟩
    by_cases e : j = K
    · rw [e, ← h6]; exact ⟨g, fun z => by omega⟩
    · exact h7 j a (by omega) w
theorem ar_N2 {K : Nat} {wt pY : Nat → Int32} {t b l : Int32} (hK : 3 ≤ K) (h : ar_N K wt pY t b l) (w : ¬ wt K = 0) (g : ¬ l ≤ pY K) : ar_N (K + 1) wt pY t (nI K) (pY K) := by
  have g' := ar_nl g
  rcases h with ⟨h1, h2, h3⟩ | ⟨k, h1, h2, h3, h4, h5, h6, h7⟩
  · refine Or.inr ⟨K, hK, by omega, rfl, w, h2 ▸ g', rfl, fun j a b w => ?_⟩
    by_cases e : j = K
    · rw [e]; exact ⟨Int32.le_refl _, fun z => by omega⟩
    · have q := ar_ll g' (h2 ▸ h3 j a (by omega) w)
      exact ⟨ar_wk q, fun _ => q⟩
  · refine Or.inr ⟨K, hK, by omega, rfl, w, ar_lt g' (h6 ▸ h5), rfl, fun j a b w => ?_⟩
    by_cases e : j = K
    · rw [e]; exact ⟨Int32.le_refl _, fun z => by omega⟩
    · have q := ar_ll g' (h6 ▸ (h7 j a (by omega) w).1)
      exact ⟨ar_wk q, fun _ => q⟩
theorem ar_Nx (wt pY : Nat → Int32) (t : Int32) : ∀ d, ∃ b l, ar_N (3 + d) wt pY t b l
  | 0 => ⟨0, t, ar_N3 wt pY t⟩
  | d + 1 => by
    obtain ⟨b, l, h⟩ := ar_Nx wt pY t d
    by_cases w : wt (3 + d) = 0
    · exact ⟨b, l, ar_N0 h w⟩
    · by_cases g : l ≤ pY (3 + d)
      · exact ⟨b, l, ar_N1 h g⟩
      · exact ⟨_, _, ar_N2 (K := 3 + d) (by omega) h w g⟩
theorem ar_Nu {K : Nat} {wt pY : Nat → Int32} {t b l b' l' : Int32} (h : ar_N K wt pY t b l) (h' : ar_N K wt pY t b' l') : b = b' := by
  rcases h with ⟨h1, h2, h3⟩ | ⟨k, h1, h2, h3, h4, h5, h6, h7⟩ <;> rcases h' with ⟨g1, g2, g3⟩ | ⟨k', g1, g2, g3, g4, g5, g6, g7⟩
  · rw [h1, g1]
  · exact (ar_no g5 (h3 k' g1 g2 g4)).elim
  · exact (ar_no h5 (g3 k h1 h2 h4)).elim
  · have a := h7 k' g1 g2 g4
    have b := g7 k h1 h2 h4
    have e : k = k' := by
      rcases Nat.lt_trichotomy k k' with z | z | z
      · exact (ar_no (b.2 z) a.1).elim
      · exact z
      · exact (ar_no (a.2 z) b.1).elim
    rw [h3, g3, e]
theorem ar_ex (pr : Int32) (D : Nat) (ac pY wt : Nat → Int32) : ∃ t b, ar_EN pr D ac pY wt t b := by
  obtain ⟨t, ht⟩ := ar_Ex (ar_c pr) ac pY D
  obtain ⟨b, l, hb⟩ := ar_Nx wt pY t 21
  exact ⟨t, b, ht, l, hb⟩
/-! bits of masks -/
theorem bz_and (x y : Int32) : x &&& y = 0 ↔ ∀ i, i < 32 → ¬ (bt x i = true ∧ bt y i = true) := by
  constructor
  · intro h i hi ⟨a, b⟩
    have e : bt (x &&& y) i = false := by rw [h]; exact b_0 i
    rw [b_and, a, b] at e
    exact nomatch e
  · intro h
    apply b_ext
    intro i hi
    rw [b_and, b_0]
    have := h i hi
    cases a : bt x i <;> cases b : bt y i <;> simp_all
theorem bz_1 (k : Nat) (hk : k < 32) {i : Nat} (hi : i < 32) : bt ((1 : Int32) <<< (nI k &&& 31)) i = decide (i = k) := by
  unfold bt
  rw [nf_sh k hk, BitVec.getLsbD_twoPow]
  by_cases e : i = k
  · subst e
    simp [hk]
  · have e' : ¬ k = i := fun z => e z.symm
    simp [e, e']
theorem bz_set (x : Int32) {k : Nat} (hk : k < 32) {i : Nat} (hi : i < 32) : bt (x ||| ((1 : Int32) <<< (nI k &&& 31))) i = (bt x i || decide (i = k)) := by
  rw [b_or, bz_1 k hk hi]
theorem bz_clr (x : Int32) {k : Nat} (hk : k < 32) {i : Nat} (hi : i < 32) : bt (x &&& (((1 : Int32) <<< (nI k &&& 31)) ^^^ (-1))) i = (bt x i && !decide (i = k)) := by
  rw [b_and, b_xor, bz_1 k hk hi, b_m1 i hi]
  simp
theorem bz_8 (x : Int32) : x &&& 8 = 0 ↔ bt x 3 = false := by
  rw [bz_and]
  constructor
  · intro h
    have := h 3 (by decide)
    cases a : bt x 3
    · rfl
    · exact (this ⟨a, by decide⟩).elim
  · intro h i hi ⟨a, b⟩
    have t : ∀ i, i < 32 → bt 8 i = true → i = 3 := by decide +kernel
    rw [t i hi b, h] at a
    exact nomatch a
theorem bz_sh (x : Int32) {k : Nat} (hk : k < 32) : ((x.toUInt32 >>> ((nI k).toUInt32 &&& Int32.toUInt32 31)).toInt32 &&& 1) = 0 ↔ bt x k = false := by
  rw [nf_bit x k hk, bz_and]
  constructor
  · intro h
    have := h k hk
    rw [bz_1 k hk hk] at this
    cases a : bt x k
    · rfl
    · exact (this ⟨a, by simp⟩).elim
  · intro h i hi ⟨a, b⟩
    rw [bz_1 k hk hi, decide_eq_true_eq] at b
    rw [b, h] at a
    exact nomatch a
theorem ar_v24 {L k : Nat} (hL : L ≤ 8) (h : ar_v L k) : 3 ≤ k ∧ k < 24 := by
  rcases h with h | h | h <;> omega
theorem ar_p {L D : Nat} {pm am : Int32} {py lv ac wt : Nat → Int32} (A : ar_A L D pm am py lv ac wt) {k : Nat} (h : ar_v L k) : (k = 3 ∧ upd py 3 (-1) k = -1) ∨ (k ≠ 3 ∧ upd py 3 (-1) k = py k ∧ ∃ p, p < 4 ∧ py k = nI p) := by
  obtain ⟨_, _, _, _, _, _, _, _, A9⟩ := A
  by_cases e : k = 3
  · subst e
    exact Or.inl ⟨rfl, pk_us⟩
  · exact Or.inr ⟨e, pk_un e, A9 k h e⟩
theorem ar_w {L D : Nat} {pm am : Int32} {py lv ac wt : Nat → Int32} (A : ar_A L D pm am py lv ac wt) {k : Nat} (hk : k < 24) : ¬ wt k = 0 ↔ bt pm k = true := by
  obtain ⟨_, _, _, _, _, A6, _⟩ := A
  rw [A6 k hk]
  cases h : bt pm k <;> simp
end
section
/-! the walks of arbitration: X's executionPriority, lowest, strongest, arbitrate; Y's execPriority, next -/
section
variable {L D : Nat} {post : Int32 → Prop} {postX : SX → Prop} {msp psp pc fl pr ss ph lf fb ln tl pm am th bs dp nw : Int32} {cd rm rg fr py vc lv ac st : Nat → Int32} {wt : Nat → Int32} {t b : Int32}
theorem xw_epl (A : ar_A L D pm am py lv ac wt) (h3 : bt am 3 = false) (ht : ar_E 4 D ac (upd py 3 (-1)) t) (hp : post t) : ∀ d p n, p + d = 4 → d < n → (∀ j, j < D → ∀ q, q < 4 → upd py 3 (-1) (ac j).toNatClampNeg = nI q → p ≤ q) → wX_executionPriority_21 post msp psp pc fl pr ss ph lf fb ln tl pm am th bs dp nw cd rm rg fr py vc lv ac st n (nI p) := by
  obtain ⟨A1, A2, A3, A4, A5, A6, A7, A8, A9⟩ := A
  have A : ar_A L D pm am py lv ac wt := ⟨A1, A2, A3, A4, A5, A6, A7, A8, A9⟩
  have hv : ∀ j, j < D → ∃ k q, ac j = nI k ∧ k < 24 ∧ ar_v L k ∧ k ≠ 3 ∧ q < 4 ∧ py k = nI q ∧ upd py 3 (-1) (ac j).toNatClampNeg = nI q := by
    intro j hj
    obtain ⟨k, hk, e⟩ := A3 j hj
    have k24 := ar_v24 A1.2 hk
    rcases ar_p A hk with ⟨z, _⟩ | ⟨z, u, q, hq, g⟩
    · subst z
      have := (A5 3 (by decide)).mpr ⟨j, hj, e⟩
      rw [h3] at this
      exact nomatch this
    · exact ⟨k, q, e, k24.2, hk, z, hq, g, by rw [e, nI_clamp (by omega), u, g]⟩
  intro d
  induction d with
  | zero =>
    intro p n hpd hn hi
    obtain ⟨n, rfl⟩ : ∃ m, n = m + 1 := ⟨n - 1, by omega⟩
    have e4 : p = 4 := by omega
    subst e4
    have : t = 4 := ar_Eu ht ⟨Int32.le_refl _, fun j hj => by
      obtain ⟨k, q, _, _, _, _, hq, _, g⟩ := hv j hj
      have := hi j hj q hq g
      omega, Or.inl rfl⟩
    subst this
    exact br_t (Int32.le_refl _) hp
  | succ d ih =>
    intro p n hpd hn hi
    obtain ⟨n, rfl⟩ : ∃ m, n = m + 1 := ⟨n - 1, by omega⟩
    refine br_f (nI_ge (b := 4) (by omega) (by decide)) ⟨vp_in_nI (by omega) (by decide), ?_⟩
    rw [nI_clamp (by omega)]
    refine br_c (fun h => nm_r (nI_1 p) (ih (p + 1) n (by omega) (by omega) ?_)) (fun h => ?_)
    · intro j hj q hq g
      have h1 := hi j hj q hq g
      have h2 : q ≠ p := by
        intro z
        subst z
        obtain ⟨k, q', e, k24, hk, k3, hq', gk, g'⟩ := hv j hj
        have e' : py k = nI q := gk.trans (g'.symm.trans g)
        exact (bz_and _ _).mp h k (by omega) ⟨(A5 k k24).mpr ⟨j, hj, e⟩, (A8 q k hq (by omega)).mpr ⟨hk, k3, e'⟩⟩
      omega
    · rw [bz_and] at h
      obtain ⟨k, h⟩ := Classical.not_forall.mp h
      obtain ⟨k32, h⟩ := Classical.not_imp.mp h
      obtain ⟨ha, hl⟩ := Classical.not_not.mp h
      obtain ⟨hk, k3, g⟩ := (A8 p k (by omega) k32).mp hl
      have k24 := ar_v24 A1.2 hk
      obtain ⟨j, hj, e⟩ := (A5 k k24.2).mp ha
      have eq : upd py 3 (-1) (ac j).toNatClampNeg = nI p := by rw [e, nI_clamp (by omega), pk_un k3, g]
      have : t = nI p := ar_Eu ht ⟨nI_le (b := 4) (by omega) (by decide), fun i hi' => by
        obtain ⟨k', q, _, _, _, _, hq, _, g'⟩ := hv i hi'
        rw [g']
        exact nI_le (hi i hi' q hq g') (by omega), Or.inr ⟨j, hj, eq.symm⟩⟩
      subst this
      exact hp
theorem xw_ep (A : ar_A L D pm am py lv ac wt) (ht : ar_E (ar_c pr) D ac (upd py 3 (-1)) t) (hp : post t) : wpX_executionPriority post (msp, psp, pc, fl, pr, ss, ph, lf, fb, ln, tl, pm, am, th, bs, dp, nw, cd, rm, rg, fr, py, vc, lv, ac, st) := by
  obtain ⟨A1, A2, A3, A4, A5, A6, A7, A8, A9⟩ := A
  have A : ar_A L D pm am py lv ac wt := ⟨A1, A2, A3, A4, A5, A6, A7, A8, A9⟩
  unfold wpX_executionPriority wpX_faultActive
  refine br_c (fun h => br_t rfl ?_) (fun h => br_f (by decide) ?_)
  · have h3 := (bz_8 am).mp h
    refine br_c (fun g => ?_) (fun g => ?_)
    · have e : ar_c pr = 0 := if_pos g
      rw [e] at ht
      have : t = 0 := ar_Eu ht ⟨Int32.le_refl _, fun j hj => by
        obtain ⟨k, hk, e⟩ := A3 j hj
        have k24 := ar_v24 A1.2 hk
        rcases ar_p A hk with ⟨z, _⟩ | ⟨z, u, q, hq, g⟩
        · subst z
          have := (A5 3 (by decide)).mpr ⟨j, hj, e⟩
          rw [h3] at this
          exact nomatch this
        · rw [e, nI_clamp (by omega), u, g]
          exact nI_pos' (by omega), Or.inl rfl⟩
      subst this
      exact hp
    · have e : ar_c pr = 4 := if_neg g
      rw [e] at ht
      exact ⟨5, xw_epl A h3 ht hp 4 0 5 rfl (by decide) (fun j hj q hq g => Nat.zero_le q)⟩
  · have h3 : bt am 3 = true := by
      cases e : bt am 3
      · exact (h ((bz_8 am).mpr e)).elim
      · rfl
    obtain ⟨j, hj, e⟩ := (A5 3 (by decide)).mp h3
    have : t = -1 := ar_Eu ht ⟨by unfold ar_c; split <;> decide, fun i hi => by
      obtain ⟨k, hk, e⟩ := A3 i hi
      have k24 := ar_v24 A1.2 hk
      rw [e, nI_clamp (by omega)]
      rcases ar_p A hk with ⟨z, u⟩ | ⟨z, u, q, hq, g⟩
      · rw [u]; exact Int32.le_refl _
      · rw [u, g]; exact ar_le (y := 0) (by decide) (nI_pos' (by omega)), Or.inr ⟨j, hj, by rw [e, nI_clamp (by omega), pk_us]⟩⟩
    subst this
    exact hp
theorem xw_lowl {x : Int32} {k : Nat} (hk : k < 24) (h1 : bt x k = true) (h0 : ∀ j, j < k → bt x j = false) (hp : post (nI k)) : ∀ d i n, i + d = k → d < n → wX_lowest_2 post x msp psp pc fl pr ss ph lf fb ln tl pm am th bs dp nw cd rm rg fr py vc lv ac st n (nI i) := by
  intro d
  induction d with
  | zero =>
    intro i n hi hn
    obtain ⟨n, rfl⟩ : ∃ m, n = m + 1 := ⟨n - 1, by omega⟩
    have e : i = k := by omega
    subst e
    refine br_f (nI_ge (b := 24) (by omega) (by decide)) (br_f ?_ hp)
    rw [bz_sh x (by omega), h1]
    decide
  | succ d ih =>
    intro i n hi hn
    obtain ⟨n, rfl⟩ : ∃ m, n = m + 1 := ⟨n - 1, by omega⟩
    exact br_f (nI_ge (b := 24) (by omega) (by decide)) (br_t ((bz_sh x (by omega)).mpr (h0 i (by omega))) (nm_r (nI_1 i) (ih (i + 1) n (by omega) (by omega))))
theorem xw_low {x : Int32} {k : Nat} (hk : k < 24) (h1 : bt x k = true) (h0 : ∀ j, j < k → bt x j = false) (hp : post (nI k)) : wpX_lowest post (msp, psp, pc, fl, pr, ss, ph, lf, fb, ln, tl, pm, am, th, bs, dp, nw, cd, rm, rg, fr, py, vc, lv, ac, st) x := ⟨25, xw_lowl hk h1 h0 hp k 0 25 (by omega) (by omega)⟩
theorem ar_pv (A : ar_A L D pm am py lv ac wt) (h3 : bt pm 3 = false) {k : Nat} (h24 : k < 24) (w : ¬ wt k = 0) : ∃ q, q < 4 ∧ ar_v L k ∧ k ≠ 3 ∧ py k = nI q ∧ upd py 3 (-1) k = nI q := by
  have hb := (ar_w A h24).mp w
  obtain ⟨A1, A2, A3, A4, A5, A6, A7, A8, A9⟩ := id A
  have hk := A7 k h24 hb
  rcases ar_p A hk with ⟨z, _⟩ | ⟨z, u, q, hq, g⟩
  · subst z
    rw [h3] at hb
    exact nomatch hb
  · exact ⟨q, hq, hk, z, g, u.trans g⟩
theorem xw_stl (A : ar_A L D pm am py lv ac wt) (h3 : bt pm 3 = false) {l : Int32} (hb : ar_N 24 wt (upd py 3 (-1)) th b l) (hp : post b) : ∀ d p n, p + d = 4 → d < n → (∀ k, 3 ≤ k → k < 24 → ¬ wt k = 0 → ∀ q, q < 4 → upd py 3 (-1) k = nI q → p ≤ q) → wX_strongest_23 post msp psp pc fl pr ss ph lf fb ln tl pm am th bs dp nw cd rm rg fr py vc lv ac st n (nI p) := by
  obtain ⟨A1, A2, A3, A4, A5, A6, A7, A8, A9⟩ := id A
  have z0 : (∀ k, 3 ≤ k → k < 24 → ¬ wt k = 0 → th ≤ upd py 3 (-1) k) → post 0 := by
    intro h
    have : b = 0 := ar_Nu hb (Or.inl ⟨rfl, rfl, h⟩)
    subst this
    exact hp
  intro d
  induction d with
  | zero =>
    intro p n hpd hn hi
    obtain ⟨n, rfl⟩ : ∃ m, n = m + 1 := ⟨n - 1, by omega⟩
    have e4 : p = 4 := by omega
    subst e4
    refine br_t (Int32.le_refl _) (z0 ?_)
    intro k h3' h24 w
    obtain ⟨q, hq, _, _, _, g⟩ := ar_pv A h3 h24 w
    have := hi k h3' h24 w q hq g
    omega
  | succ d ih =>
    intro p n hpd hn hi
    obtain ⟨n, rfl⟩ : ∃ m, n = m + 1 := ⟨n - 1, by omega⟩
    refine br_f (nI_ge (b := 4) (by omega) (by decide)) (br_c (fun hth => z0 ?_) (fun hth => ⟨vp_in_nI (by omega) (by decide), ?_⟩))
    · intro k h3' h24 w
      obtain ⟨q, hq, _, _, _, g⟩ := ar_pv A h3 h24 w
      have := hi k h3' h24 w q hq g
      rw [g]
      exact ar_le hth (nI_le this (by omega))
    · rw [nI_clamp (by omega)]
      refine nm_e (br_c (fun h => nm_r (nI_1 p) (ih (p + 1) n (by omega) (by omega) ?_)) (fun h => ?_))
      · intro k h3' h24 w q hq g
        have h1 := hi k h3' h24 w q hq g
        have h2 : q ≠ p := by
          intro z
          subst z
          obtain ⟨q', hq', hk, k3, gk, g'⟩ := ar_pv A h3 h24 w
          exact (bz_and _ _).mp h k (by omega) ⟨(ar_w A h24).mp w, (A8 q k hq (by omega)).mpr ⟨hk, k3, gk.trans (g'.symm.trans g)⟩⟩
        omega
      · have hx : ∃ k, k < 32 ∧ bt pm k = true ∧ bt (lv p) k = true := by
          rw [bz_and] at h
          obtain ⟨k, h⟩ := Classical.not_forall.mp h
          obtain ⟨k32, h⟩ := Classical.not_imp.mp h
          exact ⟨k, k32, Classical.not_not.mp h⟩
        obtain ⟨k, ⟨k32, hm, hl⟩, least⟩ := pk_least _ hx
        obtain ⟨hk, k3, g⟩ := (A8 p k (by omega) k32).mp hl
        have k24 := ar_v24 A1.2 hk
        have gy : upd py 3 (-1) k = nI p := by rw [pk_un k3, g]
        have : b = nI k := ar_Nu hb (l' := nI p) (Or.inr ⟨k, k24.1, k24.2, rfl, (ar_w A k24.2).mpr hm, by rw [gy]; exact ar_nl hth, gy.symm, by
          intro j j3 j24 w
          obtain ⟨q, hq, hj, jn, gj, gjy⟩ := ar_pv A h3 j24 w
          have hpq := hi j j3 j24 w q hq gjy
          rw [gy, gjy]
          refine ⟨nI_le hpq (by omega), fun hjk => nI_lt ?_ (by omega)⟩
          have : q ≠ p := by
            intro z
            subst z
            exact least j hjk ⟨by omega, (ar_w A j24).mp w, (A8 q j hq (by omega)).mpr ⟨hj, jn, gj⟩⟩
          omega⟩)
        subst this
        refine xw_low k24.2 (by rw [b_and, hm, hl]; rfl) ?_ hp
        intro j hj
        rw [b_and]
        cases e1 : bt pm j
        · rfl
        · cases e2 : bt (lv p) j
          · rfl
          · exact (least j hj ⟨by omega, e1, e2⟩).elim
theorem xw_st (A : ar_A L D pm am py lv ac wt) {l : Int32} (hb : ar_N 24 wt (upd py 3 (-1)) th b l) (hp : post b) : wpX_strongest post (msp, psp, pc, fl, pr, ss, ph, lf, fb, ln, tl, pm, am, th, bs, dp, nw, cd, rm, rg, fr, py, vc, lv, ac, st) := by
  obtain ⟨A1, A2, A3, A4, A5, A6, A7, A8, A9⟩ := id A
  refine br_c (fun h0 => br_c (fun h => ?_) (fun h => ?_)) (fun h0 => ?_)
  · exact ⟨5, xw_stl A ((bz_8 pm).mp h) hb hp 4 0 5 rfl (by decide) (fun k _ _ _ q _ _ => Nat.zero_le q)⟩
  · have h3 : bt pm 3 = true := by
      cases e : bt pm 3
      · exact (h ((bz_8 pm).mpr e)).elim
      · rfl
    have : b = 3 := ar_Nu hb (l' := -1) (Or.inr ⟨3, by decide, by decide, rfl, (ar_w A (by decide)).mpr h3, by rw [pk_us]; exact ar_ll (y := 0) (by decide) h0, pk_us.symm, by
      intro j j3 j24 w
      refine ⟨?_, fun z => by omega⟩
      rw [pk_us]
      rcases ar_p A (A7 j j24 ((ar_w A j24).mp w)) with ⟨_, u⟩ | ⟨_, u, q, hq, g⟩
      · rw [u]; exact Int32.le_refl _
      · rw [u, g]; exact ar_le (y := 0) (by decide) (nI_pos' (by omega))⟩)
    subst this
    exact hp
  · have hth : th ≤ -1 := by
      have := ar_nl h0
      rw [Int32.lt_iff_toInt_lt, show (0 : Int32).toInt = 0 from by decide] at this
      rw [Int32.le_iff_toInt_le, show (-1 : Int32).toInt = -1 from by decide]
      omega
    have : b = 0 := ar_Nu hb (Or.inl ⟨rfl, rfl, by
      intro j j3 j24 w
      rcases ar_p A (A7 j j24 ((ar_w A j24).mp w)) with ⟨_, u⟩ | ⟨_, u, q, hq, g⟩
      · rw [u]; exact hth
      · rw [u, g]; exact ar_le hth (ar_le (y := 0) (by decide) (nI_pos' (by omega)))⟩)
    subst this
    exact hp
theorem xw_arb (A : ar_A L D pm am py lv ac wt) (E : ar_EN pr D ac (upd py 3 (-1)) wt t b) (h : postX (msp, psp, pc, fl, pr, ss, ph, lf, fb, ln, tl, pm, am, t, b, dp, nw, cd, rm, rg, fr, py, vc, lv, ac, st)) : wpX_arbitrate postX (msp, psp, pc, fl, pr, ss, ph, lf, fb, ln, tl, pm, am, th, bs, dp, nw, cd, rm, rg, fr, py, vc, lv, ac, st) := by
  obtain ⟨e, l, n⟩ := E
  unfold wpX_arbitrate
  exact xw_ep A e (xw_st A n h)
end
section
variable {D : Nat} {post : Int32 → Prop} {pc fl pr ss dp ph lf ln tl : Int32} {cd rm rg sp wt py vc ac rc : Nat → Int32} {c t b : Int32}
theorem yw_epl (hD : D ≤ 10) (hv : ∀ j, j < D → ∃ k, k < 24 ∧ ac j = nI k) (ht : ar_E c D ac py t) (hp : post t) : ∀ d K x n, K + d = D → d < n → ar_E c K ac py x → wY_execPriority_16 post pc fl pr ss (nI D) ph lf ln tl cd rm rg sp wt py vc ac rc n x (nI K) := by
  intro d
  induction d with
  | zero =>
    intro K x n hK hn hE
    obtain ⟨n, rfl⟩ : ∃ m, n = m + 1 := ⟨n - 1, by omega⟩
    have e : K = D := by omega
    subst e
    rw [ar_Eu hE ht]
    exact br_t (Int32.le_refl _) hp
  | succ d ih =>
    intro K x n hK hn hE
    obtain ⟨n, rfl⟩ : ∃ m, n = m + 1 := ⟨n - 1, by omega⟩
    obtain ⟨k, hk, e⟩ := hv K (by omega)
    have hin : vp_in (ac K) 24 := by rw [e]; exact vp_in_nI hk (by decide)
    refine br_f (nI_ge (by omega) (by omega)) (br_f (nI_ge (b := 16) (by omega) (by decide)) ⟨vp_in_nI (by omega) (by decide), ?_⟩)
    rw [nI_clamp (by omega)]
    exact ⟨hin, br_c (fun g => nm_r (nI_1 K) (ih (K + 1) x n (by omega) (by omega) (ar_Es hE g))) (fun g => ⟨vp_in_nI (by omega) (by decide), hin, nm_e (nm_r (nI_1 K) (ih (K + 1) _ n (by omega) (by omega) (ar_En hE g)))⟩)⟩
theorem yw_ep (hD : D ≤ 10) (hv : ∀ j, j < D → ∃ k, k < 24 ∧ ac j = nI k) (ht : ar_E (ar_c pr) D ac py t) (hp : post t) : wpY_execPriority post (pc, fl, pr, ss, nI D, ph, lf, ln, tl, cd, rm, rg, sp, wt, py, vc, ac, rc) := by
  refine br_c (fun h => ?_) (fun h => ?_)
  · rw [show ar_c pr = 0 from if_pos h] at ht
    exact ⟨D + 1, yw_epl hD hv ht hp D 0 0 (D + 1) (by omega) (by omega) (ar_E0 _ _ _)⟩
  · rw [show ar_c pr = 4 from if_neg h] at ht
    exact ⟨D + 1, yw_epl hD hv ht hp D 0 4 (D + 1) (by omega) (by omega) (ar_E0 _ _ _)⟩
theorem yw_nxl {l : Int32} (hb : ar_N 24 wt py t b l) (hp : post b) : ∀ d K x y n, K + d = 24 → 3 ≤ K → d < n → ar_N K wt py t y x → wY_next_9 post pc fl pr ss dp ph lf ln tl cd rm rg sp wt py vc ac rc n x y (nI K) := by
  intro d
  induction d with
  | zero =>
    intro K x y n hK h3 hn hE
    obtain ⟨n, rfl⟩ : ∃ m, n = m + 1 := ⟨n - 1, by omega⟩
    have e : K = 24 := by omega
    subst e
    rw [ar_Nu hE hb]
    exact br_t (Int32.le_refl _) hp
  | succ d ih =>
    intro K x y n hK h3 hn hE
    obtain ⟨n, rfl⟩ : ∃ m, n = m + 1 := ⟨n - 1, by omega⟩
    have hin : vp_in (nI K) 24 := vp_in_nI (by omega) (by decide)
    refine br_f (nI_ge (b := 24) (by omega) (by decide)) ⟨hin, ?_⟩
    rw [nI_clamp (by omega)]
    exact br_c (fun w => nm_r (nI_1 K) (ih (K + 1) x y n (by omega) (by omega) (by omega) (ar_N0 hE w))) (fun w => ⟨hin, br_c (fun g => nm_r (nI_1 K) (ih (K + 1) x y n (by omega) (by omega) (by omega) (ar_N1 hE g))) (fun g => ⟨hin, nm_e (nm_r (nI_1 K) (ih (K + 1) _ _ n (by omega) (by omega) (by omega) (ar_N2 h3 hE w g)))⟩)⟩)
theorem yw_nx (hD : D ≤ 10) (hv : ∀ j, j < D → ∃ k, k < 24 ∧ ac j = nI k) (E : ar_EN pr D ac py wt t b) (hp : post b) : wpY_next post (pc, fl, pr, ss, nI D, ph, lf, ln, tl, cd, rm, rg, sp, wt, py, vc, ac, rc) := by
  obtain ⟨e, l, n⟩ := E
  unfold wpY_next
  exact yw_ep hD hv e ⟨22, yw_nxl n hp 21 3 t 0 22 rfl (by decide) (by decide) (ar_N3 wt py t)⟩
end
end
section
/-! small methods of both sides -/
def fz_nz (f v : Int32) : Int32 := ((f &&& 805306368) ||| (v &&& (-2147483648))) ||| (if v = 0 then 1073741824 else 0)
def fz_add (a b : Int32) : Int32 := fz_nz ((if (a ^^^ (-2147483648)) ≤ ((a + b) ^^^ (-2147483648)) then 0 else 536870912) ||| (if 0 ≤ ((a ^^^ (a + b)) &&& (b ^^^ (a + b))) then 0 else 268435456)) (a + b)
def fz_sub (a b : Int32) : Int32 := fz_nz ((if (a ^^^ (-2147483648)) < (b ^^^ (-2147483648)) then 0 else 536870912) ||| (if 0 ≤ ((a ^^^ b) &&& (a ^^^ (a - b))) then 0 else 268435456)) (a - b)
/-- the word of an address -/
def aw_ (a : Int32) : Nat := (((a.toUInt32 >>> ((2 : Int32).toUInt32 &&& Int32.toUInt32 31)).toInt32) &&& 63).toNatClampNeg
def sp_r (ss msp psp : Int32) : Int32 := if ss = 1 then psp else msp
/-- the current number -/
def cu_ (D : Nat) (ac : Nat → Int32) : Int32 := if D = 0 then 0 else ac (D - 1)
def zs_ (r : Nat → Int32) : Nat → Int32 := upd (upd (upd (upd (upd r 0 0) 1 0) 2 0) 3 0) 12 0
section
variable {post : SX → Prop} {post2 : Int32 → SX → Prop} {postI : Int32 → Prop} {msp psp pc fl pr ss ph lf fb ln tl pm am th bs dp nw : Int32} {cd rm rg fr py vc lv ac st : Nat → Int32} {v a b c o : Int32}
theorem xt_eta {u : SX} (h : post u) : (match u with | (msp, psp, pc, fl, pr, ss, ph, lf, fb, ln, tl, pm, am, th, bs, dp, nw, cd, rm, rg, fr, py, vc, lv, ac, st) => post (msp, psp, pc, fl, pr, ss, ph, lf, fb, ln, tl, pm, am, th, bs, dp, nw, cd, rm, rg, fr, py, vc, lv, ac, st)) := h
theorem xs_nz (h : post (msp, psp, pc, fz_nz fl v, pr, ss, ph, lf, fb, ln, tl, pm, am, th, bs, dp, nw, cd, rm, rg, fr, py, vc, lv, ac, st)) : wpX_setNZ post (msp, psp, pc, fl, pr, ss, ph, lf, fb, ln, tl, pm, am, th, bs, dp, nw, cd, rm, rg, fr, py, vc, lv, ac, st) v := by
  unfold fz_nz at h
  refine br_c (fun e => ?_) (fun e => ?_)
  · rw [if_pos e] at h
    exact nm_e h
  · rw [if_neg e] at h
    exact nm_e h
theorem xs_all {C O : Int32} (hC : (if c = 0 then (0 : Int32) else 536870912) = C) (hO : (if o = 0 then (0 : Int32) else 268435456) = O) (h : post (msp, psp, pc, fz_nz (C ||| O) v, pr, ss, ph, lf, fb, ln, tl, pm, am, th, bs, dp, nw, cd, rm, rg, fr, py, vc, lv, ac, st)) : wpX_setAll post (msp, psp, pc, fl, pr, ss, ph, lf, fb, ln, tl, pm, am, th, bs, dp, nw, cd, rm, rg, fr, py, vc, lv, ac, st) v c o := by
  subst hC hO
  refine br_c (fun hc => br_c (fun ho => ?_) (fun ho => ?_)) (fun hc => br_c (fun ho => ?_) (fun ho => ?_))
  · rw [if_pos hc, if_pos ho] at h
    exact nm_e (xs_nz h)
  · rw [if_pos hc, if_neg ho] at h
    exact nm_e (xs_nz h)
  · rw [if_neg hc, if_pos ho] at h
    exact nm_e (xs_nz h)
  · rw [if_neg hc, if_neg ho] at h
    exact nm_e (xs_nz h)
theorem xs_add (h : post2 (a + b) (msp, psp, pc, fz_add a b, pr, ss, ph, lf, fb, ln, tl, pm, am, th, bs, dp, nw, cd, rm, rg, fr, py, vc, lv, ac, st)) : wpX_add post2 (msp, psp, pc, fl, pr, ss, ph, lf, fb, ln, tl, pm, am, th, bs, dp, nw, cd, rm, rg, fr, py, vc, lv, ac, st) a b := by
  unfold fz_add at h
  refine nm_e (br_c (fun hc => br_c (fun ho => ?_) (fun ho => ?_)) (fun hc => br_c (fun ho => ?_) (fun ho => ?_)))
  · rw [if_pos hc, if_pos ho] at h
    exact xs_all (by decide) (by decide) h
  · rw [if_pos hc, if_neg ho] at h
    exact xs_all (by decide) (by decide) h
  · rw [if_neg hc, if_pos ho] at h
    exact xs_all (by decide) (by decide) h
  · rw [if_neg hc, if_neg ho] at h
    exact xs_all (by decide) (by decide) h
theorem xs_sub (h : post2 (a - b) (msp, psp, pc, fz_sub a b, pr, ss, ph, lf, fb, ln, tl, pm, am, th, bs, dp, nw, cd, rm, rg, fr, py, vc, lv, ac, st)) : wpX_subtract post2 (msp, psp, pc, fl, pr, ss, ph, lf, fb, ln, tl, pm, am, th, bs, dp, nw, cd, rm, rg, fr, py, vc, lv, ac, st) a b := by
  unfold fz_sub at h
  refine nm_e (br_c (fun hc => br_c (fun ho => ?_) (fun ho => ?_)) (fun hc => br_c (fun ho => ?_) (fun ho => ?_)))
  · rw [if_pos hc, if_pos ho] at h
    exact xs_all (by decide) (by decide) h
  · rw [if_pos hc, if_neg ho] at h
    exact xs_all (by decide) (by decide) h
  · rw [if_neg hc, if_pos ho] at h
    exact xs_all (by decide) (by decide) h
  · rw [if_neg hc, if_neg ho] at h
    exact xs_all (by decide) (by decide) h
theorem xs_adv (h : post (msp, psp, (pc + a) &&& 254, fl, pr, ss, ph, lf, fb, ln, tl, pm, am, th, bs, dp, nw, cd, rm, rg, fr, py, vc, lv, ac, st)) : wpX_advance post (msp, psp, pc, fl, pr, ss, ph, lf, fb, ln, tl, pm, am, th, bs, dp, nw, cd, rm, rg, fr, py, vc, lv, ac, st) a := nm_e h
theorem xs_sp (h : postI (sp_r ss msp psp)) : wpX_sp postI (msp, psp, pc, fl, pr, ss, ph, lf, fb, ln, tl, pm, am, th, bs, dp, nw, cd, rm, rg, fr, py, vc, lv, ac, st) := by
  unfold sp_r at h
  refine br_c (fun e => ?_) (fun e => ?_)
  · rw [if_pos e] at h; exact h
  · rw [if_neg e] at h; exact h
theorem xs_setSp (h : post (if ss = 1 then msp else a, if ss = 1 then a else psp, pc, fl, pr, ss, ph, lf, fb, ln, tl, pm, am, th, bs, dp, nw, cd, rm, rg, fr, py, vc, lv, ac, st)) : wpX_setSp post (msp, psp, pc, fl, pr, ss, ph, lf, fb, ln, tl, pm, am, th, bs, dp, nw, cd, rm, rg, fr, py, vc, lv, ac, st) a := by
  refine br_c (fun e => ?_) (fun e => ?_)
  · rw [if_pos e, if_pos e] at h; exact h
  · rw [if_neg e, if_neg e] at h; exact h
theorem xs_cur {D : Nat} (hD : D ≤ 10) (h : postI (cu_ D ac)) : wpX_current postI (msp, psp, pc, fl, pr, ss, ph, lf, fb, ln, tl, pm, am, th, bs, nI D, nw, cd, rm, rg, fr, py, vc, lv, ac, st) := by
  unfold cu_ at h
  by_cases e : D = 0
  · subst e
    rw [if_pos rfl] at h
    exact br_t rfl h
  · rw [if_neg e] at h
    refine br_f (nI_ne0 (by omega) (by omega)) ⟨ia_15 _, ?_⟩
    obtain ⟨d, rfl⟩ : ∃ d, D = d + 1 := ⟨D - 1, by omega⟩
    rw [nI_pred, da_15 (by omega), nI_clamp (by omega), Nat.mod_eq_of_lt (by omega)]
    exact h
theorem xs_clr (h : post (msp, psp, 0, 0, pr, ss, ph, lf, fb, ln, tl, pm, am, th, bs, dp, nw, cd, rm, zs_ rg, fr, py, vc, lv, ac, st)) : wpX_clearScratch post (msp, psp, pc, fl, pr, ss, ph, lf, fb, ln, tl, pm, am, th, bs, dp, nw, cd, rm, rg, fr, py, vc, lv, ac, st) := by
  refine ⟨5, ?_⟩
  refine br_f (by decide) ⟨vp_in_iff.mpr (by decide), nm_e (nm_r (e' := 1) (by decide) ?_)⟩
  refine br_f (by decide) ⟨vp_in_iff.mpr (by decide), nm_e (nm_r (e' := 2) (by decide) ?_)⟩
  refine br_f (by decide) ⟨vp_in_iff.mpr (by decide), nm_e (nm_r (e' := 3) (by decide) ?_)⟩
  refine br_f (by decide) ⟨vp_in_iff.mpr (by decide), nm_e (nm_r (e' := 4) (by decide) ?_)⟩
  exact br_t (by decide) (nm_e h)
theorem xs_lock (h : post (msp, psp, pc, fl, pr, ss, 4, 0, fb, ln, tl, pm, am, th, bs, dp, nw, cd, rm, rg, fr, py, vc, lv, ac, st)) : wpX_lockUp post (msp, psp, pc, fl, pr, ss, ph, lf, fb, ln, tl, pm, am, th, bs, dp, nw, cd, rm, rg, fr, py, vc, lv, ac, st) := h
theorem xs_us1 (h1 : ¬ a = 13) (h2 : ¬ a = 15) (h : postI 1) : wpX_usable postI (msp, psp, pc, fl, pr, ss, ph, lf, fb, ln, tl, pm, am, th, bs, dp, nw, cd, rm, rg, fr, py, vc, lv, ac, st) a := br_f h1 (br_f h2 h)
theorem xs_us0 (h1 : a = 13 ∨ a = 15) (h : postI 0) : wpX_usable postI (msp, psp, pc, fl, pr, ss, ph, lf, fb, ln, tl, pm, am, th, bs, dp, nw, cd, rm, rg, fr, py, vc, lv, ac, st) a := br_c (fun _ => h) (fun z => br_t (h1.resolve_left z) h)
theorem xs_ld (h : postI (rm (aw_ a))) : wpX_load postI (msp, psp, pc, fl, pr, ss, ph, lf, fb, ln, tl, pm, am, th, bs, dp, nw, cd, rm, rg, fr, py, vc, lv, ac, st) a := ⟨ia_63 _, h⟩
theorem xs_st (h : post (msp, psp, pc, fl, pr, ss, ph, lf, fb, ln, tl, pm, am, th, bs, dp, nw, cd, upd rm (aw_ a) b, rg, fr, py, vc, lv, ac, st)) : wpX_store post (msp, psp, pc, fl, pr, ss, ph, lf, fb, ln, tl, pm, am, th, bs, dp, nw, cd, rm, rg, fr, py, vc, lv, ac, st) a b := ⟨ia_63 _, nm_e h⟩
end
section
variable {post : SY → Prop} {post2 : Int32 → SY → Prop} {postI : Int32 → Prop} {pc fl pr ss dp ph lf ln tl : Int32} {cd rm rg sp wt py vc ac rc : Nat → Int32} {v w a b c o : Int32}
theorem yt_eta {u : SY} (h : post u) : (match u with | (pc, fl, pr, ss, dp, ph, lf, ln, tl, cd, rm, rg, sp, wt, py, vc, ac, rc) => post (pc, fl, pr, ss, dp, ph, lf, ln, tl, cd, rm, rg, sp, wt, py, vc, ac, rc)) := h
theorem ys_nz (e : w = v) (h : post2 v (pc, fz_nz fl v, pr, ss, dp, ph, lf, ln, tl, cd, rm, rg, sp, wt, py, vc, ac, rc)) : wpY_nz post2 (pc, fl, pr, ss, dp, ph, lf, ln, tl, cd, rm, rg, sp, wt, py, vc, ac, rc) w := by
  subst e
  unfold fz_nz at h
  refine br_c (fun e => ?_) (fun e => ?_)
  · rw [if_pos e] at h
    exact nm_e h
  · rw [if_neg e] at h
    exact nm_e h
theorem ys_add (h : post2 (a + b) (pc, fz_add a b, pr, ss, dp, ph, lf, ln, tl, cd, rm, rg, sp, wt, py, vc, ac, rc)) : wpY_sum post2 (pc, fl, pr, ss, dp, ph, lf, ln, tl, cd, rm, rg, sp, wt, py, vc, ac, rc) a b 0 := by
  unfold fz_add at h
  refine br_t rfl (nm_e (nm_e (br_t rfl (br_c (fun hc => br_t rfl (br_c (fun ho => ?_) (fun ho => ?_))) (fun hc => br_f (by decide) (br_c (fun ho => ?_) (fun ho => ?_)))))))
  · rw [if_pos ((fa_carry a b).mpr hc), if_pos ((fa_v a b).mpr ho)] at h
    exact nm_e (ys_nz (fa_r a b) h)
  · rw [if_pos ((fa_carry a b).mpr hc), if_neg (fun z => ho ((fa_v a b).mp z))] at h
    exact nm_e (ys_nz (fa_r a b) h)
  · rw [if_neg (fun z => hc ((fa_carry a b).mp z)), if_pos ((fa_v a b).mpr ho)] at h
    exact nm_e (ys_nz (fa_r a b) h)
  · rw [if_neg (fun z => hc ((fa_carry a b).mp z)), if_neg (fun z => ho ((fa_v a b).mp z))] at h
    exact nm_e (ys_nz (fa_r a b) h)
theorem ys_sub (h : post2 (a - b) (pc, fz_sub a b, pr, ss, dp, ph, lf, ln, tl, cd, rm, rg, sp, wt, py, vc, ac, rc)) : wpY_sum post2 (pc, fl, pr, ss, dp, ph, lf, ln, tl, cd, rm, rg, sp, wt, py, vc, ac, rc) a b 1 := by
  unfold fz_sub at h
  refine br_f (by decide) (nm_e (nm_e (br_f (by decide) (br_c (fun hc => br_t rfl (br_c (fun ho => ?_) (fun ho => ?_))) (fun hc => br_f (by decide) (br_c (fun ho => ?_) (fun ho => ?_)))))))
  · rw [if_pos ((fs_carry a b).mpr hc), if_pos ((fs_v a b).mpr ho)] at h
    exact nm_e (ys_nz (fs_r a b) h)
  · rw [if_pos ((fs_carry a b).mpr hc), if_neg (fun z => ho ((fs_v a b).mp z))] at h
    exact nm_e (ys_nz (fs_r a b) h)
  · rw [if_neg (fun z => hc ((fs_carry a b).mp z)), if_pos ((fs_v a b).mpr ho)] at h
    exact nm_e (ys_nz (fs_r a b) h)
  · rw [if_neg (fun z => hc ((fs_carry a b).mp z)), if_neg (fun z => ho ((fs_v a b).mp z))] at h
    exact nm_e (ys_nz (fs_r a b) h)
theorem ys_wipe (h : post (0, 0, pr, ss, dp, b, c, ln, tl, cd, rm, upd (zs_ rg) 14 a, sp, wt, py, vc, ac, rc)) : wpY_wipe post (pc, fl, pr, ss, dp, ph, lf, ln, tl, cd, rm, rg, sp, wt, py, vc, ac, rc) a b c := by
  refine ⟨5, ?_⟩
  refine br_f (by decide) ⟨vp_in_iff.mpr (by decide), nm_e (nm_r (e' := 1) (by decide) ?_)⟩
  refine br_f (by decide) ⟨vp_in_iff.mpr (by decide), nm_e (nm_r (e' := 2) (by decide) ?_)⟩
  refine br_f (by decide) ⟨vp_in_iff.mpr (by decide), nm_e (nm_r (e' := 3) (by decide) ?_)⟩
  refine br_f (by decide) ⟨vp_in_iff.mpr (by decide), nm_e (nm_r (e' := 4) (by decide) ?_)⟩
  exact br_t (by decide) (nm_e (nm_e h))
theorem ys_nest0 {D : Nat} (hD : D ≤ 10) (h : postI (cu_ D ac)) : wpY_nest postI (pc, fl, pr, ss, nI D, ph, lf, ln, tl, cd, rm, rg, sp, wt, py, vc, ac, rc) 0 := by
  unfold cu_ at h
  by_cases e : D = 0
  · subst e
    rw [if_pos rfl] at h
    exact br_f (by decide) (br_f (by decide) h)
  · rw [if_neg e] at h
    obtain ⟨d, rfl⟩ : ∃ d, D = d + 1 := ⟨D - 1, by omega⟩
    have e2 : nI (d + 1) - 1 - 0 = nI d := by rw [nI_pred, Int32.sub_zero]
    refine br_f (by decide) (br_t (nI_lt (a := 0) (by omega) (by omega)) ?_)
    rw [e2, nI_clamp (by omega)]
    exact ⟨vp_in_nI (by omega) (by decide), h⟩
theorem ys_us1 (h1 : ¬ a = 13) (h2 : ¬ a = 15) (h : postI 1) : wpY_named postI (pc, fl, pr, ss, dp, ph, lf, ln, tl, cd, rm, rg, sp, wt, py, vc, ac, rc) a := br_f h1 (br_f h2 h)
theorem ys_us0 (h1 : a = 13 ∨ a = 15) (h : postI 0) : wpY_named postI (pc, fl, pr, ss, dp, ph, lf, ln, tl, cd, rm, rg, sp, wt, py, vc, ac, rc) a := br_c (fun _ => h) (fun z => br_t (h1.resolve_left z) h)
theorem ys_ld (h : postI (rm (aw_ a))) : wpY_load postI (pc, fl, pr, ss, dp, ph, lf, ln, tl, cd, rm, rg, sp, wt, py, vc, ac, rc) a := ⟨ia_63 _, h⟩
theorem ys_st (h : post (pc, fl, pr, ss, dp, ph, lf, ln, tl, cd, upd rm (aw_ a) b, rg, sp, wt, py, vc, ac, rc)) : wpY_store post (pc, fl, pr, ss, dp, ph, lf, ln, tl, cd, rm, rg, sp, wt, py, vc, ac, rc) a b := ⟨ia_63 _, nm_e h⟩
end
end
section
/-! arbitration's facts under each change -/
theorem pg_hole : ∀ (m n : Nat) (f : Nat → Nat), (∀ j, j < n → f j < m) → (∀ i j, i < j → j < n → f i ≠ f j) → n ≤ m := by
  intro m
  induction m with
  | zero =>
    intro n f h _
    rcases Nat.eq_zero_or_pos n with e | e
    · omega
    · have := h 0 e
      omega
  | succ m ih =>
    intro n f h g
    by_cases e : ∃ j, j < n ∧ f j = m
    · obtain ⟨j0, hj0, e⟩ := e
      have := ih (n - 1) (fun j => if j < j0 then f j else f (j + 1)) (by
        intro j hj
        show (if j < j0 then f j else f (j + 1)) < m
        by_cases c : j < j0
        · rw [if_pos c]
          have h1 := h j (by omega)
          have h2 := g j j0 c hj0
          omega
        · rw [if_neg c]
          have h1 := h (j + 1) (by omega)
          have h2 := g j0 (j + 1) (by omega) (by omega)
          omega) (by
        intro i j hij hj
        show (if i < j0 then f i else f (i + 1)) ≠ (if j < j0 then f j else f (j + 1))
        by_cases c : i < j0 <;> by_cases d : j < j0
        · rw [if_pos c, if_pos d]; exact g i j hij (by omega)
        · rw [if_pos c, if_neg d]; exact g i (j + 1) (by omega) (by omega)
        · omega
        · rw [if_neg c, if_neg d]; exact g (i + 1) (j + 1) (by omega) (by omega))
      omega
    · have := ih n f (fun j hj => by
        have h1 := h j hj
        have h2 : f j ≠ m := fun z => e ⟨j, hj, z⟩
        omega) g
      omega
def pg_i (k : Nat) : Nat := if k = 3 then 0 else if k = 11 then 1 else k - 14
theorem pg_lt {L k : Nat} (hL : L ≤ 8) (h : ar_v L k) : pg_i k < 10 := by
  unfold pg_i
  rcases h with h | h | h
  · rw [if_pos h]; omega
  · rw [if_neg (by omega), if_pos h]; omega
  · rw [if_neg (by omega), if_neg (by omega)]; omega
theorem pg_inj {L k k' : Nat} (h : ar_v L k) (h' : ar_v L k') (e : pg_i k = pg_i k') : k = k' := by
  unfold pg_i at e
  rcases h with h | h | h <;> rcases h' with h' | h' | h'
  · omega
  · rw [if_pos h, if_neg (by omega), if_pos h'] at e; omega
  · rw [if_pos h, if_neg (by omega), if_neg (by omega)] at e; omega
  · rw [if_neg (by omega), if_pos h, if_pos h'] at e; omega
  · omega
  · rw [if_neg (by omega), if_pos h, if_neg (by omega), if_neg (by omega)] at e; omega
  · rw [if_neg (by omega), if_neg (by omega), if_pos h'] at e; omega
  · rw [if_neg (by omega), if_neg (by omega), if_neg (by omega), if_pos h'] at e; omega
  · rw [if_neg (by omega), if_neg (by omega), if_neg (by omega), if_neg (by omega)] at e; omega
section
variable {L D : Nat} {pm am pr th bs : Int32} {py lv ac wt : Nat → Int32}
theorem ar_pend (A : ar_A L D pm am py lv ac wt) {k : Nat} (hk : ar_v L k) : ar_A L D (pm ||| ((1 : Int32) <<< (nI k &&& 31))) am py lv ac (upd wt k 1) := by
  obtain ⟨A1, A2, A3, A4, A5, A6, A7, A8, A9⟩ := A
  have k24 := ar_v24 A1.2 hk
  refine ⟨A1, A2, A3, A4, A5, ?_, ?_, A8, A9⟩
  · intro j hj
    rw [bz_set _ (by omega) (by omega)]
    by_cases e : j = k
    · subst e
      rw [pk_us]
      simp
    · rw [pk_un e, A6 j hj]
      simp [e]
  · intro j hj
    rw [bz_set _ (by omega) (by omega)]
    by_cases e : j = k
    · subst e
      exact fun _ => hk
    · simp only [e, decide_false, Bool.or_false]
      exact A7 j hj
theorem ar_prio (A : ar_A L D pm am py lv ac wt) {k p : Nat} (hk : ar_v L k) (k3 : k ≠ 3) (hp : p < 4) : ∃ o, o < 4 ∧ py k = nI o ∧ ar_A L D pm am (upd py k (nI p)) (upd (upd lv o (lv o &&& (((1 : Int32) <<< (nI k &&& 31)) ^^^ (-1)))) p ((upd lv o (lv o &&& (((1 : Int32) <<< (nI k &&& 31)) ^^^ (-1)))) p ||| ((1 : Int32) <<< (nI k &&& 31)))) ac wt := by
  obtain ⟨A1, A2, A3, A4, A5, A6, A7, A8, A9⟩ := A
  obtain ⟨o, ho, eo⟩ := A9 k hk k3
  have k24 := ar_v24 A1.2 hk
  refine ⟨o, ho, eo, A1, A2, A3, A4, A5, A6, A7, ?_, ?_⟩
  · intro q j hq hj
    have base : bt (upd lv o (lv o &&& (((1 : Int32) <<< (nI k &&& 31)) ^^^ (-1))) q) j = if q = o then (bt (lv q) j && !decide (j = k)) else bt (lv q) j := by
      by_cases e : q = o
      · subst e
        rw [pk_us, if_pos rfl, bz_clr _ (by omega) hj]
      · rw [pk_un e, if_neg e]
    have full : bt (upd (upd lv o (lv o &&& (((1 : Int32) <<< (nI k &&& 31)) ^^^ (-1)))) p ((upd lv o (lv o &&& (((1 : Int32) <<< (nI k &&& 31)) ^^^ (-1)))) p ||| ((1 : Int32) <<< (nI k &&& 31))) q) j = if q = p then ((if q = o then (bt (lv q) j && !decide (j = k)) else bt (lv q) j) || decide (j = k)) else (if q = o then (bt (lv q) j && !decide (j = k)) else bt (lv q) j) := by
      by_cases e : q = p
      · rw [if_pos e, ← base, e, pk_us, bz_set _ (by omega) hj]
      · rw [pk_un e, if_neg e, base]
    rw [full]
    by_cases ej : j = k
    · subst ej
      rw [pk_us]
      have hq' := A8 q j hq hj
      rw [eo] at hq'
      have e1 : (nI p = nI q) ↔ q = p := by rw [nI_eq (by omega) (by omega)]; exact eq_comm
      have e2 : (nI o = nI q) ↔ q = o := by rw [nI_eq (by omega) (by omega)]; exact eq_comm
      rw [e1]
      rw [e2] at hq'
      by_cases c1 : q = p
      · simp [c1, hk, k3]
      · by_cases c2 : q = o
        · simp [c1, c2, hk, k3]
        · simp only [c1, c2, if_false, and_false, iff_false]
          intro z
          exact c2 (hq'.mp z).2.2
    · rw [pk_un ej, ← A8 q j hq hj]
      simp [ej]
  · intro j hj j3
    by_cases e : j = k
    · subst e
      exact ⟨p, hp, pk_us⟩
    · rw [pk_un e]
      exact A9 j hj j3
/-- what a number that is chosen is -/
theorem ar_ch (A : ar_A L D pm am py lv ac wt) (E : ar_EN pr D ac (upd py 3 (-1)) wt th bs) (h0 : ¬ bs = 0) : ∃ k, k < 24 ∧ bs = nI k ∧ ar_v L k ∧ ∀ j, j < D → ac j ≠ nI k := by
  obtain ⟨⟨e1, e2, e3⟩, l, n⟩ := E
  rcases n with ⟨z, _⟩ | ⟨k, k3, k24, hb, w, lt, _, _⟩
  · exact (h0 z).elim
  · have hm := (ar_w A k24).mp w
    obtain ⟨A1, A2, A3, A4, A5, A6, A7, A8, A9⟩ := A
    refine ⟨k, k24, hb, A7 k k24 hm, ?_⟩
    intro j hj e
    have := e2 j hj
    rw [e, nI_clamp (by omega)] at this
    exact ar_no lt this
theorem ar_start (A : ar_A L D pm am py lv ac wt) {k : Nat} (hk : ar_v L k) (hn : ∀ j, j < D → ac j ≠ nI k) : ar_A L (D + 1) (pm &&& (((1 : Int32) <<< (nI k &&& 31)) ^^^ (-1))) (am ||| ((1 : Int32) <<< (nI k &&& 31))) py lv (upd ac D (nI k)) (upd wt k 0) := by
  obtain ⟨A1, A2, A3, A4, A5, A6, A7, A8, A9⟩ := A
  have k24 := ar_v24 A1.2 hk
  have A3' : ∀ j, j < D + 1 → ∃ k', ar_v L k' ∧ upd ac D (nI k) j = nI k' := by
    intro j hj
    by_cases e : j = D
    · subst e
      exact ⟨k, hk, pk_us⟩
    · rw [pk_un e]
      exact A3 j (by omega)
  have A4' : ∀ i j, i < j → j < D + 1 → upd ac D (nI k) i ≠ upd ac D (nI k) j := by
    intro i j hij hj
    rw [pk_un (show i ≠ D by omega)]
    by_cases e : j = D
    · subst e
      rw [pk_us]
      exact hn i hij
    · rw [pk_un e]
      exact A4 i j hij (by omega)
  refine ⟨A1, ?_, A3', A4', ?_, ?_, ?_, A8, A9⟩
  · refine pg_hole 10 (D + 1) (fun j => pg_i (upd ac D (nI k) j).toNatClampNeg) ?_ ?_
    · intro j hj
      obtain ⟨k', h', e⟩ := A3' j hj
      have := ar_v24 A1.2 h'
      show pg_i (upd ac D (nI k) j).toNatClampNeg < 10
      rw [e, nI_clamp (by omega)]
      exact pg_lt A1.2 h'
    · intro i j hij hj z
      obtain ⟨k1, h1, e1⟩ := A3' i (by omega)
      obtain ⟨k2, h2, e2⟩ := A3' j hj
      have b1 := ar_v24 A1.2 h1
      have b2 := ar_v24 A1.2 h2
      have z' : pg_i (upd ac D (nI k) i).toNatClampNeg = pg_i (upd ac D (nI k) j).toNatClampNeg := z
      rw [e1, e2, nI_clamp (by omega), nI_clamp (by omega)] at z'
      have := pg_inj h1 h2 z'
      exact A4' i j hij hj (by rw [e1, e2, this])
  · intro i hi
    rw [bz_set _ (by omega) (by omega)]
    constructor
    · intro h
      by_cases e : i = k
      · subst e
        exact ⟨D, by omega, pk_us⟩
      · simp only [e, decide_false, Bool.or_false] at h
        obtain ⟨j, hj, ej⟩ := (A5 i hi).mp h
        exact ⟨j, by omega, by rw [pk_un (by omega), ej]⟩
    · rintro ⟨j, hj, ej⟩
      by_cases e : j = D
      · subst e
        rw [pk_us, nI_eq (by omega) (by omega)] at ej
        simp [ej]
      · rw [pk_un e] at ej
        rw [(A5 i hi).mpr ⟨j, by omega, ej⟩]
        rfl
  · intro j hj
    rw [bz_clr _ (by omega) (by omega)]
    by_cases e : j = k
    · subst e
      rw [pk_us]
      simp
    · rw [pk_un e, A6 j hj]
      simp [e]
  · intro j hj h
    rw [bz_clr _ (by omega) (by omega)] at h
    exact A7 j hj (by
      cases e : bt pm j
      · rw [e] at h
        exact nomatch h
      · rfl)
theorem ar_ret (A : ar_A L (D + 1) pm am py lv ac wt) : ar_A L D pm (am &&& (((1 : Int32) <<< (ac D &&& 31)) ^^^ (-1))) py lv ac wt := by
  obtain ⟨A1, A2, A3, A4, A5, A6, A7, A8, A9⟩ := A
  obtain ⟨k, hk, ek⟩ := A3 D (by omega)
  have k24 := ar_v24 A1.2 hk
  refine ⟨A1, by omega, fun j hj => A3 j (by omega), fun i j hij hj => A4 i j hij (by omega), ?_, A6, A7, A8, A9⟩
  intro i hi
  rw [ek, bz_clr _ (by omega) (by omega)]
  constructor
  · intro h
    by_cases e : i = k
    · simp [e] at h
    · simp only [e, decide_false, Bool.not_false, Bool.and_true] at h
      obtain ⟨j, hj, ej⟩ := (A5 i hi).mp h
      refine ⟨j, ?_, ej⟩
      have : j ≠ D := by
        intro z
        rw [z, ek, nI_eq (by omega) (by omega)] at ej
        exact e ej.symm
      omega
  · rintro ⟨j, hj, ej⟩
    have e : i ≠ k := by
      intro z
      exact A4 j D hj (by omega) (by rw [ej, ek, z])
    rw [(A5 i hi).mpr ⟨j, by omega, ej⟩]
    simp [e]
theorem ar_zero (A1 : 1 ≤ L ∧ L ≤ 8) (A8 : ∀ p k, p < 4 → k < 32 → (bt (lv p) k = true ↔ (ar_v L k ∧ k ≠ 3 ∧ py k = nI p))) (A9 : ∀ k, ar_v L k → k ≠ 3 → ∃ p, p < 4 ∧ py k = nI p) (hw : ∀ k, k < 24 → wt k = 0) : ar_A L 0 0 0 py lv ac wt := by
  refine ⟨A1, by omega, fun j hj => by omega, fun i j hij hj => by omega, ?_, ?_, ?_, A8, A9⟩
  · intro k hk
    rw [b_0]
    constructor
    · intro h; exact nomatch h
    · rintro ⟨j, hj, _⟩; omega
  · intro k hk
    rw [b_0, hw k hk]
    rfl
  · intro k hk h
    rw [b_0] at h
    exact nomatch h
/-- a new mark leaves the best number there -/
theorem ar_more {t b b' : Int32} {wt' : Nat → Int32} (E : ar_EN pr D ac (upd py 3 (-1)) wt t b) (E' : ∃ l, ar_N 24 wt' (upd py 3 (-1)) t b' l) (hw : ∀ k, k < 24 → ¬ wt k = 0 → ¬ wt' k = 0) (h0 : ¬ b = 0) : ¬ b' = 0 := by
  obtain ⟨_, l, n⟩ := E
  obtain ⟨l', n'⟩ := E'
  rcases n with ⟨z, _⟩ | ⟨k, k3, k24, hb, w, lt, _, _⟩
  · exact (h0 z).elim
  · rcases n' with ⟨z, _, h⟩ | ⟨k', k3', k24', hb', _⟩
    · exact (ar_no lt (h k k3 k24 (hw k k24 w))).elim
    · rw [hb']
      exact nI_ne0 (by omega) (by omega)
end
end
section
/-! the relation -/
/-- Y's RAM in ENTRY: the words k .. 7 of the frame at word q lie over X's RAM -/
def ov_ (rm fr : Nat → Int32) (q k : Nat) : Nat → Int32 := fun j => if j < 64 ∧ (j + 64 - q) % 64 < 8 ∧ k ≤ (j + 64 - q) % 64 then fr ((j + 64 - q) % 64) else rm j
def rl_G (ln tl dp nw pr pm am th bs : Int32) (cd py lv ac st wt rc : Nat → Int32) : Prop :=
  ∃ L T D W : Nat, ln = nI L ∧ tl = nI T ∧ dp = nI D ∧ nw = nI W ∧ (1 ≤ T ∧ T ≤ 8) ∧ W < 8 ∧ ar_A L D pm am py lv ac wt ∧ ar_EN pr D ac (upd py 3 (-1)) wt th bs ∧ (∀ i, i < 8 → st ((W + 8 - i) % 8) = rc i) ∧ (∀ j, ∃ m, m < 65536 ∧ cd j = nI m)
def rl_H (msp psp ss : Int32) (rg sp : Nat → Int32) : Prop := rg 13 = 0 ∧ rg 15 = 0 ∧ sp 0 = msp ∧ sp 1 = psp ∧ (ss = 0 ∨ ss = 1)
def rl_F (ph lf fb bs msp psp : Int32) (rg fr rm rY : Nat → Int32) : Prop :=
  (ph = 0 ∧ lf = 0 ∧ rY = rm) ∨
  (ph = 1 ∧ ¬ bs = 0 ∧ ∃ l q, 1 ≤ l ∧ l ≤ 8 ∧ q < 64 ∧ lf = nI l ∧ fb = nI q ∧ rY = ov_ rm fr q (8 - l)) ∨
  (ph = 2 ∧ ¬ bs = 0 ∧ (∃ l, 1 ≤ l ∧ l ≤ 8 ∧ lf = nI l) ∧ rY = rm) ∨
  (ph = 3 ∧ rY = rm ∧ ∃ l q, 1 ≤ l ∧ l ≤ 8 ∧ q < 64 ∧ lf = nI l ∧ fb = nI q ∧ aw_ (if rg 14 = -3 then psp else msp) = q ∧ ∀ k, k < 8 - l → fr k = rm ((q + k) % 64)) ∨
  (ph = 4 ∧ lf = 0 ∧ rY = rm)
def rl_R (u : SX) (v : SY) : Prop := match u, v with
  | (msp, psp, pc, fl, pr, ss, ph, lf, fb, ln, tl, pm, am, th, bs, dp, nw, cd, rm, rg, fr, py, vc, lv, ac, st), (pc', fl', pr', ss', dp', ph', lf', ln', tl', cd', rY, rg', sp, wt, py', vc', ac', rc) =>
    (pc' = pc ∧ fl' = fl ∧ pr' = pr ∧ ss' = ss ∧ dp' = dp ∧ ph' = ph ∧ lf' = lf ∧ ln' = ln ∧ tl' = tl ∧ cd' = cd ∧ rg' = rg ∧ py' = upd py 3 (-1) ∧ vc' = vc ∧ ac' = ac) ∧
    rl_G ln tl dp nw pr pm am th bs cd py lv ac st wt rc ∧ rl_H msp psp ss rg sp ∧ rl_F ph lf fb bs msp psp rg fr rm rY
def i_Rel (k : Nat) (u : SX) (v : SY) : Prop := rl_R u v
theorem i_up {k : Nat} {u : SX} {v : SY} (h : i_Rel k u v) : i_Rel (k + 4) u v := h
theorem rl_el {P : SX → SY → Prop} {u : SX} {v : SY} (h : ∀ (msp psp pc fl pr ss ph lf fb ln tl pm am th bs dp nw : Int32) (cd rm rg fr py vc lv ac st sp wt rc : Nat → Int32) (rY : Nat → Int32), rl_G ln tl dp nw pr pm am th bs cd py lv ac st wt rc → rl_H msp psp ss rg sp → rl_F ph lf fb bs msp psp rg fr rm rY → P (msp, psp, pc, fl, pr, ss, ph, lf, fb, ln, tl, pm, am, th, bs, dp, nw, cd, rm, rg, fr, py, vc, lv, ac, st) (pc, fl, pr, ss, dp, ph, lf, ln, tl, cd, rY, rg, sp, wt, upd py 3 (-1), vc, ac, rc)) (I : rl_R u v) : P u v := by
  obtain ⟨msp, psp, pc, fl, pr, ss, ph, lf, fb, ln, tl, pm, am, th, bs, dp, nw, cd, rm, rg, fr, py, vc, lv, ac, st⟩ := u
  obtain ⟨pc', fl', pr', ss', dp', ph', lf', ln', tl', cd', rY, rg', sp, wt, py', vc', ac', rc⟩ := v
  obtain ⟨⟨e1, e2, e3, e4, e5, e6, e7, e8, e9, e10, e11, e12, e13, e14⟩, g, k, f⟩ := I
  subst e1 e2 e3 e4 e5 e6 e7 e8 e9 e10 e11 e12 e13 e14
  exact h _ _ _ _ _ _ _ _ _ _ _ _ _ _ _ _ _ _ _ _ _ _ _ _ _ _ _ _ _ _ g k f
section
variable {msp psp pc fl pr ss ph lf fb ln tl pm am th bs dp nw : Int32} {cd rm rg fr py vc lv ac st sp wt rc : Nat → Int32} {rY : Nat → Int32}
theorem rl_in (g : rl_G ln tl dp nw pr pm am th bs cd py lv ac st wt rc) (h : rl_H msp psp ss rg sp) (f : rl_F ph lf fb bs msp psp rg fr rm rY) : rl_R (msp, psp, pc, fl, pr, ss, ph, lf, fb, ln, tl, pm, am, th, bs, dp, nw, cd, rm, rg, fr, py, vc, lv, ac, st) (pc, fl, pr, ss, dp, ph, lf, ln, tl, cd, rY, rg, sp, wt, upd py 3 (-1), vc, ac, rc) :=
  ⟨⟨rfl, rfl, rfl, rfl, rfl, rfl, rfl, rfl, rfl, rfl, rfl, rfl, rfl, rfl⟩, g, h, f⟩
theorem rl_0 (g : rl_G ln tl dp nw pr pm am th bs cd py lv ac st wt rc) (h : rl_H msp psp ss rg sp) : rl_R (msp, psp, pc, fl, pr, ss, 0, 0, fb, ln, tl, pm, am, th, bs, dp, nw, cd, rm, rg, fr, py, vc, lv, ac, st) (pc, fl, pr, ss, dp, 0, 0, ln, tl, cd, rm, rg, sp, wt, upd py 3 (-1), vc, ac, rc) :=
  rl_in g h (Or.inl ⟨rfl, rfl, rfl⟩)
theorem rl_4 (g : rl_G ln tl dp nw pr pm am th bs cd py lv ac st wt rc) (h : rl_H msp psp ss rg sp) : rl_R (msp, psp, pc, fl, pr, ss, 4, 0, fb, ln, tl, pm, am, th, bs, dp, nw, cd, rm, rg, fr, py, vc, lv, ac, st) (pc, fl, pr, ss, dp, 4, 0, ln, tl, cd, rm, rg, sp, wt, upd py 3 (-1), vc, ac, rc) :=
  rl_in g h (Or.inr (Or.inr (Or.inr (Or.inr ⟨rfl, rfl, rfl⟩))))
end
/-- one outcome for both sides -/
def oc_ (WX : (SX → Prop) → Prop) (WY : (SY → Prop) → Prop) : Prop := ∃ u v, rl_R u v ∧ (∀ p, p u → WX p) ∧ (∀ p, p v → WY p)
end
section
/-! X decodes -/
section
variable {u : SX} {m : Nat} {msp psp pc fl pr ss ph lf fb ln tl pm am th bs dp nw : Int32} {cd rm rg fr py vc lv ac st : Nat → Int32}
theorem xd_0 (hm : m < 65536) (hc : cd (((pc.toUInt32 >>> ((1 : Int32).toUInt32 &&& Int32.toUInt32 31)).toInt32) &&& 127).toNatClampNeg = nI m) (hk : m / 4096 = 0) (H : ∀ p, p u → wpX_shiftOrAdd p (msp, psp, pc, fl, pr, ss, ph, lf, fb, ln, tl, pm, am, th, bs, dp, nw, cd, rm, rg, fr, py, vc, lv, ac, st) (nI m)) : ∀ p, p u → wpX_execute p (msp, psp, pc, fl, pr, ss, ph, lf, fb, ln, tl, pm, am, th, bs, dp, nw, cd, rm, rg, fr, py, vc, lv, ac, st) := by
  intro p hp
  refine ⟨ia_127 _, nm_r hc (nm_r ((du_12 hm).trans (congrArg nI hk)) ?_)⟩
  exact br_f (by decide) (br_f (by decide) (br_t (by decide) (H _ (xt_eta hp))))
theorem xd_1 (hm : m < 65536) (hc : cd (((pc.toUInt32 >>> ((1 : Int32).toUInt32 &&& Int32.toUInt32 31)).toInt32) &&& 127).toNatClampNeg = nI m) (hk : m / 4096 = 1) (H : ∀ p, p u → wpX_shiftOrAdd p (msp, psp, pc, fl, pr, ss, ph, lf, fb, ln, tl, pm, am, th, bs, dp, nw, cd, rm, rg, fr, py, vc, lv, ac, st) (nI m)) : ∀ p, p u → wpX_execute p (msp, psp, pc, fl, pr, ss, ph, lf, fb, ln, tl, pm, am, th, bs, dp, nw, cd, rm, rg, fr, py, vc, lv, ac, st) := by
  intro p hp
  refine ⟨ia_127 _, nm_r hc (nm_r ((du_12 hm).trans (congrArg nI hk)) ?_)⟩
  exact br_f (by decide) (br_f (by decide) (br_f (by decide) (br_t (by decide) (H _ (xt_eta hp)))))
theorem xd_2 (hm : m < 65536) (hc : cd (((pc.toUInt32 >>> ((1 : Int32).toUInt32 &&& Int32.toUInt32 31)).toInt32) &&& 127).toNatClampNeg = nI m) (hk : m / 4096 = 2) (H : ∀ p, p u → wpX_immediate p (msp, psp, pc, fl, pr, ss, ph, lf, fb, ln, tl, pm, am, th, bs, dp, nw, cd, rm, rg, fr, py, vc, lv, ac, st) (nI m)) : ∀ p, p u → wpX_execute p (msp, psp, pc, fl, pr, ss, ph, lf, fb, ln, tl, pm, am, th, bs, dp, nw, cd, rm, rg, fr, py, vc, lv, ac, st) := by
  intro p hp
  refine ⟨ia_127 _, nm_r hc (nm_r ((du_12 hm).trans (congrArg nI hk)) ?_)⟩
  exact br_f (by decide) (br_f (by decide) (br_f (by decide) (br_f (by decide) (br_t (by decide) (H _ (xt_eta hp))))))
theorem xd_3 (hm : m < 65536) (hc : cd (((pc.toUInt32 >>> ((1 : Int32).toUInt32 &&& Int32.toUInt32 31)).toInt32) &&& 127).toNatClampNeg = nI m) (hk : m / 4096 = 3) (H : ∀ p, p u → wpX_immediate p (msp, psp, pc, fl, pr, ss, ph, lf, fb, ln, tl, pm, am, th, bs, dp, nw, cd, rm, rg, fr, py, vc, lv, ac, st) (nI m)) : ∀ p, p u → wpX_execute p (msp, psp, pc, fl, pr, ss, ph, lf, fb, ln, tl, pm, am, th, bs, dp, nw, cd, rm, rg, fr, py, vc, lv, ac, st) := by
  intro p hp
  refine ⟨ia_127 _, nm_r hc (nm_r ((du_12 hm).trans (congrArg nI hk)) ?_)⟩
  exact br_f (by decide) (br_f (by decide) (br_f (by decide) (br_f (by decide) (br_f (by decide) (br_t (by decide) (H _ (xt_eta hp)))))))
theorem xd_4 (hm : m < 65536) (hc : cd (((pc.toUInt32 >>> ((1 : Int32).toUInt32 &&& Int32.toUInt32 31)).toInt32) &&& 127).toNatClampNeg = nI m) (hk : m / 4096 = 4) (H : ∀ p, p u → wpX_registerGroup p (msp, psp, pc, fl, pr, ss, ph, lf, fb, ln, tl, pm, am, th, bs, dp, nw, cd, rm, rg, fr, py, vc, lv, ac, st) (nI m)) : ∀ p, p u → wpX_execute p (msp, psp, pc, fl, pr, ss, ph, lf, fb, ln, tl, pm, am, th, bs, dp, nw, cd, rm, rg, fr, py, vc, lv, ac, st) := by
  intro p hp
  refine ⟨ia_127 _, nm_r hc (nm_r ((du_12 hm).trans (congrArg nI hk)) ?_)⟩
  exact br_f (by decide) (br_f (by decide) (br_f (by decide) (br_f (by decide) (br_f (by decide) (br_f (by decide) (br_t (by decide) (H _ (xt_eta hp))))))))
theorem xd_5 (hm : m < 65536) (hc : cd (((pc.toUInt32 >>> ((1 : Int32).toUInt32 &&& Int32.toUInt32 31)).toInt32) &&& 127).toNatClampNeg = nI m) (hk : m / 4096 = 5) (H : ∀ p, p u → wpX_undefined p (msp, psp, pc, fl, pr, ss, ph, lf, fb, ln, tl, pm, am, th, bs, dp, nw, cd, rm, rg, fr, py, vc, lv, ac, st)) : ∀ p, p u → wpX_execute p (msp, psp, pc, fl, pr, ss, ph, lf, fb, ln, tl, pm, am, th, bs, dp, nw, cd, rm, rg, fr, py, vc, lv, ac, st) := by
  intro p hp
  refine ⟨ia_127 _, nm_r hc (nm_r ((du_12 hm).trans (congrArg nI hk)) ?_)⟩
  exact br_f (by decide) (br_f (by decide) (br_f (by decide) (br_f (by decide) (br_f (by decide) (br_f (by decide) (br_f (by decide) (br_t (by decide) (H _ (xt_eta hp)))))))))
theorem xd_6 (hm : m < 65536) (hc : cd (((pc.toUInt32 >>> ((1 : Int32).toUInt32 &&& Int32.toUInt32 31)).toInt32) &&& 127).toNatClampNeg = nI m) (hk : m / 4096 = 6) (H : ∀ p, p u → wpX_memory p (msp, psp, pc, fl, pr, ss, ph, lf, fb, ln, tl, pm, am, th, bs, dp, nw, cd, rm, rg, fr, py, vc, lv, ac, st) (nI m)) : ∀ p, p u → wpX_execute p (msp, psp, pc, fl, pr, ss, ph, lf, fb, ln, tl, pm, am, th, bs, dp, nw, cd, rm, rg, fr, py, vc, lv, ac, st) := by
  intro p hp
  refine ⟨ia_127 _, nm_r hc (nm_r ((du_12 hm).trans (congrArg nI hk)) ?_)⟩
  exact br_f (by decide) (br_f (by decide) (br_f (by decide) (br_f (by decide) (br_f (by decide) (br_f (by decide) (br_f (by decide) (br_f (by decide) (br_t (by decide) (H _ (xt_eta hp))))))))))
theorem xd_7 (hm : m < 65536) (hc : cd (((pc.toUInt32 >>> ((1 : Int32).toUInt32 &&& Int32.toUInt32 31)).toInt32) &&& 127).toNatClampNeg = nI m) (hk : m / 4096 = 7) (H : ∀ p, p u → wpX_undefined p (msp, psp, pc, fl, pr, ss, ph, lf, fb, ln, tl, pm, am, th, bs, dp, nw, cd, rm, rg, fr, py, vc, lv, ac, st)) : ∀ p, p u → wpX_execute p (msp, psp, pc, fl, pr, ss, ph, lf, fb, ln, tl, pm, am, th, bs, dp, nw, cd, rm, rg, fr, py, vc, lv, ac, st) := by
  intro p hp
  refine ⟨ia_127 _, nm_r hc (nm_r ((du_12 hm).trans (congrArg nI hk)) ?_)⟩
  exact br_f (by decide) (br_f (by decide) (br_f (by decide) (br_f (by decide) (br_f (by decide) (br_f (by decide) (br_f (by decide) (br_f (by decide) (br_f (by decide) (br_t (by decide) (H _ (xt_eta hp)))))))))))
theorem xd_8 (hm : m < 65536) (hc : cd (((pc.toUInt32 >>> ((1 : Int32).toUInt32 &&& Int32.toUInt32 31)).toInt32) &&& 127).toNatClampNeg = nI m) (hk : m / 4096 = 8) (H : ∀ p, p u → wpX_undefined p (msp, psp, pc, fl, pr, ss, ph, lf, fb, ln, tl, pm, am, th, bs, dp, nw, cd, rm, rg, fr, py, vc, lv, ac, st)) : ∀ p, p u → wpX_execute p (msp, psp, pc, fl, pr, ss, ph, lf, fb, ln, tl, pm, am, th, bs, dp, nw, cd, rm, rg, fr, py, vc, lv, ac, st) := by
  intro p hp
  refine ⟨ia_127 _, nm_r hc (nm_r ((du_12 hm).trans (congrArg nI hk)) ?_)⟩
  exact br_f (by decide) (br_f (by decide) (br_f (by decide) (br_f (by decide) (br_f (by decide) (br_f (by decide) (br_f (by decide) (br_f (by decide) (br_f (by decide) (br_f (by decide) (br_t (by decide) (H _ (xt_eta hp))))))))))))
theorem xd_9 (hm : m < 65536) (hc : cd (((pc.toUInt32 >>> ((1 : Int32).toUInt32 &&& Int32.toUInt32 31)).toInt32) &&& 127).toNatClampNeg = nI m) (hk : m / 4096 = 9) (H : ∀ p, p u → wpX_undefined p (msp, psp, pc, fl, pr, ss, ph, lf, fb, ln, tl, pm, am, th, bs, dp, nw, cd, rm, rg, fr, py, vc, lv, ac, st)) : ∀ p, p u → wpX_execute p (msp, psp, pc, fl, pr, ss, ph, lf, fb, ln, tl, pm, am, th, bs, dp, nw, cd, rm, rg, fr, py, vc, lv, ac, st) := by
  intro p hp
  refine ⟨ia_127 _, nm_r hc (nm_r ((du_12 hm).trans (congrArg nI hk)) ?_)⟩
  exact br_f (by decide) (br_f (by decide) (br_f (by decide) (br_f (by decide) (br_f (by decide) (br_f (by decide) (br_f (by decide) (br_f (by decide) (br_f (by decide) (br_f (by decide) (br_f (by decide) (br_t (by decide) (H _ (xt_eta hp)))))))))))))
theorem xd_10 (hm : m < 65536) (hc : cd (((pc.toUInt32 >>> ((1 : Int32).toUInt32 &&& Int32.toUInt32 31)).toInt32) &&& 127).toNatClampNeg = nI m) (hk : m / 4096 = 10) (H : ∀ p, p u → wpX_undefined p (msp, psp, pc, fl, pr, ss, ph, lf, fb, ln, tl, pm, am, th, bs, dp, nw, cd, rm, rg, fr, py, vc, lv, ac, st)) : ∀ p, p u → wpX_execute p (msp, psp, pc, fl, pr, ss, ph, lf, fb, ln, tl, pm, am, th, bs, dp, nw, cd, rm, rg, fr, py, vc, lv, ac, st) := by
  intro p hp
  refine ⟨ia_127 _, nm_r hc (nm_r ((du_12 hm).trans (congrArg nI hk)) ?_)⟩
  exact br_f (by decide) (br_f (by decide) (br_f (by decide) (br_f (by decide) (br_f (by decide) (br_f (by decide) (br_f (by decide) (br_f (by decide) (br_f (by decide) (br_f (by decide) (br_f (by decide) (br_f (by decide) (br_t (by decide) (H _ (xt_eta hp))))))))))))))
theorem xd_11 (hm : m < 65536) (hc : cd (((pc.toUInt32 >>> ((1 : Int32).toUInt32 &&& Int32.toUInt32 31)).toInt32) &&& 127).toNatClampNeg = nI m) (hk : m / 4096 = 11) (H : ∀ p, p u → wpX_stackGroup p (msp, psp, pc, fl, pr, ss, ph, lf, fb, ln, tl, pm, am, th, bs, dp, nw, cd, rm, rg, fr, py, vc, lv, ac, st) (nI m)) : ∀ p, p u → wpX_execute p (msp, psp, pc, fl, pr, ss, ph, lf, fb, ln, tl, pm, am, th, bs, dp, nw, cd, rm, rg, fr, py, vc, lv, ac, st) := by
  intro p hp
  refine ⟨ia_127 _, nm_r hc (nm_r ((du_12 hm).trans (congrArg nI hk)) ?_)⟩
  exact br_f (by decide) (br_f (by decide) (br_f (by decide) (br_f (by decide) (br_f (by decide) (br_f (by decide) (br_f (by decide) (br_f (by decide) (br_f (by decide) (br_f (by decide) (br_f (by decide) (br_f (by decide) (br_f (by decide) (br_t (by decide) (H _ (xt_eta hp)))))))))))))))
theorem xd_12 (hm : m < 65536) (hc : cd (((pc.toUInt32 >>> ((1 : Int32).toUInt32 &&& Int32.toUInt32 31)).toInt32) &&& 127).toNatClampNeg = nI m) (hk : m / 4096 = 12) (H : ∀ p, p u → wpX_undefined p (msp, psp, pc, fl, pr, ss, ph, lf, fb, ln, tl, pm, am, th, bs, dp, nw, cd, rm, rg, fr, py, vc, lv, ac, st)) : ∀ p, p u → wpX_execute p (msp, psp, pc, fl, pr, ss, ph, lf, fb, ln, tl, pm, am, th, bs, dp, nw, cd, rm, rg, fr, py, vc, lv, ac, st) := by
  intro p hp
  refine ⟨ia_127 _, nm_r hc (nm_r ((du_12 hm).trans (congrArg nI hk)) ?_)⟩
  exact br_f (by decide) (br_f (by decide) (br_f (by decide) (br_f (by decide) (br_f (by decide) (br_f (by decide) (br_f (by decide) (br_f (by decide) (br_f (by decide) (br_f (by decide) (br_f (by decide) (br_f (by decide) (br_f (by decide) (br_f (by decide) (br_t (by decide) (H _ (xt_eta hp))))))))))))))))
theorem xd_13 (hm : m < 65536) (hc : cd (((pc.toUInt32 >>> ((1 : Int32).toUInt32 &&& Int32.toUInt32 31)).toInt32) &&& 127).toNatClampNeg = nI m) (hk : m / 4096 = 13) (H : ∀ p, p u → wpX_conditionalGroup p (msp, psp, pc, fl, pr, ss, ph, lf, fb, ln, tl, pm, am, th, bs, dp, nw, cd, rm, rg, fr, py, vc, lv, ac, st) (nI m)) : ∀ p, p u → wpX_execute p (msp, psp, pc, fl, pr, ss, ph, lf, fb, ln, tl, pm, am, th, bs, dp, nw, cd, rm, rg, fr, py, vc, lv, ac, st) := by
  intro p hp
  refine ⟨ia_127 _, nm_r hc (nm_r ((du_12 hm).trans (congrArg nI hk)) ?_)⟩
  exact br_f (by decide) (br_f (by decide) (br_f (by decide) (br_f (by decide) (br_f (by decide) (br_f (by decide) (br_f (by decide) (br_f (by decide) (br_f (by decide) (br_f (by decide) (br_f (by decide) (br_f (by decide) (br_f (by decide) (br_f (by decide) (br_f (by decide) (br_t (by decide) (H _ (xt_eta hp)))))))))))))))))
theorem xd_14 (hm : m < 65536) (hc : cd (((pc.toUInt32 >>> ((1 : Int32).toUInt32 &&& Int32.toUInt32 31)).toInt32) &&& 127).toNatClampNeg = nI m) (hk : m / 4096 = 14) (H : ∀ p, p u → wpX_branch p (msp, psp, pc, fl, pr, ss, ph, lf, fb, ln, tl, pm, am, th, bs, dp, nw, cd, rm, rg, fr, py, vc, lv, ac, st) (nI m)) : ∀ p, p u → wpX_execute p (msp, psp, pc, fl, pr, ss, ph, lf, fb, ln, tl, pm, am, th, bs, dp, nw, cd, rm, rg, fr, py, vc, lv, ac, st) := by
  intro p hp
  refine ⟨ia_127 _, nm_r hc (nm_r ((du_12 hm).trans (congrArg nI hk)) ?_)⟩
  exact br_f (by decide) (br_f (by decide) (br_f (by decide) (br_f (by decide) (br_f (by decide) (br_f (by decide) (br_f (by decide) (br_f (by decide) (br_f (by decide) (br_f (by decide) (br_f (by decide) (br_f (by decide) (br_f (by decide) (br_f (by decide) (br_f (by decide) (br_f (by decide) (br_t (by decide) (H _ (xt_eta hp))))))))))))))))))
theorem xd_15 (hm : m < 65536) (hc : cd (((pc.toUInt32 >>> ((1 : Int32).toUInt32 &&& Int32.toUInt32 31)).toInt32) &&& 127).toNatClampNeg = nI m) (hk : m / 4096 = 15) (H : ∀ p, p u → wpX_specialGroup p (msp, psp, pc, fl, pr, ss, ph, lf, fb, ln, tl, pm, am, th, bs, dp, nw, cd, rm, rg, fr, py, vc, lv, ac, st) (nI m)) : ∀ p, p u → wpX_execute p (msp, psp, pc, fl, pr, ss, ph, lf, fb, ln, tl, pm, am, th, bs, dp, nw, cd, rm, rg, fr, py, vc, lv, ac, st) := by
  intro p hp
  refine ⟨ia_127 _, nm_r hc (nm_r ((du_12 hm).trans (congrArg nI hk)) ?_)⟩
  exact br_f (by decide) (br_f (by decide) (br_f (by decide) (br_f (by decide) (br_f (by decide) (br_f (by decide) (br_f (by decide) (br_f (by decide) (br_f (by decide) (br_f (by decide) (br_f (by decide) (br_f (by decide) (br_f (by decide) (br_f (by decide) (br_f (by decide) (br_f (by decide) (br_f (by decide) (br_t (by decide) (H _ (xt_eta hp)))))))))))))))))))
theorem xr_256 (hm : m < 65536) (hk : m / 64 = 256) (H : ∀ p, p u → wpX_logical p (msp, psp, pc, fl, pr, ss, ph, lf, fb, ln, tl, pm, am, th, bs, dp, nw, cd, rm, rg, fr, py, vc, lv, ac, st) (nI m) (rg (nI m &&& 7).toNatClampNeg &&& rg (((nI m).toUInt32 >>> ((3 : Int32).toUInt32 &&& Int32.toUInt32 31)).toInt32 &&& 7).toNatClampNeg)) : ∀ p, p u → wpX_registerGroup p (msp, psp, pc, fl, pr, ss, ph, lf, fb, ln, tl, pm, am, th, bs, dp, nw, cd, rm, rg, fr, py, vc, lv, ac, st) (nI m) := by
  intro p hp
  refine ⟨ia_7 _, nm_e ⟨ia_7 _, nm_e (nm_r ((du_6 hm).trans (congrArg nI hk)) ?_)⟩⟩
  exact br_f (by decide) (br_f (by decide) (br_t (by decide) (H _ (xt_eta hp))))
theorem xr_257 (hm : m < 65536) (hk : m / 64 = 257) (H : ∀ p, p u → wpX_logical p (msp, psp, pc, fl, pr, ss, ph, lf, fb, ln, tl, pm, am, th, bs, dp, nw, cd, rm, rg, fr, py, vc, lv, ac, st) (nI m) (rg (nI m &&& 7).toNatClampNeg ^^^ rg (((nI m).toUInt32 >>> ((3 : Int32).toUInt32 &&& Int32.toUInt32 31)).toInt32 &&& 7).toNatClampNeg)) : ∀ p, p u → wpX_registerGroup p (msp, psp, pc, fl, pr, ss, ph, lf, fb, ln, tl, pm, am, th, bs, dp, nw, cd, rm, rg, fr, py, vc, lv, ac, st) (nI m) := by
  intro p hp
  refine ⟨ia_7 _, nm_e ⟨ia_7 _, nm_e (nm_r ((du_6 hm).trans (congrArg nI hk)) ?_)⟩⟩
  exact br_f (by decide) (br_f (by decide) (br_f (by decide) (br_t (by decide) (H _ (xt_eta hp)))))
theorem xr_258 (hm : m < 65536) (hk : m / 64 = 258) (H : ∀ p, p u → wpX_undefined p (msp, psp, pc, fl, pr, ss, ph, lf, fb, ln, tl, pm, am, th, bs, dp, nw, cd, rm, rg, fr, py, vc, lv, ac, st)) : ∀ p, p u → wpX_registerGroup p (msp, psp, pc, fl, pr, ss, ph, lf, fb, ln, tl, pm, am, th, bs, dp, nw, cd, rm, rg, fr, py, vc, lv, ac, st) (nI m) := by
  intro p hp
  refine ⟨ia_7 _, nm_e ⟨ia_7 _, nm_e (nm_r ((du_6 hm).trans (congrArg nI hk)) ?_)⟩⟩
  exact br_f (by decide) (br_f (by decide) (br_f (by decide) (br_f (by decide) (br_t (by decide) (H _ (xt_eta hp))))))
theorem xr_259 (hm : m < 65536) (hk : m / 64 = 259) (H : ∀ p, p u → wpX_undefined p (msp, psp, pc, fl, pr, ss, ph, lf, fb, ln, tl, pm, am, th, bs, dp, nw, cd, rm, rg, fr, py, vc, lv, ac, st)) : ∀ p, p u → wpX_registerGroup p (msp, psp, pc, fl, pr, ss, ph, lf, fb, ln, tl, pm, am, th, bs, dp, nw, cd, rm, rg, fr, py, vc, lv, ac, st) (nI m) := by
  intro p hp
  refine ⟨ia_7 _, nm_e ⟨ia_7 _, nm_e (nm_r ((du_6 hm).trans (congrArg nI hk)) ?_)⟩⟩
  exact br_f (by decide) (br_f (by decide) (br_f (by decide) (br_f (by decide) (br_f (by decide) (br_t (by decide) (H _ (xt_eta hp)))))))
theorem xr_260 (hm : m < 65536) (hk : m / 64 = 260) (H : ∀ p, p u → wpX_undefined p (msp, psp, pc, fl, pr, ss, ph, lf, fb, ln, tl, pm, am, th, bs, dp, nw, cd, rm, rg, fr, py, vc, lv, ac, st)) : ∀ p, p u → wpX_registerGroup p (msp, psp, pc, fl, pr, ss, ph, lf, fb, ln, tl, pm, am, th, bs, dp, nw, cd, rm, rg, fr, py, vc, lv, ac, st) (nI m) := by
  intro p hp
  refine ⟨ia_7 _, nm_e ⟨ia_7 _, nm_e (nm_r ((du_6 hm).trans (congrArg nI hk)) ?_)⟩⟩
  exact br_f (by decide) (br_f (by decide) (br_f (by decide) (br_f (by decide) (br_f (by decide) (br_f (by decide) (br_t (by decide) (H _ (xt_eta hp))))))))
theorem xr_261 (hm : m < 65536) (hk : m / 64 = 261) (H : ∀ p, p u → wpX_undefined p (msp, psp, pc, fl, pr, ss, ph, lf, fb, ln, tl, pm, am, th, bs, dp, nw, cd, rm, rg, fr, py, vc, lv, ac, st)) : ∀ p, p u → wpX_registerGroup p (msp, psp, pc, fl, pr, ss, ph, lf, fb, ln, tl, pm, am, th, bs, dp, nw, cd, rm, rg, fr, py, vc, lv, ac, st) (nI m) := by
  intro p hp
  refine ⟨ia_7 _, nm_e ⟨ia_7 _, nm_e (nm_r ((du_6 hm).trans (congrArg nI hk)) ?_)⟩⟩
  exact br_f (by decide) (br_f (by decide) (br_f (by decide) (br_f (by decide) (br_f (by decide) (br_f (by decide) (br_f (by decide) (br_t (by decide) (H _ (xt_eta hp)))))))))
theorem xr_262 (hm : m < 65536) (hk : m / 64 = 262) (H : ∀ p, p u → wpX_undefined p (msp, psp, pc, fl, pr, ss, ph, lf, fb, ln, tl, pm, am, th, bs, dp, nw, cd, rm, rg, fr, py, vc, lv, ac, st)) : ∀ p, p u → wpX_registerGroup p (msp, psp, pc, fl, pr, ss, ph, lf, fb, ln, tl, pm, am, th, bs, dp, nw, cd, rm, rg, fr, py, vc, lv, ac, st) (nI m) := by
  intro p hp
  refine ⟨ia_7 _, nm_e ⟨ia_7 _, nm_e (nm_r ((du_6 hm).trans (congrArg nI hk)) ?_)⟩⟩
  exact br_f (by decide) (br_f (by decide) (br_f (by decide) (br_f (by decide) (br_f (by decide) (br_f (by decide) (br_f (by decide) (br_f (by decide) (br_t (by decide) (H _ (xt_eta hp))))))))))
theorem xr_263 (hm : m < 65536) (hk : m / 64 = 263) (H : ∀ p, p u → wpX_undefined p (msp, psp, pc, fl, pr, ss, ph, lf, fb, ln, tl, pm, am, th, bs, dp, nw, cd, rm, rg, fr, py, vc, lv, ac, st)) : ∀ p, p u → wpX_registerGroup p (msp, psp, pc, fl, pr, ss, ph, lf, fb, ln, tl, pm, am, th, bs, dp, nw, cd, rm, rg, fr, py, vc, lv, ac, st) (nI m) := by
  intro p hp
  refine ⟨ia_7 _, nm_e ⟨ia_7 _, nm_e (nm_r ((du_6 hm).trans (congrArg nI hk)) ?_)⟩⟩
  exact br_f (by decide) (br_f (by decide) (br_f (by decide) (br_f (by decide) (br_f (by decide) (br_f (by decide) (br_f (by decide) (br_f (by decide) (br_f (by decide) (br_t (by decide) (H _ (xt_eta hp)))))))))))
theorem xr_264 (hm : m < 65536) (hk : m / 64 = 264) (H : ∀ p, p u → wpX_undefined p (msp, psp, pc, fl, pr, ss, ph, lf, fb, ln, tl, pm, am, th, bs, dp, nw, cd, rm, rg, fr, py, vc, lv, ac, st)) : ∀ p, p u → wpX_registerGroup p (msp, psp, pc, fl, pr, ss, ph, lf, fb, ln, tl, pm, am, th, bs, dp, nw, cd, rm, rg, fr, py, vc, lv, ac, st) (nI m) := by
  intro p hp
  refine ⟨ia_7 _, nm_e ⟨ia_7 _, nm_e (nm_r ((du_6 hm).trans (congrArg nI hk)) ?_)⟩⟩
  exact br_f (by decide) (br_f (by decide) (br_f (by decide) (br_f (by decide) (br_f (by decide) (br_f (by decide) (br_f (by decide) (br_f (by decide) (br_f (by decide) (br_f (by decide) (br_t (by decide) (H _ (xt_eta hp))))))))))))
theorem xr_265 (hm : m < 65536) (hk : m / 64 = 265) (H : ∀ p, p u → wpX_undefined p (msp, psp, pc, fl, pr, ss, ph, lf, fb, ln, tl, pm, am, th, bs, dp, nw, cd, rm, rg, fr, py, vc, lv, ac, st)) : ∀ p, p u → wpX_registerGroup p (msp, psp, pc, fl, pr, ss, ph, lf, fb, ln, tl, pm, am, th, bs, dp, nw, cd, rm, rg, fr, py, vc, lv, ac, st) (nI m) := by
  intro p hp
  refine ⟨ia_7 _, nm_e ⟨ia_7 _, nm_e (nm_r ((du_6 hm).trans (congrArg nI hk)) ?_)⟩⟩
  exact br_f (by decide) (br_f (by decide) (br_f (by decide) (br_f (by decide) (br_f (by decide) (br_f (by decide) (br_f (by decide) (br_f (by decide) (br_f (by decide) (br_f (by decide) (br_f (by decide) (br_t (by decide) (H _ (xt_eta hp)))))))))))))
theorem xr_267 (hm : m < 65536) (hk : m / 64 = 267) (H : ∀ p, p u → wpX_undefined p (msp, psp, pc, fl, pr, ss, ph, lf, fb, ln, tl, pm, am, th, bs, dp, nw, cd, rm, rg, fr, py, vc, lv, ac, st)) : ∀ p, p u → wpX_registerGroup p (msp, psp, pc, fl, pr, ss, ph, lf, fb, ln, tl, pm, am, th, bs, dp, nw, cd, rm, rg, fr, py, vc, lv, ac, st) (nI m) := by
  intro p hp
  refine ⟨ia_7 _, nm_e ⟨ia_7 _, nm_e (nm_r ((du_6 hm).trans (congrArg nI hk)) ?_)⟩⟩
  exact br_f (by decide) (br_f (by decide) (br_f (by decide) (br_f (by decide) (br_f (by decide) (br_f (by decide) (br_f (by decide) (br_f (by decide) (br_f (by decide) (br_f (by decide) (br_f (by decide) (br_f (by decide) (br_f (by decide) (br_t (by decide) (H _ (xt_eta hp)))))))))))))))
theorem xr_268 (hm : m < 65536) (hk : m / 64 = 268) (H : ∀ p, p u → wpX_logical p (msp, psp, pc, fl, pr, ss, ph, lf, fb, ln, tl, pm, am, th, bs, dp, nw, cd, rm, rg, fr, py, vc, lv, ac, st) (nI m) (rg (nI m &&& 7).toNatClampNeg ||| rg (((nI m).toUInt32 >>> ((3 : Int32).toUInt32 &&& Int32.toUInt32 31)).toInt32 &&& 7).toNatClampNeg)) : ∀ p, p u → wpX_registerGroup p (msp, psp, pc, fl, pr, ss, ph, lf, fb, ln, tl, pm, am, th, bs, dp, nw, cd, rm, rg, fr, py, vc, lv, ac, st) (nI m) := by
  intro p hp
  refine ⟨ia_7 _, nm_e ⟨ia_7 _, nm_e (nm_r ((du_6 hm).trans (congrArg nI hk)) ?_)⟩⟩
  exact br_f (by decide) (br_f (by decide) (br_f (by decide) (br_f (by decide) (br_f (by decide) (br_f (by decide) (br_f (by decide) (br_f (by decide) (br_f (by decide) (br_f (by decide) (br_f (by decide) (br_f (by decide) (br_f (by decide) (br_f (by decide) (br_t (by decide) (H _ (xt_eta hp))))))))))))))))
theorem xr_269 (hm : m < 65536) (hk : m / 64 = 269) (H : ∀ p, p u → wpX_undefined p (msp, psp, pc, fl, pr, ss, ph, lf, fb, ln, tl, pm, am, th, bs, dp, nw, cd, rm, rg, fr, py, vc, lv, ac, st)) : ∀ p, p u → wpX_registerGroup p (msp, psp, pc, fl, pr, ss, ph, lf, fb, ln, tl, pm, am, th, bs, dp, nw, cd, rm, rg, fr, py, vc, lv, ac, st) (nI m) := by
  intro p hp
  refine ⟨ia_7 _, nm_e ⟨ia_7 _, nm_e (nm_r ((du_6 hm).trans (congrArg nI hk)) ?_)⟩⟩
  exact br_f (by decide) (br_f (by decide) (br_f (by decide) (br_f (by decide) (br_f (by decide) (br_f (by decide) (br_f (by decide) (br_f (by decide) (br_f (by decide) (br_f (by decide) (br_f (by decide) (br_f (by decide) (br_f (by decide) (br_f (by decide) (br_f (by decide) (br_t (by decide) (H _ (xt_eta hp)))))))))))))))))
theorem xr_270 (hm : m < 65536) (hk : m / 64 = 270) (H : ∀ p, p u → wpX_undefined p (msp, psp, pc, fl, pr, ss, ph, lf, fb, ln, tl, pm, am, th, bs, dp, nw, cd, rm, rg, fr, py, vc, lv, ac, st)) : ∀ p, p u → wpX_registerGroup p (msp, psp, pc, fl, pr, ss, ph, lf, fb, ln, tl, pm, am, th, bs, dp, nw, cd, rm, rg, fr, py, vc, lv, ac, st) (nI m) := by
  intro p hp
  refine ⟨ia_7 _, nm_e ⟨ia_7 _, nm_e (nm_r ((du_6 hm).trans (congrArg nI hk)) ?_)⟩⟩
  exact br_f (by decide) (br_f (by decide) (br_f (by decide) (br_f (by decide) (br_f (by decide) (br_f (by decide) (br_f (by decide) (br_f (by decide) (br_f (by decide) (br_f (by decide) (br_f (by decide) (br_f (by decide) (br_f (by decide) (br_f (by decide) (br_f (by decide) (br_f (by decide) (br_t (by decide) (H _ (xt_eta hp))))))))))))))))))
theorem xr_271 (hm : m < 65536) (hk : m / 64 = 271) (H : ∀ p, p u → wpX_undefined p (msp, psp, pc, fl, pr, ss, ph, lf, fb, ln, tl, pm, am, th, bs, dp, nw, cd, rm, rg, fr, py, vc, lv, ac, st)) : ∀ p, p u → wpX_registerGroup p (msp, psp, pc, fl, pr, ss, ph, lf, fb, ln, tl, pm, am, th, bs, dp, nw, cd, rm, rg, fr, py, vc, lv, ac, st) (nI m) := by
  intro p hp
  refine ⟨ia_7 _, nm_e ⟨ia_7 _, nm_e (nm_r ((du_6 hm).trans (congrArg nI hk)) ?_)⟩⟩
  exact br_f (by decide) (br_f (by decide) (br_f (by decide) (br_f (by decide) (br_f (by decide) (br_f (by decide) (br_f (by decide) (br_f (by decide) (br_f (by decide) (br_f (by decide) (br_f (by decide) (br_f (by decide) (br_f (by decide) (br_f (by decide) (br_f (by decide) (br_f (by decide) (br_f (by decide) (br_t (by decide) (H _ (xt_eta hp)))))))))))))))))))
theorem xr_272 (hm : m < 65536) (hk : m / 64 = 272) (H : ∀ p, p u → wpX_undefined p (msp, psp, pc, fl, pr, ss, ph, lf, fb, ln, tl, pm, am, th, bs, dp, nw, cd, rm, rg, fr, py, vc, lv, ac, st)) : ∀ p, p u → wpX_registerGroup p (msp, psp, pc, fl, pr, ss, ph, lf, fb, ln, tl, pm, am, th, bs, dp, nw, cd, rm, rg, fr, py, vc, lv, ac, st) (nI m) := by
  intro p hp
  refine ⟨ia_7 _, nm_e ⟨ia_7 _, nm_e (nm_r ((du_6 hm).trans (congrArg nI hk)) ?_)⟩⟩
  exact br_f (by decide) (br_f (by decide) (br_f (by decide) (br_f (by decide) (br_f (by decide) (br_f (by decide) (br_f (by decide) (br_f (by decide) (br_f (by decide) (br_f (by decide) (br_f (by decide) (br_f (by decide) (br_f (by decide) (br_f (by decide) (br_f (by decide) (br_f (by decide) (br_f (by decide) (br_f (by decide) (br_t (by decide) (H _ (xt_eta hp))))))))))))))))))))
theorem xr_273 (hm : m < 65536) (hk : m / 64 = 273) (H : ∀ p, p u → wpX_undefined p (msp, psp, pc, fl, pr, ss, ph, lf, fb, ln, tl, pm, am, th, bs, dp, nw, cd, rm, rg, fr, py, vc, lv, ac, st)) : ∀ p, p u → wpX_registerGroup p (msp, psp, pc, fl, pr, ss, ph, lf, fb, ln, tl, pm, am, th, bs, dp, nw, cd, rm, rg, fr, py, vc, lv, ac, st) (nI m) := by
  intro p hp
  refine ⟨ia_7 _, nm_e ⟨ia_7 _, nm_e (nm_r ((du_6 hm).trans (congrArg nI hk)) ?_)⟩⟩
  exact br_f (by decide) (br_f (by decide) (br_f (by decide) (br_f (by decide) (br_f (by decide) (br_f (by decide) (br_f (by decide) (br_f (by decide) (br_f (by decide) (br_f (by decide) (br_f (by decide) (br_f (by decide) (br_f (by decide) (br_f (by decide) (br_f (by decide) (br_f (by decide) (br_f (by decide) (br_f (by decide) (br_f (by decide) (br_t (by decide) (H _ (xt_eta hp)))))))))))))))))))))
theorem xr_274 (hm : m < 65536) (hk : m / 64 = 274) (H : ∀ p, p u → wpX_undefined p (msp, psp, pc, fl, pr, ss, ph, lf, fb, ln, tl, pm, am, th, bs, dp, nw, cd, rm, rg, fr, py, vc, lv, ac, st)) : ∀ p, p u → wpX_registerGroup p (msp, psp, pc, fl, pr, ss, ph, lf, fb, ln, tl, pm, am, th, bs, dp, nw, cd, rm, rg, fr, py, vc, lv, ac, st) (nI m) := by
  intro p hp
  refine ⟨ia_7 _, nm_e ⟨ia_7 _, nm_e (nm_r ((du_6 hm).trans (congrArg nI hk)) ?_)⟩⟩
  exact br_f (by decide) (br_f (by decide) (br_f (by decide) (br_f (by decide) (br_f (by decide) (br_f (by decide) (br_f (by decide) (br_f (by decide) (br_f (by decide) (br_f (by decide) (br_f (by decide) (br_f (by decide) (br_f (by decide) (br_f (by decide) (br_f (by decide) (br_f (by decide) (br_f (by decide) (br_f (by decide) (br_f (by decide) (br_f (by decide) (br_t (by decide) (H _ (xt_eta hp))))))))))))))))))))))
theorem xr_275 (hm : m < 65536) (hk : m / 64 = 275) (H : ∀ p, p u → wpX_undefined p (msp, psp, pc, fl, pr, ss, ph, lf, fb, ln, tl, pm, am, th, bs, dp, nw, cd, rm, rg, fr, py, vc, lv, ac, st)) : ∀ p, p u → wpX_registerGroup p (msp, psp, pc, fl, pr, ss, ph, lf, fb, ln, tl, pm, am, th, bs, dp, nw, cd, rm, rg, fr, py, vc, lv, ac, st) (nI m) := by
  intro p hp
  refine ⟨ia_7 _, nm_e ⟨ia_7 _, nm_e (nm_r ((du_6 hm).trans (congrArg nI hk)) ?_)⟩⟩
  exact br_f (by decide) (br_f (by decide) (br_f (by decide) (br_f (by decide) (br_f (by decide) (br_f (by decide) (br_f (by decide) (br_f (by decide) (br_f (by decide) (br_f (by decide) (br_f (by decide) (br_f (by decide) (br_f (by decide) (br_f (by decide) (br_f (by decide) (br_f (by decide) (br_f (by decide) (br_f (by decide) (br_f (by decide) (br_f (by decide) (br_f (by decide) (br_t (by decide) (H _ (xt_eta hp)))))))))))))))))))))))
theorem xr_276 (hm : m < 65536) (hk : m / 64 = 276) (H : ∀ p, p u → wpX_undefined p (msp, psp, pc, fl, pr, ss, ph, lf, fb, ln, tl, pm, am, th, bs, dp, nw, cd, rm, rg, fr, py, vc, lv, ac, st)) : ∀ p, p u → wpX_registerGroup p (msp, psp, pc, fl, pr, ss, ph, lf, fb, ln, tl, pm, am, th, bs, dp, nw, cd, rm, rg, fr, py, vc, lv, ac, st) (nI m) := by
  intro p hp
  refine ⟨ia_7 _, nm_e ⟨ia_7 _, nm_e (nm_r ((du_6 hm).trans (congrArg nI hk)) ?_)⟩⟩
  exact br_f (by decide) (br_f (by decide) (br_f (by decide) (br_f (by decide) (br_f (by decide) (br_f (by decide) (br_f (by decide) (br_f (by decide) (br_f (by decide) (br_f (by decide) (br_f (by decide) (br_f (by decide) (br_f (by decide) (br_f (by decide) (br_f (by decide) (br_f (by decide) (br_f (by decide) (br_f (by decide) (br_f (by decide) (br_f (by decide) (br_f (by decide) (br_f (by decide) (br_t (by decide) (H _ (xt_eta hp))))))))))))))))))))))))
theorem xr_277 (hm : m < 65536) (hk : m / 64 = 277) (H : ∀ p, p u → wpX_undefined p (msp, psp, pc, fl, pr, ss, ph, lf, fb, ln, tl, pm, am, th, bs, dp, nw, cd, rm, rg, fr, py, vc, lv, ac, st)) : ∀ p, p u → wpX_registerGroup p (msp, psp, pc, fl, pr, ss, ph, lf, fb, ln, tl, pm, am, th, bs, dp, nw, cd, rm, rg, fr, py, vc, lv, ac, st) (nI m) := by
  intro p hp
  refine ⟨ia_7 _, nm_e ⟨ia_7 _, nm_e (nm_r ((du_6 hm).trans (congrArg nI hk)) ?_)⟩⟩
  exact br_f (by decide) (br_f (by decide) (br_f (by decide) (br_f (by decide) (br_f (by decide) (br_f (by decide) (br_f (by decide) (br_f (by decide) (br_f (by decide) (br_f (by decide) (br_f (by decide) (br_f (by decide) (br_f (by decide) (br_f (by decide) (br_f (by decide) (br_f (by decide) (br_f (by decide) (br_f (by decide) (br_f (by decide) (br_f (by decide) (br_f (by decide) (br_f (by decide) (br_f (by decide) (br_t (by decide) (H _ (xt_eta hp)))))))))))))))))))))))))
theorem xr_278 (hm : m < 65536) (hk : m / 64 = 278) (H : ∀ p, p u → wpX_undefined p (msp, psp, pc, fl, pr, ss, ph, lf, fb, ln, tl, pm, am, th, bs, dp, nw, cd, rm, rg, fr, py, vc, lv, ac, st)) : ∀ p, p u → wpX_registerGroup p (msp, psp, pc, fl, pr, ss, ph, lf, fb, ln, tl, pm, am, th, bs, dp, nw, cd, rm, rg, fr, py, vc, lv, ac, st) (nI m) := by
  intro p hp
  refine ⟨ia_7 _, nm_e ⟨ia_7 _, nm_e (nm_r ((du_6 hm).trans (congrArg nI hk)) ?_)⟩⟩
  exact br_f (by decide) (br_f (by decide) (br_f (by decide) (br_f (by decide) (br_f (by decide) (br_f (by decide) (br_f (by decide) (br_f (by decide) (br_f (by decide) (br_f (by decide) (br_f (by decide) (br_f (by decide) (br_f (by decide) (br_f (by decide) (br_f (by decide) (br_f (by decide) (br_f (by decide) (br_f (by decide) (br_f (by decide) (br_f (by decide) (br_f (by decide) (br_f (by decide) (br_f (by decide) (br_f (by decide) (br_t (by decide) (H _ (xt_eta hp))))))))))))))))))))))))))
theorem xr_279 (hm : m < 65536) (hk : m / 64 = 279) (H : ∀ p, p u → wpX_undefined p (msp, psp, pc, fl, pr, ss, ph, lf, fb, ln, tl, pm, am, th, bs, dp, nw, cd, rm, rg, fr, py, vc, lv, ac, st)) : ∀ p, p u → wpX_registerGroup p (msp, psp, pc, fl, pr, ss, ph, lf, fb, ln, tl, pm, am, th, bs, dp, nw, cd, rm, rg, fr, py, vc, lv, ac, st) (nI m) := by
  intro p hp
  refine ⟨ia_7 _, nm_e ⟨ia_7 _, nm_e (nm_r ((du_6 hm).trans (congrArg nI hk)) ?_)⟩⟩
  exact br_f (by decide) (br_f (by decide) (br_f (by decide) (br_f (by decide) (br_f (by decide) (br_f (by decide) (br_f (by decide) (br_f (by decide) (br_f (by decide) (br_f (by decide) (br_f (by decide) (br_f (by decide) (br_f (by decide) (br_f (by decide) (br_f (by decide) (br_f (by decide) (br_f (by decide) (br_f (by decide) (br_f (by decide) (br_f (by decide) (br_f (by decide) (br_f (by decide) (br_f (by decide) (br_f (by decide) (br_f (by decide) (br_t (by decide) (H _ (xt_eta hp)))))))))))))))))))))))))))
theorem xr_280 (hm : m < 65536) (hk : m / 64 = 280) (H : ∀ p, p u → wpX_move p (msp, psp, pc, fl, pr, ss, ph, lf, fb, ln, tl, pm, am, th, bs, dp, nw, cd, rm, rg, fr, py, vc, lv, ac, st) (nI m)) : ∀ p, p u → wpX_registerGroup p (msp, psp, pc, fl, pr, ss, ph, lf, fb, ln, tl, pm, am, th, bs, dp, nw, cd, rm, rg, fr, py, vc, lv, ac, st) (nI m) := by
  intro p hp
  refine ⟨ia_7 _, nm_e ⟨ia_7 _, nm_e (nm_r ((du_6 hm).trans (congrArg nI hk)) ?_)⟩⟩
  exact br_f (by decide) (br_f (by decide) (br_f (by decide) (br_f (by decide) (br_f (by decide) (br_f (by decide) (br_f (by decide) (br_f (by decide) (br_f (by decide) (br_f (by decide) (br_f (by decide) (br_f (by decide) (br_f (by decide) (br_f (by decide) (br_f (by decide) (br_f (by decide) (br_f (by decide) (br_f (by decide) (br_f (by decide) (br_f (by decide) (br_f (by decide) (br_f (by decide) (br_f (by decide) (br_f (by decide) (br_f (by decide) (br_f (by decide) (br_t (by decide) (H _ (xt_eta hp))))))))))))))))))))))))))))
theorem xr_281 (hm : m < 65536) (hk : m / 64 = 281) (H : ∀ p, p u → wpX_move p (msp, psp, pc, fl, pr, ss, ph, lf, fb, ln, tl, pm, am, th, bs, dp, nw, cd, rm, rg, fr, py, vc, lv, ac, st) (nI m)) : ∀ p, p u → wpX_registerGroup p (msp, psp, pc, fl, pr, ss, ph, lf, fb, ln, tl, pm, am, th, bs, dp, nw, cd, rm, rg, fr, py, vc, lv, ac, st) (nI m) := by
  intro p hp
  refine ⟨ia_7 _, nm_e ⟨ia_7 _, nm_e (nm_r ((du_6 hm).trans (congrArg nI hk)) ?_)⟩⟩
  exact br_f (by decide) (br_f (by decide) (br_f (by decide) (br_f (by decide) (br_f (by decide) (br_f (by decide) (br_f (by decide) (br_f (by decide) (br_f (by decide) (br_f (by decide) (br_f (by decide) (br_f (by decide) (br_f (by decide) (br_f (by decide) (br_f (by decide) (br_f (by decide) (br_f (by decide) (br_f (by decide) (br_f (by decide) (br_f (by decide) (br_f (by decide) (br_f (by decide) (br_f (by decide) (br_f (by decide) (br_f (by decide) (br_f (by decide) (br_f (by decide) (br_t (by decide) (H _ (xt_eta hp)))))))))))))))))))))))))))))
theorem xr_282 (hm : m < 65536) (hk : m / 64 = 282) (H : ∀ p, p u → wpX_move p (msp, psp, pc, fl, pr, ss, ph, lf, fb, ln, tl, pm, am, th, bs, dp, nw, cd, rm, rg, fr, py, vc, lv, ac, st) (nI m)) : ∀ p, p u → wpX_registerGroup p (msp, psp, pc, fl, pr, ss, ph, lf, fb, ln, tl, pm, am, th, bs, dp, nw, cd, rm, rg, fr, py, vc, lv, ac, st) (nI m) := by
  intro p hp
  refine ⟨ia_7 _, nm_e ⟨ia_7 _, nm_e (nm_r ((du_6 hm).trans (congrArg nI hk)) ?_)⟩⟩
  exact br_f (by decide) (br_f (by decide) (br_f (by decide) (br_f (by decide) (br_f (by decide) (br_f (by decide) (br_f (by decide) (br_f (by decide) (br_f (by decide) (br_f (by decide) (br_f (by decide) (br_f (by decide) (br_f (by decide) (br_f (by decide) (br_f (by decide) (br_f (by decide) (br_f (by decide) (br_f (by decide) (br_f (by decide) (br_f (by decide) (br_f (by decide) (br_f (by decide) (br_f (by decide) (br_f (by decide) (br_f (by decide) (br_f (by decide) (br_f (by decide) (br_f (by decide) (br_t (by decide) (H _ (xt_eta hp))))))))))))))))))))))))))))))
theorem xr_283 (hm : m < 65536) (hk : m / 64 = 283) (H : ∀ p, p u → wpX_move p (msp, psp, pc, fl, pr, ss, ph, lf, fb, ln, tl, pm, am, th, bs, dp, nw, cd, rm, rg, fr, py, vc, lv, ac, st) (nI m)) : ∀ p, p u → wpX_registerGroup p (msp, psp, pc, fl, pr, ss, ph, lf, fb, ln, tl, pm, am, th, bs, dp, nw, cd, rm, rg, fr, py, vc, lv, ac, st) (nI m) := by
  intro p hp
  refine ⟨ia_7 _, nm_e ⟨ia_7 _, nm_e (nm_r ((du_6 hm).trans (congrArg nI hk)) ?_)⟩⟩
  exact br_f (by decide) (br_f (by decide) (br_f (by decide) (br_f (by decide) (br_f (by decide) (br_f (by decide) (br_f (by decide) (br_f (by decide) (br_f (by decide) (br_f (by decide) (br_f (by decide) (br_f (by decide) (br_f (by decide) (br_f (by decide) (br_f (by decide) (br_f (by decide) (br_f (by decide) (br_f (by decide) (br_f (by decide) (br_f (by decide) (br_f (by decide) (br_f (by decide) (br_f (by decide) (br_f (by decide) (br_f (by decide) (br_f (by decide) (br_f (by decide) (br_f (by decide) (br_f (by decide) (br_t (by decide) (H _ (xt_eta hp)))))))))))))))))))))))))))))))
theorem xr_284 (hm : m < 65536) (hk : m / 64 = 284) (H : ∀ p, p u → wpX_branchExchange p (msp, psp, pc, fl, pr, ss, ph, lf, fb, ln, tl, pm, am, th, bs, dp, nw, cd, rm, rg, fr, py, vc, lv, ac, st) (nI m)) : ∀ p, p u → wpX_registerGroup p (msp, psp, pc, fl, pr, ss, ph, lf, fb, ln, tl, pm, am, th, bs, dp, nw, cd, rm, rg, fr, py, vc, lv, ac, st) (nI m) := by
  intro p hp
  refine ⟨ia_7 _, nm_e ⟨ia_7 _, nm_e (nm_r ((du_6 hm).trans (congrArg nI hk)) ?_)⟩⟩
  exact br_f (by decide) (br_f (by decide) (br_f (by decide) (br_f (by decide) (br_f (by decide) (br_f (by decide) (br_f (by decide) (br_f (by decide) (br_f (by decide) (br_f (by decide) (br_f (by decide) (br_f (by decide) (br_f (by decide) (br_f (by decide) (br_f (by decide) (br_f (by decide) (br_f (by decide) (br_f (by decide) (br_f (by decide) (br_f (by decide) (br_f (by decide) (br_f (by decide) (br_f (by decide) (br_f (by decide) (br_f (by decide) (br_f (by decide) (br_f (by decide) (br_f (by decide) (br_f (by decide) (br_f (by decide) (br_t (by decide) (H _ (xt_eta hp))))))))))))))))))))))))))))))))
theorem xr_285 (hm : m < 65536) (hk : m / 64 = 285) (H : ∀ p, p u → wpX_branchExchange p (msp, psp, pc, fl, pr, ss, ph, lf, fb, ln, tl, pm, am, th, bs, dp, nw, cd, rm, rg, fr, py, vc, lv, ac, st) (nI m)) : ∀ p, p u → wpX_registerGroup p (msp, psp, pc, fl, pr, ss, ph, lf, fb, ln, tl, pm, am, th, bs, dp, nw, cd, rm, rg, fr, py, vc, lv, ac, st) (nI m) := by
  intro p hp
  refine ⟨ia_7 _, nm_e ⟨ia_7 _, nm_e (nm_r ((du_6 hm).trans (congrArg nI hk)) ?_)⟩⟩
  exact br_f (by decide) (br_f (by decide) (br_f (by decide) (br_f (by decide) (br_f (by decide) (br_f (by decide) (br_f (by decide) (br_f (by decide) (br_f (by decide) (br_f (by decide) (br_f (by decide) (br_f (by decide) (br_f (by decide) (br_f (by decide) (br_f (by decide) (br_f (by decide) (br_f (by decide) (br_f (by decide) (br_f (by decide) (br_f (by decide) (br_f (by decide) (br_f (by decide) (br_f (by decide) (br_f (by decide) (br_f (by decide) (br_f (by decide) (br_f (by decide) (br_f (by decide) (br_f (by decide) (br_f (by decide) (br_f (by decide) (br_t (by decide) (H _ (xt_eta hp)))))))))))))))))))))))))))))))))
theorem xr_286 (hm : m < 65536) (hk : 285 < m / 64) (H : ∀ p, p u → wpX_undefined p (msp, psp, pc, fl, pr, ss, ph, lf, fb, ln, tl, pm, am, th, bs, dp, nw, cd, rm, rg, fr, py, vc, lv, ac, st)) : ∀ p, p u → wpX_registerGroup p (msp, psp, pc, fl, pr, ss, ph, lf, fb, ln, tl, pm, am, th, bs, dp, nw, cd, rm, rg, fr, py, vc, lv, ac, st) (nI m) := by
  intro p hp
  refine ⟨ia_7 _, nm_e ⟨ia_7 _, nm_e (nm_r (du_6 hm) ?_)⟩⟩
  exact br_f (nI_nlt (b := 256) (by omega) (by omega)) (br_t (nI_lt (a := 285) (by omega) (by omega)) (H _ (xt_eta hp)))
end
end
section
/-! Y decodes: what falls through each join of perform -/
section
variable {post : Int32 → SY → Prop} {m : Nat} {pc fl pr ss dp ph lf ln tl : Int32} {cd rm rg sp wt py vc ac rc : Nat → Int32} {x2 x3 x5 x6 x7 x8 x9 : Int32}
theorem yd_412 (hm : m < 65536) (h : m < 17152 ∨ 17215 < m) (H : wY_perform_452 post (nI m) x2 x3 x5 x6 x7 x8 x9 pc fl pr ss dp ph lf ln tl cd rm rg sp wt py vc ac rc) : wY_perform_412 post (nI m) x2 x3 x5 x6 x7 x8 x9 pc fl pr ss dp ph lf ln tl cd rm rg sp wt py vc ac rc := by
  refine br_c (fun _ => H) (fun g => br_c (fun _ => H) (fun z => ?_))
  have g1 := mt (fun q => nI_lt (b := 17152) q (by decide)) g
  have g2 := mt (fun q => nI_lt (a := 17215) q (by omega)) z
  omega
theorem yd_452 (hm : m < 65536) (h : m < 17920 ∨ 18175 < m) (H : wY_perform_501 post (nI m) x2 x3 x5 x6 x7 x9 pc fl pr ss dp ph lf ln tl cd rm rg sp wt py vc ac rc) : wY_perform_452 post (nI m) x2 x3 x5 x6 x7 x8 x9 pc fl pr ss dp ph lf ln tl cd rm rg sp wt py vc ac rc := by
  refine br_c (fun _ => H) (fun g => br_c (fun _ => H) (fun z => ?_))
  have g1 := mt (fun q => nI_lt (b := 17920) q (by decide)) g
  have g2 := mt (fun q => nI_lt (a := 18175) q (by omega)) z
  omega
theorem yd_501 (hm : m < 65536) (h : m < 18176 ∨ 18303 < m) (H : wY_perform_542 post (nI m) x2 x3 x5 x6 x7 pc fl pr ss dp ph lf ln tl cd rm rg sp wt py vc ac rc) : wY_perform_501 post (nI m) x2 x3 x5 x6 x7 x9 pc fl pr ss dp ph lf ln tl cd rm rg sp wt py vc ac rc := by
  refine br_c (fun _ => H) (fun g => br_c (fun _ => H) (fun z => ?_))
  have g1 := mt (fun q => nI_lt (b := 18176) q (by decide)) g
  have g2 := mt (fun q => nI_lt (a := 18303) q (by omega)) z
  omega
theorem yd_542 (hm : m < 65536) (h : m < 24576 ∨ 26623 < m) (H : wY_perform_580 post (nI m) x2 x3 x5 x6 x7 pc fl pr ss dp ph lf ln tl cd rm rg sp wt py vc ac rc) : wY_perform_542 post (nI m) x2 x3 x5 x6 x7 pc fl pr ss dp ph lf ln tl cd rm rg sp wt py vc ac rc := by
  refine br_c (fun _ => H) (fun g => br_c (fun _ => H) (fun z => ?_))
  have g1 := mt (fun q => nI_lt (b := 24576) q (by decide)) g
  have g2 := mt (fun q => nI_lt (a := 26623) q (by omega)) z
  omega
theorem yd_580 (hm : m < 65536) (h : m < 26624 ∨ 28671 < m) (H : wY_perform_618 post (nI m) x5 x6 pc fl pr ss dp ph lf ln tl cd rm rg sp wt py vc ac rc) : wY_perform_580 post (nI m) x2 x3 x5 x6 x7 pc fl pr ss dp ph lf ln tl cd rm rg sp wt py vc ac rc := by
  refine br_c (fun _ => H) (fun g => br_c (fun _ => H) (fun z => ?_))
  have g1 := mt (fun q => nI_lt (b := 26624) q (by decide)) g
  have g2 := mt (fun q => nI_lt (a := 28671) q (by omega)) z
  omega
theorem yd_618 (hm : m < 65536) (h : m < 46081 ∨ 46591 < m) (H : wY_perform_638 post (nI m) x5 x6 pc fl pr ss dp ph lf ln tl cd rm rg sp wt py vc ac rc) : wY_perform_618 post (nI m) x5 x6 pc fl pr ss dp ph lf ln tl cd rm rg sp wt py vc ac rc := by
  refine br_c (fun _ => H) (fun g => br_c (fun _ => H) (fun z => ?_))
  have g1 := mt (fun q => nI_le (b := 46080) q (by decide)) g
  have g2 := mt (fun q => nI_lt (a := 46591) q (by omega)) z
  omega
theorem yd_638 (hm : m < 65536) (h : m < 48129 ∨ 48639 < m) (H : wY_perform_658 post (nI m) x5 x6 pc fl pr ss dp ph lf ln tl cd rm rg sp wt py vc ac rc) : wY_perform_638 post (nI m) x5 x6 pc fl pr ss dp ph lf ln tl cd rm rg sp wt py vc ac rc := by
  refine br_c (fun _ => H) (fun g => br_c (fun _ => H) (fun z => ?_))
  have g1 := mt (fun q => nI_le (b := 48128) q (by decide)) g
  have g2 := mt (fun q => nI_lt (a := 48639) q (by omega)) z
  omega
theorem yd_793 (hm : m < 65536) (h : m < 57088 ∨ 57343 < m) (H : wY_perform_837 post (nI m) pc fl pr ss dp ph lf ln tl cd rm rg sp wt py vc ac rc) : wY_perform_793 post (nI m) pc fl pr ss dp ph lf ln tl cd rm rg sp wt py vc ac rc := by
  refine br_c (fun _ => H) (fun g => br_c (fun _ => H) (fun z => ?_))
  have g1 := mt (fun q => nI_lt (b := 57088) q (by decide)) g
  have g2 := mt (fun q => nI_lt (a := 57343) q (by omega)) z
  omega
theorem yd_837 (hm : m < 65536) (h : m < 57344 ∨ 59391 < m) (H : wY_perform_876 post (nI m) pc fl pr ss dp ph lf ln tl cd rm rg sp wt py vc ac rc) : wY_perform_837 post (nI m) pc fl pr ss dp ph lf ln tl cd rm rg sp wt py vc ac rc := by
  refine br_c (fun _ => H) (fun g => br_c (fun _ => H) (fun z => ?_))
  have g1 := mt (fun q => nI_lt (b := 57344) q (by decide)) g
  have g2 := mt (fun q => nI_lt (a := 59391) q (by omega)) z
  omega
theorem yd_658 (hm : m < 65536) (h1 : m ≠ 46690) (h2 : m ≠ 46706) (h : m < 53248 ∨ 55295 < m) (H : wY_perform_793 post (nI m) pc fl pr ss dp ph lf ln tl cd rm rg sp wt py vc ac rc) : wY_perform_658 post (nI m) x5 x6 pc fl pr ss dp ph lf ln tl cd rm rg sp wt py vc ac rc := by
  refine br_f (fun z => h1 ((nI_eq (b := 46690) (by omega) (by decide)).mp z)) (br_f (fun z => h2 ((nI_eq (b := 46706) (by omega) (by decide)).mp z)) (br_c (fun _ => H) (fun g => br_c (fun _ => H) (fun z => ?_))))
  have g1 := mt (fun q => nI_lt (b := 53248) q (by decide)) g
  have g2 := mt (fun q => nI_lt (a := 55295) q (by omega)) z
  omega
theorem yd_876 (hm : m < 65536) (h : m < 62336 ∨ 62351 < m) (H : wY_perform_888 post (nI m) pc fl pr ss dp ph lf ln tl cd rm rg sp wt py vc ac rc) : wY_perform_876 post (nI m) pc fl pr ss dp ph lf ln tl cd rm rg sp wt py vc ac rc := by
  refine br_c (fun _ => H) (fun g => br_c (fun z => ?_) (fun _ => H))
  have g1 := mt (fun q => nI_lt (b := 62336) q (by decide)) g
  have g2 := (nI_leI (b := 62351) (by omega) (by decide)).mp z
  omega
theorem yd_888 (hm : m < 65536) (h1 : m ≠ 62447) (h2 : m ≠ 48896) (H : post 0 (pc, fl, pr, ss, dp, ph, lf, ln, tl, cd, rm, rg, sp, wt, py, vc, ac, rc)) : wY_perform_888 post (nI m) pc fl pr ss dp ph lf ln tl cd rm rg sp wt py vc ac rc := br_f (fun z => h1 ((nI_eq (b := 62447) (by omega) (by decide)).mp z)) (br_f (fun z => h2 ((nI_eq (b := 48896) (by omega) (by decide)).mp z)) H)
theorem yu_876 (hm : m < 65536) (h : m < 62336 ∨ 62351 < m) (h1 : m ≠ 62447) (h2 : m ≠ 48896) (H : post 0 (pc, fl, pr, ss, dp, ph, lf, ln, tl, cd, rm, rg, sp, wt, py, vc, ac, rc)) : wY_perform_876 post (nI m) pc fl pr ss dp ph lf ln tl cd rm rg sp wt py vc ac rc := yd_876 hm h (yd_888 hm h1 h2 H)
theorem yu_658 (hm : m < 65536) (a1 : m ≠ 46690) (a2 : m ≠ 46706) (a3 : m < 53248 ∨ 55295 < m) (a4 : m < 57088 ∨ 57343 < m) (a5 : m < 57344 ∨ 59391 < m) (h : m < 62336 ∨ 62351 < m) (h1 : m ≠ 62447) (h2 : m ≠ 48896) (H : post 0 (pc, fl, pr, ss, dp, ph, lf, ln, tl, cd, rm, rg, sp, wt, py, vc, ac, rc)) : wY_perform_658 post (nI m) x5 x6 pc fl pr ss dp ph lf ln tl cd rm rg sp wt py vc ac rc := yd_658 hm a1 a2 a3 (yd_793 hm a4 (yd_837 hm a5 (yu_876 hm h h1 h2 H)))
theorem yu_542 (hm : m < 24576) (H : post 0 (pc, fl, pr, ss, dp, ph, lf, ln, tl, cd, rm, rg, sp, wt, py, vc, ac, rc)) : wY_perform_542 post (nI m) x2 x3 x5 x6 x7 pc fl pr ss dp ph lf ln tl cd rm rg sp wt py vc ac rc := yd_542 (by omega) (by omega) (yd_580 (by omega) (by omega) (yd_618 (by omega) (by omega) (yd_638 (by omega) (by omega) (yu_658 (by omega) (by omega) (by omega) (by omega) (by omega) (by omega) (by omega) (by omega) (by omega) H))))
/-- the head of perform, by names -/
theorem yd_top (hm : m < 65536) (h1 : 16511 < m) (h2 : m < 17024 ∨ 17087 < m) (H : wY_perform_412 post (nI m) (nI (m % 8)) (nI (m / 8 % 8)) (nI (m / 256 % 8)) (nI (m % 256)) (nI (m / 64 % 32)) ((nI (m / 16) &&& 8) ||| nI (m % 8)) (nI (m / 8 % 16)) pc fl pr ss dp ph lf ln tl cd rm rg sp wt py vc ac rc) : wpY_perform post (pc, fl, pr, ss, dp, ph, lf, ln, tl, cd, rm, rg, sp, wt, py, vc, ac, rc) (nI m) := by
  refine nm_r (da_7 hm) (nm_r ((congrArg (· &&& 7) (ds_3 hm)).trans (da_7 (by omega))) (nm_r ((congrArg (· &&& 7) (ds_6 hm)).trans (da_7 (by omega))) (nm_r ((congrArg (· &&& 7) (ds_8 hm)).trans (da_7 (by omega))) (nm_r (da_255 hm) (nm_r ((congrArg (· &&& 31) (ds_6 hm)).trans (da_31 (by omega))) (nm_r (congrArg (fun z => (z &&& 8) ||| nI (m % 8)) (ds_4 hm)) (nm_r ((congrArg (· &&& 15) (ds_3 hm)).trans (da_15 (by omega))) ?_)))))))
  refine br_t (nI_lt (a := 2047) (by omega) (by omega)) (br_t (nI_lt (a := 6143) (by omega) (by omega)) (br_t (nI_lt (a := 7167) (by omega) (by omega)) (br_t (nI_lt (a := 8191) (by omega) (by omega)) (br_t (nI_lt (a := 10239) (by omega) (by omega)) (br_t (nI_lt (a := 12287) (by omega) (by omega)) (br_t (nI_lt (a := 16383) (by omega) (by omega)) (br_t (nI_lt (a := 16447) (by omega) (by omega)) (br_t (nI_lt (a := 16511) (by omega) (by omega)) (br_c (fun _ => H) (fun g => br_c (fun _ => H) (fun z => ?_)))))))))))
  have g1 := mt (fun q => nI_lt (b := 17024) q (by decide)) g
  have g2 := mt (fun q => nI_lt (a := 17087) q (by omega)) z
  omega
def yu_m (m : Nat) : Prop := (2048 ≤ m ∧ m ≤ 6143) ∨ (16512 ≤ m ∧ m ≤ 17023) ∨ (17088 ≤ m ∧ m ≤ 17151) ∨ (17216 ≤ m ∧ m ≤ 17919) ∨ (18304 ≤ m ∧ m ≤ 24575) ∨ (28672 ≤ m ∧ m ≤ 46080) ∨ (46592 ≤ m ∧ m ≤ 48128 ∧ m ≠ 46690 ∧ m ≠ 46706) ∨ (48640 ≤ m ∧ m ≤ 53247 ∧ m ≠ 48896) ∨ (55296 ≤ m ∧ m ≤ 57087) ∨ (59392 ≤ m ∧ m ≤ 62335) ∨ (62352 ≤ m ∧ m ≤ 65535 ∧ m ≠ 62447)
theorem yu_top (h : yu_m m) (H : post 0 (pc, fl, pr, ss, dp, ph, lf, ln, tl, cd, rm, rg, sp, wt, py, vc, ac, rc)) : wpY_perform post (pc, fl, pr, ss, dp, ph, lf, ln, tl, cd, rm, rg, sp, wt, py, vc, ac, rc) (nI m) := by
  unfold yu_m at h
  by_cases h0 : m ≤ 6143
  · have hm : m < 65536 := by omega
    refine nm_e (nm_e (nm_e (nm_e (nm_e (nm_e (nm_e (nm_e ?_)))))))
    exact br_t (nI_lt (a := 2047) (by omega) (by omega)) (br_f (nI_nlt (a := 6143) (by omega) (by decide)) H)
  · have hm : m < 65536 := by omega
    exact yd_top hm (by omega) (by omega) (yd_412 hm (by omega) (yd_452 hm (by omega) (yd_501 hm (by omega) (yd_542 hm (by omega) (yd_580 hm (by omega) (yd_618 hm (by omega) (yd_638 hm (by omega) (yu_658 hm (by omega) (by omega) (by omega) (by omega) (by omega) (by omega) (by omega) (by omega) H))))))))
end
end
section
/-! undefined instructions: X's undefined against Y's fault; execute's joints -/
def ye_43 (p : SY → Prop) (x1 : Int32) (w : SY) : Prop := match w with | (pc, fl, pr, ss, dp, ph, lf, ln, tl, cd, rm, rg, sp, wt, py, vc, ac, rc) => wY_execute_43 p x1 pc fl pr ss dp ph lf ln tl cd rm rg sp wt py vc ac rc
section
variable {p : SY → Prop} {m D : Nat} {pc fl pr ss dp ph lf ln tl : Int32} {cd rm rg sp wt py vc ac rc : Nat → Int32} {w : SY} {x1 : Int32}
theorem ye_0 (hph : ¬ ph = 4) (h : p (pc, fl, pr, ss, dp, ph, lf, ln, tl, cd, rm, rg, sp, wt, py, vc, ac, rc)) : ye_43 p x1 (pc, fl, pr, ss, dp, ph, lf, ln, tl, cd, rm, rg, sp, wt, py, vc, ac, rc) := br_f hph h
theorem ye_4 (h : p (x1, fl, pr, ss, dp, 4, lf, ln, tl, cd, rm, rg, sp, wt, py, vc, ac, rc)) : ye_43 p x1 (pc, fl, pr, ss, dp, 4, lf, ln, tl, cd, rm, rg, sp, wt, py, vc, ac, rc) := br_t rfl h
theorem ye_one (hc : cd (((pc.toUInt32 >>> ((1 : Int32).toUInt32 &&& Int32.toUInt32 31)).toInt32) &&& 127).toNatClampNeg = nI m) (hp : ∀ q : Int32 → SY → Prop, q 1 w → wpY_perform q ((pc + 2) &&& 254, fl, pr, ss, dp, ph, lf, ln, tl, cd, rm, rg, sp, wt, py, vc, ac, rc) (nI m)) (h : ye_43 p pc w) : wpY_execute p (pc, fl, pr, ss, dp, ph, lf, ln, tl, cd, rm, rg, sp, wt, py, vc, ac, rc) := by
  have e : cd ((pc >>> ((1 : Int32) &&& 31)) &&& 127).toNatClampNeg = nI m := by rw [pc_ix]; exact hc
  refine nm_e ⟨ia_127 _, ?_⟩
  rw [e]
  refine hp _ ?_
  obtain ⟨pc', fl', pr', ss', dp', ph', lf', ln', tl', cd', rm', rg', sp', wt', py', vc', ac', rc'⟩ := w
  exact br_f (by decide) h
theorem ye_und (hc : cd (((pc.toUInt32 >>> ((1 : Int32).toUInt32 &&& Int32.toUInt32 31)).toInt32) &&& 127).toNatClampNeg = nI m) (hp : ∀ q : Int32 → SY → Prop, q 0 ((pc + 2) &&& 254, fl, pr, ss, dp, ph, lf, ln, tl, cd, rm, rg, sp, wt, py, vc, ac, rc) → wpY_perform q ((pc + 2) &&& 254, fl, pr, ss, dp, ph, lf, ln, tl, cd, rm, rg, sp, wt, py, vc, ac, rc) (nI m)) (h : wpY_fault (fun w => ye_43 p pc w) (pc, fl, pr, ss, dp, ph, lf, ln, tl, cd, rm, rg, sp, wt, py, vc, ac, rc)) : wpY_execute p (pc, fl, pr, ss, dp, ph, lf, ln, tl, cd, rm, rg, sp, wt, py, vc, ac, rc) := by
  have e : cd ((pc >>> ((1 : Int32) &&& 31)) &&& 127).toNatClampNeg = nI m := by rw [pc_ix]; exact hc
  refine nm_e ⟨ia_127 _, ?_⟩
  rw [e]
  exact hp _ (br_t rfl h)
theorem yf_l (hD : D ≤ 10) (hin : (∃ j, j < D ∧ ac j = nI 3) → p (pc, fl, pr, ss, nI D, 4, lf, ln, tl, cd, rm, rg, sp, wt, py, vc, ac, rc)) (hout : (∀ j, j < D → ac j ≠ nI 3) → p (pc, fl, pr, ss, nI D, ph, lf, ln, tl, cd, rm, rg, sp, upd wt 3 1, py, vc, ac, rc)) : ∀ d K n x, K + d = D → d < n → ((x = 1 ∧ ∃ j, j < K ∧ ac j = nI 3) ∨ (x = 0 ∧ ∀ j, j < K → ac j ≠ nI 3)) → wY_fault_4 p pc fl pr ss (nI D) ph lf ln tl cd rm rg sp wt py vc ac rc n x (nI K) := by
  intro d
  induction d with
  | zero =>
    intro K n x hK hn hx
    obtain ⟨n, rfl⟩ : ∃ m, n = m + 1 := ⟨n - 1, by omega⟩
    have e : K = D := by omega
    subst e
    refine br_t (Int32.le_refl _) ?_
    rcases hx with ⟨rfl, h⟩ | ⟨rfl, h⟩
    · exact br_f (by decide) (hin h)
    · exact br_t rfl (nm_r (e' := upd wt 3 1) rfl (hout h))
  | succ d ih =>
    intro K n x hK hn hx
    obtain ⟨n, rfl⟩ : ∃ m, n = m + 1 := ⟨n - 1, by omega⟩
    refine br_f (nI_ge (by omega) (by omega)) (br_f (nI_ge (b := 16) (by omega) (by decide)) ⟨vp_in_nI (by omega) (by decide), ?_⟩)
    rw [nI_clamp (by omega)]
    refine br_c (fun g => nm_r (nI_1 K) (ih (K + 1) n 1 (by omega) (by omega) (Or.inl ⟨rfl, K, by omega, g⟩))) (fun g => nm_r (nI_1 K) (ih (K + 1) n x (by omega) (by omega) ?_))
    rcases hx with ⟨h1, j, hj, e⟩ | ⟨h1, h2⟩
    · exact Or.inl ⟨h1, j, by omega, e⟩
    · exact Or.inr ⟨h1, lt_s h2 g⟩
theorem yf_ (hD : D ≤ 10) (hin : (∃ j, j < D ∧ ac j = nI 3) → p (pc, fl, pr, ss, nI D, 4, lf, ln, tl, cd, rm, rg, sp, wt, py, vc, ac, rc)) (hout : (∀ j, j < D → ac j ≠ nI 3) → p (pc, fl, pr, ss, nI D, ph, lf, ln, tl, cd, rm, rg, sp, upd wt 3 1, py, vc, ac, rc)) : wpY_fault p (pc, fl, pr, ss, nI D, ph, lf, ln, tl, cd, rm, rg, sp, wt, py, vc, ac, rc) :=
  ⟨D + 1, yf_l hD hin hout D 0 (D + 1) 0 (by omega) (by omega) (Or.inr ⟨rfl, fun j hj => by omega⟩)⟩
end
section
variable {L D : Nat} {p : SX → Prop} {msp psp pc fl pr ss ph lf fb ln tl pm am th bs dp nw : Int32} {cd rm rg fr py vc lv ac st : Nat → Int32} {wt : Nat → Int32} {t b : Int32}
theorem xs_raise {k : Nat} (A : ar_A L D (pm ||| ((1 : Int32) <<< (nI k &&& 31))) am py lv ac wt) (E : ar_EN pr D ac (upd py 3 (-1)) wt t b) (h : p (msp, psp, pc, fl, pr, ss, ph, lf, fb, ln, tl, pm ||| ((1 : Int32) <<< (nI k &&& 31)), am, t, b, dp, nw, cd, rm, rg, fr, py, vc, lv, ac, st)) : wpX_raise p (msp, psp, pc, fl, pr, ss, ph, lf, fb, ln, tl, pm, am, th, bs, dp, nw, cd, rm, rg, fr, py, vc, lv, ac, st) (nI k) := nm_e (xw_arb A E h)
theorem xs_un0 (h3 : bt am 3 = false) (h : wpX_raise p (msp, psp, pc, fl, pr, ss, ph, lf, fb, ln, tl, pm, am, th, bs, dp, nw, cd, rm, rg, fr, py, vc, lv, ac, st) 3) : wpX_undefined p (msp, psp, pc, fl, pr, ss, ph, lf, fb, ln, tl, pm, am, th, bs, dp, nw, cd, rm, rg, fr, py, vc, lv, ac, st) := by
  unfold wpX_undefined wpX_faultActive
  exact br_t ((bz_8 am).mpr h3) (br_t rfl h)
theorem xs_un1 (h3 : bt am 3 = true) (h : p (msp, psp, pc, fl, pr, ss, 4, 0, fb, ln, tl, pm, am, th, bs, dp, nw, cd, rm, rg, fr, py, vc, lv, ac, st)) : wpX_undefined p (msp, psp, pc, fl, pr, ss, ph, lf, fb, ln, tl, pm, am, th, bs, dp, nw, cd, rm, rg, fr, py, vc, lv, ac, st) := by
  unfold wpX_undefined wpX_faultActive
  refine br_f (fun z => ?_) (br_f (by decide) h)
  rw [(bz_8 am).mp z] at h3
  exact nomatch h3
end
section
variable {msp psp pc fl pr ss ph lf fb ln tl pm am th bs dp nw : Int32} {cd rm rg fr py vc lv ac st sp wt rc : Nat → Int32}
/-- 3 becomes pending, or LOCKUP, on both sides; Y's program counter as it will be put back -/
theorem un_oc (x1 pc2 : Int32) (g : rl_G ln tl dp nw pr pm am th bs cd py lv ac st wt rc) (hh : rl_H msp psp ss rg sp) : ∃ u v w, (∀ p, p u → wpX_undefined p (msp, psp, pc, fl, pr, ss, 0, 0, fb, ln, tl, pm, am, th, bs, dp, nw, cd, rm, rg, fr, py, vc, lv, ac, st)) ∧ (∀ p : SY → Prop, p w → wpY_fault p (pc2, fl, pr, ss, dp, 0, 0, ln, tl, cd, rm, rg, sp, wt, upd py 3 (-1), vc, ac, rc)) ∧ ((bt am 3 = true ∧ u = (msp, psp, pc, fl, pr, ss, 4, 0, fb, ln, tl, pm, am, th, bs, dp, nw, cd, rm, rg, fr, py, vc, lv, ac, st) ∧ w = (pc2, fl, pr, ss, dp, 4, 0, ln, tl, cd, rm, rg, sp, wt, upd py 3 (-1), vc, ac, rc) ∧ v = w) ∨ (bt am 3 = false ∧ ∃ t b, u = (msp, psp, pc, fl, pr, ss, 0, 0, fb, ln, tl, pm ||| ((1 : Int32) <<< (nI 3 &&& 31)), am, t, b, dp, nw, cd, rm, rg, fr, py, vc, lv, ac, st) ∧ w = (pc2, fl, pr, ss, dp, 0, 0, ln, tl, cd, rm, rg, sp, upd wt 3 1, upd py 3 (-1), vc, ac, rc) ∧ v = w ∧ rl_G ln tl dp nw pr (pm ||| ((1 : Int32) <<< (nI 3 &&& 31))) am t b cd py lv ac st (upd wt 3 1) rc)) := by
  obtain ⟨L, T, D, W, e1, e2, e3, e4, g1, g2, A, E, g3, g4⟩ := g
  obtain ⟨A1, A2, A3, A4, A5, A6, A7, A8, A9⟩ := id A
  subst e3
  cases h3 : bt am 3
  · have A' := ar_pend A (k := 3) (Or.inl rfl)
    obtain ⟨t, b, E'⟩ := ar_ex pr D ac (upd py 3 (-1)) (upd wt 3 1)
    refine ⟨_, _, _, fun p hp => xs_un0 h3 (xs_raise (k := 3) A' E' hp), fun p hp => yf_ A2 (fun z => ?_) (fun z => hp), Or.inr ⟨rfl, t, b, rfl, rfl, rfl, L, T, D, W, e1, e2, rfl, e4, g1, g2, A', E', g3, g4⟩⟩
    obtain ⟨j, hj, e⟩ := z
    have := (A5 3 (by decide)).mpr ⟨j, hj, e⟩
    rw [h3] at this
    exact nomatch this
  · refine ⟨_, _, _, fun p hp => xs_un1 h3 hp, fun p hp => yf_ A2 (fun z => hp) (fun z => ?_), Or.inl ⟨rfl, rfl, rfl, rfl⟩⟩
    obtain ⟨j, hj, e⟩ := (A5 3 (by decide)).mp h3
    exact (z j hj e).elim
/-- an undefined instruction -/
theorem un_ex {m : Nat} (hc : cd (((pc.toUInt32 >>> ((1 : Int32).toUInt32 &&& Int32.toUInt32 31)).toInt32) &&& 127).toNatClampNeg = nI m) (g : rl_G ln tl dp nw pr pm am th bs cd py lv ac st wt rc) (hh : rl_H msp psp ss rg sp) (HX : ∀ u, (∀ p, p u → wpX_undefined p (msp, psp, pc, fl, pr, ss, 0, 0, fb, ln, tl, pm, am, th, bs, dp, nw, cd, rm, rg, fr, py, vc, lv, ac, st)) → (∀ p, p u → wpX_execute p (msp, psp, pc, fl, pr, ss, 0, 0, fb, ln, tl, pm, am, th, bs, dp, nw, cd, rm, rg, fr, py, vc, lv, ac, st))) (HY : ∀ q : Int32 → SY → Prop, q 0 ((pc + 2) &&& 254, fl, pr, ss, dp, 0, 0, ln, tl, cd, rm, rg, sp, wt, upd py 3 (-1), vc, ac, rc) → wpY_perform q ((pc + 2) &&& 254, fl, pr, ss, dp, 0, 0, ln, tl, cd, rm, rg, sp, wt, upd py 3 (-1), vc, ac, rc) (nI m)) : oc_ (fun p => wpX_execute p (msp, psp, pc, fl, pr, ss, 0, 0, fb, ln, tl, pm, am, th, bs, dp, nw, cd, rm, rg, fr, py, vc, lv, ac, st)) (fun p => wpY_execute p (pc, fl, pr, ss, dp, 0, 0, ln, tl, cd, rm, rg, sp, wt, upd py 3 (-1), vc, ac, rc)) := by
  obtain ⟨u, v, w, hX, hY, h⟩ := un_oc pc pc g hh
  rcases h with ⟨h3, eu, ew, ev⟩ | ⟨h3, t, b, eu, ew, ev, g'⟩
  · refine ⟨u, w, ?_, HX u hX, fun p hp => ye_und hc HY (hY _ ?_)⟩
    · rw [eu, ew]; exact rl_4 g hh
    · rw [ew] at hp ⊢; exact ye_4 hp
  · refine ⟨u, w, ?_, HX u hX, fun p hp => ye_und hc HY (hY _ ?_)⟩
    · rw [eu, ew]; exact rl_0 g' hh
    · rw [ew] at hp ⊢; exact ye_0 (by decide) hp
end
end
section
/-! registers and stack pointers in the relation; jumps and returns -/
section
variable {msp psp ss v a : Int32} {rg sp : Nat → Int32} {d : Nat}
theorem rl_Hr (h : rl_H msp psp ss rg sp) (hd : d < 13 ∨ d = 14) : rl_H msp psp ss (upd rg d v) sp := by
  obtain ⟨h1, h2, h3, h4, h5⟩ := h
  exact ⟨by rw [pk_un (by omega), h1], by rw [pk_un (by omega), h2], h3, h4, h5⟩
theorem rl_Hn (h : rl_H msp psp ss rg sp) (hd : d < 13 ∨ d = 14) : rl_H msp psp ss (upd rg (nI d).toNatClampNeg v) sp := by
  rw [nI_clamp (by omega)]
  exact rl_Hr h hd
theorem rl_Hz (h : rl_H msp psp ss rg sp) : rl_H msp psp ss (zs_ rg) sp :=
  rl_Hr (rl_Hr (rl_Hr (rl_Hr (rl_Hr h (by decide)) (by decide)) (by decide)) (by decide)) (by decide)
theorem rl_Hs (h : rl_H msp psp ss rg sp) : rl_H (if ss = 1 then msp else a) (if ss = 1 then a else psp) ss rg (upd sp ss.toNatClampNeg a) := by
  obtain ⟨h1, h2, h3, h4, h5⟩ := h
  rcases h5 with rfl | rfl
  · refine ⟨h1, h2, ?_, ?_, Or.inl rfl⟩
    · rw [if_neg (by decide)]; exact pk_us
    · rw [if_neg (by decide), show (0 : Int32).toNatClampNeg = 0 from by decide, pk_un (by decide)]; exact h4
  · refine ⟨h1, h2, ?_, ?_, Or.inr rfl⟩
    · rw [if_pos rfl, show (1 : Int32).toNatClampNeg = 1 from by decide, pk_un (by decide)]; exact h3
    · rw [if_pos rfl]; exact pk_us
theorem rl_Hi (h : rl_H msp psp ss rg sp) : vp_in ss 2 := by
  obtain ⟨h1, h2, h3, h4, h5⟩ := h
  rcases h5 with rfl | rfl <;> exact vp_in_iff.mpr (by decide)
theorem rl_Hp (h : rl_H msp psp ss rg sp) : sp ss.toNatClampNeg = sp_r ss msp psp := by
  obtain ⟨h1, h2, h3, h4, h5⟩ := h
  rcases h5 with rfl | rfl
  · exact h3
  · exact h4
theorem aw_lt (a : Int32) : aw_ a < 64 := by
  unfold aw_
  obtain ⟨j, hj, e⟩ := pk_andE ((a.toUInt32 >>> ((2 : Int32).toUInt32 &&& Int32.toUInt32 31)).toInt32) (m := 63) 6 (by decide)
  rw [e, nI_clamp (by omega)]
  exact hj
theorem aw_eq (a : Int32) : ((a.toUInt32 >>> ((2 : Int32).toUInt32 &&& Int32.toUInt32 31)).toInt32) &&& 63 = nI (aw_ a) := by
  unfold aw_
  obtain ⟨j, hj, e⟩ := pk_andE ((a.toUInt32 >>> ((2 : Int32).toUInt32 &&& Int32.toUInt32 31)).toInt32) (m := 63) 6 (by decide)
  rw [e, nI_clamp (by omega)]
end
def ir_ (D : Nat) (v : Int32) : Prop := 0 < D ∧ (v.toUInt32 >>> ((28 : Int32).toUInt32 &&& Int32.toUInt32 31)).toInt32 = 15
def gr_ (D : Nat) (v : Int32) : Prop := (v = -15 ∧ 2 ≤ D) ∨ ((v = -7 ∨ v = -3) ∧ D = 1)
section
variable {L D : Nat} {postI : Int32 → Prop} {p : SX → Prop} {msp psp pc fl pr ss ph lf fb ln tl pm am th bs dp nw : Int32} {cd rm rg fr py vc lv ac st : Nat → Int32} {wt : Nat → Int32} {t b v : Int32}
theorem xs_ret1 (hD : D ≤ 10) (h : ir_ D v) (hp : postI 1) : wpX_isReturn postI (msp, psp, pc, fl, pr, ss, ph, lf, fb, ln, tl, pm, am, th, bs, nI D, nw, cd, rm, rg, fr, py, vc, lv, ac, st) v := br_f (nI_nle h.1 (by omega)) (br_t h.2 hp)
theorem xs_ret0 (hD : D ≤ 10) (h : ¬ ir_ D v) (hp : postI 0) : wpX_isReturn postI (msp, psp, pc, fl, pr, ss, ph, lf, fb, ln, tl, pm, am, th, bs, nI D, nw, cd, rm, rg, fr, py, vc, lv, ac, st) v := by
  refine br_c (fun _ => hp) (fun z => br_c (fun y => (h ⟨?_, y⟩).elim) (fun _ => hp))
  rcases Nat.eq_zero_or_pos D with e | e
  · subst e
    exact (z (Int32.le_refl _)).elim
  · exact e
theorem xs_gd1 (hD : D ≤ 10) (h : gr_ D v) (hp : postI 1) : wpX_isGoodReturn postI (msp, psp, pc, fl, pr, ss, ph, lf, fb, ln, tl, pm, am, th, bs, nI D, nw, cd, rm, rg, fr, py, vc, lv, ac, st) v := by
  rcases h with ⟨rfl, h⟩ | ⟨rfl | rfl, h⟩
  · exact br_t rfl (br_f (nI_nlt (b := 2) h (by omega)) hp)
  · subst h
    exact br_f (by decide) (br_t rfl (br_t rfl hp))
  · subst h
    exact br_f (by decide) (br_f (by decide) (br_t rfl (br_t rfl hp)))
theorem xs_gd0 (hD : D ≤ 10) (h : ¬ gr_ D v) (hp : postI 0) : wpX_isGoodReturn postI (msp, psp, pc, fl, pr, ss, ph, lf, fb, ln, tl, pm, am, th, bs, nI D, nw, cd, rm, rg, fr, py, vc, lv, ac, st) v := by
  refine br_c (fun e => br_c (fun _ => hp) (fun z => (h (Or.inl ⟨e, ?_⟩)).elim)) (fun e => br_c (fun e2 => br_c (fun z => (h (Or.inr ⟨Or.inl e2, ?_⟩)).elim) (fun _ => hp)) (fun e2 => br_c (fun e3 => br_c (fun z => (h (Or.inr ⟨Or.inr e3, ?_⟩)).elim) (fun _ => hp)) (fun _ => hp)))
  · have := mt (fun q => nI_lt (b := 2) q (by decide)) z
    omega
  · exact (nI_eq (b := 1) (by omega) (by decide)).mp z
  · exact (nI_eq (b := 1) (by omega) (by decide)).mp z
theorem xs_bret (hD : D + 1 ≤ 10) (A : ar_A L D pm (am &&& (((1 : Int32) <<< (ac D &&& 31)) ^^^ (-1))) py lv ac wt) (E : ar_EN pr D ac (upd py 3 (-1)) wt t b) (h : p (msp, psp, 0, 0, pr, ss, 3, 8, nI (aw_ (if v = -3 then psp else msp)), ln, tl, pm, am &&& (((1 : Int32) <<< (ac D &&& 31)) ^^^ (-1)), t, b, nI D, nw, cd, rm, upd (zs_ rg) 14 v, fr, py, vc, lv, ac, st)) : wpX_beginReturn p (msp, psp, pc, fl, pr, ss, ph, lf, fb, ln, tl, pm, am, th, bs, nI (D + 1), nw, cd, rm, rg, fr, py, vc, lv, ac, st) v := by
  unfold wpX_beginReturn
  refine xs_cur hD ?_
  rw [show cu_ (D + 1) ac = ac D from if_neg (by omega)]
  refine nm_e (nm_r (nI_pred D) (xs_clr (nm_e ?_)))
  refine br_c (fun e => ?_) (fun e => ?_)
  · rw [if_pos e] at h
    exact nm_r (aw_eq psp) (xw_arb A E h)
  · rw [if_neg e] at h
    exact nm_r (aw_eq msp) (xw_arb A E h)
theorem xs_j0 (hD : D ≤ 10) (h : ¬ ir_ D v) (hp : p (msp, psp, v &&& 254, fl, pr, ss, ph, lf, fb, ln, tl, pm, am, th, bs, nI D, nw, cd, rm, rg, fr, py, vc, lv, ac, st)) : wpX_jump p (msp, psp, pc, fl, pr, ss, ph, lf, fb, ln, tl, pm, am, th, bs, nI D, nw, cd, rm, rg, fr, py, vc, lv, ac, st) v := by
  unfold wpX_jump
  exact xs_ret0 hD h (br_t rfl (nm_e hp))
theorem xs_jb (hD : D ≤ 10) (h : ir_ D v) (h2 : ¬ gr_ D v) (hp : p (msp, psp, pc, fl, pr, ss, 4, 0, fb, ln, tl, pm, am, th, bs, nI D, nw, cd, rm, rg, fr, py, vc, lv, ac, st)) : wpX_jump p (msp, psp, pc, fl, pr, ss, ph, lf, fb, ln, tl, pm, am, th, bs, nI D, nw, cd, rm, rg, fr, py, vc, lv, ac, st) v := by
  unfold wpX_jump
  exact xs_ret1 hD h (br_f (by decide) (xs_gd0 hD h2 (br_t rfl hp)))
theorem xs_jg (hD : D + 1 ≤ 10) (h : ir_ (D + 1) v) (h2 : gr_ (D + 1) v) (A : ar_A L D pm (am &&& (((1 : Int32) <<< (ac D &&& 31)) ^^^ (-1))) py lv ac wt) (E : ar_EN pr D ac (upd py 3 (-1)) wt t b) (hp : p (msp, psp, 0, 0, pr, ss, 3, 8, nI (aw_ (if v = -3 then psp else msp)), ln, tl, pm, am &&& (((1 : Int32) <<< (ac D &&& 31)) ^^^ (-1)), t, b, nI D, nw, cd, rm, upd (zs_ rg) 14 v, fr, py, vc, lv, ac, st)) : wpX_jump p (msp, psp, pc, fl, pr, ss, ph, lf, fb, ln, tl, pm, am, th, bs, nI (D + 1), nw, cd, rm, rg, fr, py, vc, lv, ac, st) v := by
  unfold wpX_jump
  exact xs_ret1 hD h (br_f (by decide) (xs_gd1 hD h2 (br_f (by decide) (xs_bret hD A E hp))))
end
section
variable {D : Nat} {postI : Int32 → Prop} {p : SY → Prop} {pc fl pr ss dp ph lf ln tl : Int32} {cd rm rg sp wt py vc ac rc : Nat → Int32} {v : Int32}
theorem ys_ret1 (hD : D ≤ 10) (h : ir_ D v) (hp : postI 1) : wpY_returns postI (pc, fl, pr, ss, nI D, ph, lf, ln, tl, cd, rm, rg, sp, wt, py, vc, ac, rc) v := br_f (nI_nle h.1 (by omega)) (br_t h.2 hp)
theorem ys_ret0 (hD : D ≤ 10) (h : ¬ ir_ D v) (hp : postI 0) : wpY_returns postI (pc, fl, pr, ss, nI D, ph, lf, ln, tl, cd, rm, rg, sp, wt, py, vc, ac, rc) v := by
  refine br_c (fun _ => hp) (fun z => br_c (fun y => (h ⟨?_, y⟩).elim) (fun _ => hp))
  rcases Nat.eq_zero_or_pos D with e | e
  · subst e
    exact (z (Int32.le_refl _)).elim
  · exact e
theorem ys_gd1 (hD : D ≤ 10) (h : gr_ D v) (hp : postI 1) : wpY_good postI (pc, fl, pr, ss, nI D, ph, lf, ln, tl, cd, rm, rg, sp, wt, py, vc, ac, rc) v := by
  rcases h with ⟨rfl, h⟩ | ⟨rfl | rfl, h⟩
  · exact br_t rfl (br_f (nI_nlt (b := 2) h (by omega)) hp)
  · subst h
    exact br_f (by decide) (br_t rfl (br_t rfl hp))
  · subst h
    exact br_f (by decide) (br_f (by decide) (br_t rfl (br_t rfl hp)))
theorem ys_gd0 (hD : D ≤ 10) (h : ¬ gr_ D v) (hp : postI 0) : wpY_good postI (pc, fl, pr, ss, nI D, ph, lf, ln, tl, cd, rm, rg, sp, wt, py, vc, ac, rc) v := by
  refine br_c (fun e => br_c (fun _ => hp) (fun z => (h (Or.inl ⟨e, ?_⟩)).elim)) (fun e => br_c (fun e2 => br_c (fun z => (h (Or.inr ⟨Or.inl e2, ?_⟩)).elim) (fun _ => hp)) (fun e2 => br_c (fun e3 => br_c (fun z => (h (Or.inr ⟨Or.inr e3, ?_⟩)).elim) (fun _ => hp)) (fun _ => hp)))
  · have := mt (fun q => nI_lt (b := 2) q (by decide)) z
    omega
  · exact (nI_eq (b := 1) (by omega) (by decide)).mp z
  · exact (nI_eq (b := 1) (by omega) (by decide)).mp z
theorem ys_j0 (hD : D ≤ 10) (h : ¬ ir_ D v) (hp : p (v &&& 254, fl, pr, ss, nI D, ph, lf, ln, tl, cd, rm, rg, sp, wt, py, vc, ac, rc)) : wpY_jump p (pc, fl, pr, ss, nI D, ph, lf, ln, tl, cd, rm, rg, sp, wt, py, vc, ac, rc) v := by
  unfold wpY_jump
  exact ys_ret0 hD h (br_t rfl (nm_e hp))
theorem ys_jb (hD : D ≤ 10) (h : ir_ D v) (h2 : ¬ gr_ D v) (hp : p (pc, fl, pr, ss, nI D, 4, lf, ln, tl, cd, rm, rg, sp, wt, py, vc, ac, rc)) : wpY_jump p (pc, fl, pr, ss, nI D, ph, lf, ln, tl, cd, rm, rg, sp, wt, py, vc, ac, rc) v := by
  unfold wpY_jump
  exact ys_ret1 hD h (br_f (by decide) (ys_gd0 hD h2 (br_t rfl hp)))
theorem ys_jg (hD : D + 1 ≤ 10) (h : ir_ (D + 1) v) (h2 : gr_ (D + 1) v) (hp : p (0, 0, pr, ss, nI D, 3, 8, ln, tl, cd, rm, upd (zs_ rg) 14 v, sp, wt, py, vc, ac, rc)) : wpY_jump p (pc, fl, pr, ss, nI (D + 1), ph, lf, ln, tl, cd, rm, rg, sp, wt, py, vc, ac, rc) v := by
  unfold wpY_jump
  exact ys_ret1 hD h (br_f (by decide) (ys_gd1 hD h2 (br_f (by decide) (nm_r (nI_pred D) (ys_wipe hp)))))
end
section
variable {msp psp pc fl pr ss ph lf fb ln tl pm am th bs dp nw : Int32} {cd rm rg fr py vc lv ac st sp wt rc : Nat → Int32} {v pc2 : Int32}
theorem rl_3 (g : rl_G ln tl dp nw pr pm am th bs cd py lv ac st wt rc) (h : rl_H msp psp ss rg sp) (e : rg 14 = v) : rl_R (msp, psp, pc, fl, pr, ss, 3, 8, nI (aw_ (if v = -3 then psp else msp)), ln, tl, pm, am, th, bs, dp, nw, cd, rm, rg, fr, py, vc, lv, ac, st) (pc, fl, pr, ss, dp, 3, 8, ln, tl, cd, rm, rg, sp, wt, upd py 3 (-1), vc, ac, rc) := by
  subst e
  exact rl_in g h (Or.inr (Or.inr (Or.inr (Or.inl ⟨rfl, rfl, 8, _, by decide, by decide, aw_lt _, rfl, rfl, rfl, fun k hk => by omega⟩))))
/-- a jump to v, on both sides; pc is where the instruction stands, pc2 where Y's counter is -/
theorem jp_oc (g : rl_G ln tl dp nw pr pm am th bs cd py lv ac st wt rc) (hh : rl_H msp psp ss rg sp) : ∃ u w v', rl_R u v' ∧ (∀ p, p u → wpX_jump p (msp, psp, pc, fl, pr, ss, 0, 0, fb, ln, tl, pm, am, th, bs, dp, nw, cd, rm, rg, fr, py, vc, lv, ac, st) v) ∧ (∀ p : SY → Prop, p w → wpY_jump p (pc2, fl, pr, ss, dp, 0, 0, ln, tl, cd, rm, rg, sp, wt, upd py 3 (-1), vc, ac, rc) v) ∧ (∀ p, p v' → ye_43 p pc w) := by
  obtain ⟨L, T, D, W, e1, e2, e3, e4, g1, g2, A, E, g3, g4⟩ := id g
  obtain ⟨A1, A2, A3, A4, A5, A6, A7, A8, A9⟩ := id A
  subst e3
  by_cases h : ir_ D v
  · by_cases h2 : gr_ D v
    · obtain ⟨d, rfl⟩ : ∃ d, D = d + 1 := ⟨D - 1, by have := h.1; omega⟩
      have A' := ar_ret A
      obtain ⟨t, b, E'⟩ := ar_ex pr d ac (upd py 3 (-1)) wt
      exact ⟨_, _, _, rl_3 ⟨L, T, d, W, e1, e2, rfl, e4, g1, g2, A', E', g3, g4⟩ (rl_Hr (rl_Hz hh) (Or.inr rfl)) pk_us, fun p hp => xs_jg A2 h h2 A' E' hp, fun p hp => ys_jg A2 h h2 hp, fun p hp => ye_0 (by decide) hp⟩
    · exact ⟨_, _, _, rl_4 g hh, fun p hp => xs_jb A2 h h2 hp, fun p hp => ys_jb A2 h h2 hp, fun p hp => ye_4 hp⟩
  · exact ⟨_, _, _, rl_0 g hh, fun p hp => xs_j0 A2 h hp, fun p hp => ys_j0 A2 h hp, fun p hp => ye_0 (by decide) hp⟩
end
end
section
/-! plain instructions: each side's walk -/
def lz_f (fl x : Int32) (k : Nat) : Int32 := if k = 0 then fz_nz fl (x <<< (nI k &&& 31)) else fz_nz ((fl &&& (-536870913)) ||| ((((x.toUInt32 >>> ((32 - nI k).toUInt32 &&& Int32.toUInt32 31)).toInt32) &&& 1) <<< ((29 : Int32) &&& 31))) (x <<< (nI k &&& 31))
theorem fz_lsl (f v c : Int32) : (fz_nz f v &&& (-805306368)) ||| ((c &&& 1) <<< ((29 : Int32) &&& 31)) = fz_nz ((f &&& (-536870913)) ||| ((c &&& 1) <<< ((29 : Int32) &&& 31))) v := by
  unfold fz_nz
  exact fl_lsl f v _ c (by split; exact Or.inr rfl; exact Or.inl rfl)
section
variable {m : Nat}
theorem du37 (h : m < 65536) : ((nI m).toUInt32 >>> ((3 : Int32).toUInt32 &&& Int32.toUInt32 31)).toInt32 &&& 7 = nI (m / 8 % 8) := by rw [du_3 h, da_7 (by omega)]
theorem du315 (h : m < 65536) : ((nI m).toUInt32 >>> ((3 : Int32).toUInt32 &&& Int32.toUInt32 31)).toInt32 &&& 15 = nI (m / 8 % 16) := by rw [du_3 h, da_15 (by omega)]
theorem du631 (h : m < 65536) : ((nI m).toUInt32 >>> ((6 : Int32).toUInt32 &&& Int32.toUInt32 31)).toInt32 &&& 31 = nI (m / 64 % 32) := by rw [du_6 h, da_31 (by omega)]
theorem du67 (h : m < 65536) : ((nI m).toUInt32 >>> ((6 : Int32).toUInt32 &&& Int32.toUInt32 31)).toInt32 &&& 7 = nI (m / 64 % 8) := by rw [du_6 h, da_7 (by omega)]
theorem du87 (h : m < 65536) : ((nI m).toUInt32 >>> ((8 : Int32).toUInt32 &&& Int32.toUInt32 31)).toInt32 &&& 7 = nI (m / 256 % 8) := by rw [du_8 h, da_7 (by omega)]
theorem du113 (h : m < 65536) : ((nI m).toUInt32 >>> ((11 : Int32).toUInt32 &&& Int32.toUInt32 31)).toInt32 &&& 3 = nI (m / 2048 % 4) := by rw [du_11 h, da_3 (by omega)]
theorem du48 (h : m < 65536) : (((nI m).toUInt32 >>> ((4 : Int32).toUInt32 &&& Int32.toUInt32 31)).toInt32 &&& 8) ||| (nI m &&& 7) = (nI (m / 16) &&& 8) ||| nI (m % 8) := by rw [du_4 h, da_7 h]
theorem ds37 (h : m < 65536) : (nI m >>> ((3 : Int32) &&& 31)) &&& 7 = nI (m / 8 % 8) := by rw [ds_3 h, da_7 (by omega)]
theorem ds315 (h : m < 65536) : (nI m >>> ((3 : Int32) &&& 31)) &&& 15 = nI (m / 8 % 16) := by rw [ds_3 h, da_15 (by omega)]
theorem ds67 (h : m < 65536) : (nI m >>> ((6 : Int32) &&& 31)) &&& 7 = nI (m / 64 % 8) := by rw [ds_6 h, da_7 (by omega)]
theorem ds87 (h : m < 65536) : (nI m >>> ((8 : Int32) &&& 31)) &&& 7 = nI (m / 256 % 8) := by rw [ds_8 h, da_7 (by omega)]
theorem ds631 (h : m < 65536) : (nI m >>> ((6 : Int32) &&& 31)) &&& 31 = nI (m / 64 % 32) := by rw [ds_6 h, da_31 (by omega)]
theorem ds48 (h : m < 65536) : ((nI m >>> ((4 : Int32) &&& 31)) &&& 8) ||| nI (m % 8) = (nI (m / 16) &&& 8) ||| nI (m % 8) := by rw [ds_4 h]
theorem in16 {n : Nat} (h : n < 16) : vp_in (nI n) 16 := vp_in_nI h (by decide)
theorem ie_3 (rg : Nat → Int32) (h : m < 65536) : rg (((nI m).toUInt32 >>> ((3 : Int32).toUInt32 &&& Int32.toUInt32 31)).toInt32 &&& 7).toNatClampNeg = rg (nI (m / 8 % 8)).toNatClampNeg := by rw [du37 h]
theorem ie_d (rg : Nat → Int32) (v : Int32) (h : m < 65536) : upd rg (nI m &&& 7).toNatClampNeg v = upd rg (nI (m % 8)).toNatClampNeg v := by rw [da_7 h]
theorem ie_0 (rg : Nat → Int32) (h : m < 65536) : rg (nI m &&& 7).toNatClampNeg = rg (nI (m % 8)).toNatClampNeg := by rw [da_7 h]
end
section
variable {m : Nat} {p : SX → Prop} {msp psp pc fl pr ss ph lf fb ln tl pm am th bs dp nw : Int32} {cd rm rg fr py vc lv ac st : Nat → Int32}
theorem xi_lsl (hm : m ≤ 2047) (hp : p (msp, psp, (pc + 2) &&& 254, lz_f fl (rg (nI (m / 8 % 8)).toNatClampNeg) (m / 64 % 32), pr, ss, ph, lf, fb, ln, tl, pm, am, th, bs, dp, nw, cd, rm, upd rg (nI (m % 8)).toNatClampNeg (rg (nI (m / 8 % 8)).toNatClampNeg <<< (nI (m / 64 % 32) &&& 31)), fr, py, vc, lv, ac, st)) : wpX_shiftOrAdd p (msp, psp, pc, fl, pr, ss, ph, lf, fb, ln, tl, pm, am, th, bs, dp, nw, cd, rm, rg, fr, py, vc, lv, ac, st) (nI m) := by
  have h0 : m < 65536 := by omega
  unfold lz_f at hp
  refine br_f (nI_ge (b := 2048) (by omega) (by decide)) (And.intro (ia_7 _) (nm_r (ie_3 rg h0) (nm_r (du631 h0) (nm_e (xs_nz ?_)))))
  by_cases e : m / 64 % 32 = 0
  · rw [if_pos e] at hp
    exact br_t (by rw [e]; exact Int32.le_refl _) (And.intro (ia_7 _) (nm_r (ie_d rg _ h0) (xs_adv hp)))
  · rw [if_neg e, ← fz_lsl] at hp
    exact br_f (nI_nle (by omega) (by omega)) (nm_e (And.intro (ia_7 _) (nm_r (ie_d rg _ h0) (xs_adv hp))))
theorem xi_addR (h1 : 6144 ≤ m) (h2 : m ≤ 6655) (hp : p (msp, psp, (pc + 2) &&& 254, fz_add (rg (nI (m / 8 % 8)).toNatClampNeg) (rg (nI (m / 64 % 8)).toNatClampNeg), pr, ss, ph, lf, fb, ln, tl, pm, am, th, bs, dp, nw, cd, rm, upd rg (nI (m % 8)).toNatClampNeg (rg (nI (m / 8 % 8)).toNatClampNeg + rg (nI (m / 64 % 8)).toNatClampNeg), fr, py, vc, lv, ac, st)) : wpX_shiftOrAdd p (msp, psp, pc, fl, pr, ss, ph, lf, fb, ln, tl, pm, am, th, bs, dp, nw, cd, rm, rg, fr, py, vc, lv, ac, st) (nI m) := by
  have h0 : m < 65536 := by omega
  exact br_t (nI_le (a := 2048) (by omega) (by omega)) (br_f (nI_nlt (b := 6144) (by omega) (by omega)) (And.intro (ia_7 _) (nm_r (ie_3 rg h0) (nm_r (du67 h0) (br_t ((dm_1024 h0).mpr (by omega)) (And.intro (in16 (by omega)) (br_t ((dm_512 h0).mpr (by omega)) (xs_add (And.intro (ia_7 _) (nm_r (ie_d rg _ h0) (xs_adv hp)))))))))))
theorem xi_subR (h1 : 6656 ≤ m) (h2 : m ≤ 7167) (hp : p (msp, psp, (pc + 2) &&& 254, fz_sub (rg (nI (m / 8 % 8)).toNatClampNeg) (rg (nI (m / 64 % 8)).toNatClampNeg), pr, ss, ph, lf, fb, ln, tl, pm, am, th, bs, dp, nw, cd, rm, upd rg (nI (m % 8)).toNatClampNeg (rg (nI (m / 8 % 8)).toNatClampNeg - rg (nI (m / 64 % 8)).toNatClampNeg), fr, py, vc, lv, ac, st)) : wpX_shiftOrAdd p (msp, psp, pc, fl, pr, ss, ph, lf, fb, ln, tl, pm, am, th, bs, dp, nw, cd, rm, rg, fr, py, vc, lv, ac, st) (nI m) := by
  have h0 : m < 65536 := by omega
  exact br_t (nI_le (a := 2048) (by omega) (by omega)) (br_f (nI_nlt (b := 6144) (by omega) (by omega)) (And.intro (ia_7 _) (nm_r (ie_3 rg h0) (nm_r (du67 h0) (br_t ((dm_1024 h0).mpr (by omega)) (And.intro (in16 (by omega)) (br_f (mt (dm_512 h0).mp (by omega)) (xs_sub (And.intro (ia_7 _) (nm_r (ie_d rg _ h0) (xs_adv hp)))))))))))
theorem xi_addI (h1 : 7168 ≤ m) (h2 : m ≤ 7679) (hp : p (msp, psp, (pc + 2) &&& 254, fz_add (rg (nI (m / 8 % 8)).toNatClampNeg) (nI (m / 64 % 8)), pr, ss, ph, lf, fb, ln, tl, pm, am, th, bs, dp, nw, cd, rm, upd rg (nI (m % 8)).toNatClampNeg (rg (nI (m / 8 % 8)).toNatClampNeg + nI (m / 64 % 8)), fr, py, vc, lv, ac, st)) : wpX_shiftOrAdd p (msp, psp, pc, fl, pr, ss, ph, lf, fb, ln, tl, pm, am, th, bs, dp, nw, cd, rm, rg, fr, py, vc, lv, ac, st) (nI m) := by
  have h0 : m < 65536 := by omega
  exact br_t (nI_le (a := 2048) (by omega) (by omega)) (br_f (nI_nlt (b := 6144) (by omega) (by omega)) (And.intro (ia_7 _) (nm_r (ie_3 rg h0) (nm_r (du67 h0) (br_f (mt (dm_1024 h0).mp (by omega)) (br_t ((dm_512 h0).mpr (by omega)) (xs_add (And.intro (ia_7 _) (nm_r (ie_d rg _ h0) (xs_adv hp))))))))))
theorem xi_subI (h1 : 7680 ≤ m) (h2 : m ≤ 8191) (hp : p (msp, psp, (pc + 2) &&& 254, fz_sub (rg (nI (m / 8 % 8)).toNatClampNeg) (nI (m / 64 % 8)), pr, ss, ph, lf, fb, ln, tl, pm, am, th, bs, dp, nw, cd, rm, upd rg (nI (m % 8)).toNatClampNeg (rg (nI (m / 8 % 8)).toNatClampNeg - nI (m / 64 % 8)), fr, py, vc, lv, ac, st)) : wpX_shiftOrAdd p (msp, psp, pc, fl, pr, ss, ph, lf, fb, ln, tl, pm, am, th, bs, dp, nw, cd, rm, rg, fr, py, vc, lv, ac, st) (nI m) := by
  have h0 : m < 65536 := by omega
  exact br_t (nI_le (a := 2048) (by omega) (by omega)) (br_f (nI_nlt (b := 6144) (by omega) (by omega)) (And.intro (ia_7 _) (nm_r (ie_3 rg h0) (nm_r (du67 h0) (br_f (mt (dm_1024 h0).mp (by omega)) (br_f (mt (dm_512 h0).mp (by omega)) (xs_sub (And.intro (ia_7 _) (nm_r (ie_d rg _ h0) (xs_adv hp))))))))))
theorem xi_movi (h1 : 8192 ≤ m) (h2 : m ≤ 10239) (hp : p (msp, psp, (pc + 2) &&& 254, fz_nz fl (nI (m % 256)), pr, ss, ph, lf, fb, ln, tl, pm, am, th, bs, dp, nw, cd, rm, upd rg (nI (m / 256 % 8)).toNatClampNeg (nI (m % 256)), fr, py, vc, lv, ac, st)) : wpX_immediate p (msp, psp, pc, fl, pr, ss, ph, lf, fb, ln, tl, pm, am, th, bs, dp, nw, cd, rm, rg, fr, py, vc, lv, ac, st) (nI m) := by
  have h0 : m < 65536 := by omega
  exact nm_r (du87 h0) (nm_r (da_255 h0) (nm_r (e' := nI 0) ((du113 h0).trans (congrArg nI (by omega))) (br_f (by decide) (br_f (by decide) (br_t (by decide) (xs_nz (And.intro (in16 (by omega)) (nm_e (xs_adv hp)))))))))
theorem xi_cmpi (h1 : 10240 ≤ m) (h2 : m ≤ 12287) (hp : p (msp, psp, (pc + 2) &&& 254, fz_sub (rg (nI (m / 256 % 8)).toNatClampNeg) (nI (m % 256)), pr, ss, ph, lf, fb, ln, tl, pm, am, th, bs, dp, nw, cd, rm, rg, fr, py, vc, lv, ac, st)) : wpX_immediate p (msp, psp, pc, fl, pr, ss, ph, lf, fb, ln, tl, pm, am, th, bs, dp, nw, cd, rm, rg, fr, py, vc, lv, ac, st) (nI m) := by
  have h0 : m < 65536 := by omega
  exact nm_r (du87 h0) (nm_r (da_255 h0) (nm_r (e' := nI 1) ((du113 h0).trans (congrArg nI (by omega))) (br_f (by decide) (br_f (by decide) (br_f (by decide) (br_t (by decide) (And.intro (in16 (by omega)) (xs_sub (xs_adv hp)))))))))
theorem xi_add8 (h1 : 12288 ≤ m) (h2 : m ≤ 14335) (hp : p (msp, psp, (pc + 2) &&& 254, fz_add (rg (nI (m / 256 % 8)).toNatClampNeg) (nI (m % 256)), pr, ss, ph, lf, fb, ln, tl, pm, am, th, bs, dp, nw, cd, rm, upd rg (nI (m / 256 % 8)).toNatClampNeg (rg (nI (m / 256 % 8)).toNatClampNeg + nI (m % 256)), fr, py, vc, lv, ac, st)) : wpX_immediate p (msp, psp, pc, fl, pr, ss, ph, lf, fb, ln, tl, pm, am, th, bs, dp, nw, cd, rm, rg, fr, py, vc, lv, ac, st) (nI m) := by
  have h0 : m < 65536 := by omega
  exact nm_r (du87 h0) (nm_r (da_255 h0) (nm_r (e' := nI 2) ((du113 h0).trans (congrArg nI (by omega))) (br_f (by decide) (br_f (by decide) (br_f (by decide) (br_f (by decide) (br_t (by decide) (And.intro (in16 (by omega)) (xs_add (And.intro (in16 (by omega)) (nm_e (xs_adv hp))))))))))))
theorem xi_sub8 (h1 : 14336 ≤ m) (h2 : m ≤ 16383) (hp : p (msp, psp, (pc + 2) &&& 254, fz_sub (rg (nI (m / 256 % 8)).toNatClampNeg) (nI (m % 256)), pr, ss, ph, lf, fb, ln, tl, pm, am, th, bs, dp, nw, cd, rm, upd rg (nI (m / 256 % 8)).toNatClampNeg (rg (nI (m / 256 % 8)).toNatClampNeg - nI (m % 256)), fr, py, vc, lv, ac, st)) : wpX_immediate p (msp, psp, pc, fl, pr, ss, ph, lf, fb, ln, tl, pm, am, th, bs, dp, nw, cd, rm, rg, fr, py, vc, lv, ac, st) (nI m) := by
  have h0 : m < 65536 := by omega
  exact nm_r (du87 h0) (nm_r (da_255 h0) (nm_r (e' := nI 3) ((du113 h0).trans (congrArg nI (by omega))) (br_f (by decide) (br_t (by decide) (And.intro (in16 (by omega)) (xs_sub (And.intro (in16 (by omega)) (nm_e (xs_adv hp)))))))))
theorem xi_log {v : Int32} (h0 : m < 65536) (hp : p (msp, psp, (pc + 2) &&& 254, fz_nz fl v, pr, ss, ph, lf, fb, ln, tl, pm, am, th, bs, dp, nw, cd, rm, upd rg (nI (m % 8)).toNatClampNeg v, fr, py, vc, lv, ac, st)) : wpX_logical p (msp, psp, pc, fl, pr, ss, ph, lf, fb, ln, tl, pm, am, th, bs, dp, nw, cd, rm, rg, fr, py, vc, lv, ac, st) (nI m) v := by
  unfold wpX_logical
  exact xs_nz (And.intro (ia_7 _) (nm_r (ie_d rg _ h0) (xs_adv hp)))
theorem xi_cmpr (h0 : m < 65536) (hk : m / 64 = 266) (hp : p (msp, psp, (pc + 2) &&& 254, fz_sub (rg (nI (m % 8)).toNatClampNeg) (rg (nI (m / 8 % 8)).toNatClampNeg), pr, ss, ph, lf, fb, ln, tl, pm, am, th, bs, dp, nw, cd, rm, rg, fr, py, vc, lv, ac, st)) : wpX_registerGroup p (msp, psp, pc, fl, pr, ss, ph, lf, fb, ln, tl, pm, am, th, bs, dp, nw, cd, rm, rg, fr, py, vc, lv, ac, st) (nI m) := by
  refine And.intro (ia_7 _) (nm_r (ie_0 rg h0) (And.intro (ia_7 _) (nm_r (ie_3 rg h0) (nm_r ((du_6 h0).trans (congrArg nI hk)) ?_))))
  exact br_f (by decide) (br_f (by decide) (br_f (by decide) (br_f (by decide) (br_f (by decide) (br_f (by decide) (br_f (by decide) (br_f (by decide) (br_f (by decide) (br_f (by decide) (br_f (by decide) (br_f (by decide) (br_t (by decide) (xs_sub (xs_adv hp))))))))))))))
theorem xi_mov {x : Nat} (h0 : m < 65536) (hx : (nI (m / 16) &&& 8) ||| nI (m % 8) = nI x) (hx16 : x < 16) (x1 : ¬ nI x = 13) (x2 : ¬ nI x = 15) (y1 : ¬ nI (m / 8 % 16) = 13) (y2 : ¬ nI (m / 8 % 16) = 15) (hp : p (msp, psp, (pc + 2) &&& 254, fl, pr, ss, ph, lf, fb, ln, tl, pm, am, th, bs, dp, nw, cd, rm, upd rg (nI x).toNatClampNeg (rg (nI (m / 8 % 16)).toNatClampNeg), fr, py, vc, lv, ac, st)) : wpX_move p (msp, psp, pc, fl, pr, ss, ph, lf, fb, ln, tl, pm, am, th, bs, dp, nw, cd, rm, rg, fr, py, vc, lv, ac, st) (nI m) :=
  nm_r ((du48 h0).trans hx) (nm_r (du315 h0) (xs_us1 x1 x2 (br_f (by decide) (xs_us1 y1 y2 (br_f (by decide) (And.intro (in16 (by omega)) (And.intro (in16 hx16) (nm_e (xs_adv hp)))))))))
theorem xi_movu {x : Nat} {u : SX} (h0 : m < 65536) (hx : (nI (m / 16) &&& 8) ||| nI (m % 8) = nI x) (hb : (nI x = 13 ∨ nI x = 15) ∨ (nI (m / 8 % 16) = 13 ∨ nI (m / 8 % 16) = 15)) (H : ∀ p, p u → wpX_undefined p (msp, psp, pc, fl, pr, ss, ph, lf, fb, ln, tl, pm, am, th, bs, dp, nw, cd, rm, rg, fr, py, vc, lv, ac, st)) : ∀ p, p u → wpX_move p (msp, psp, pc, fl, pr, ss, ph, lf, fb, ln, tl, pm, am, th, bs, dp, nw, cd, rm, rg, fr, py, vc, lv, ac, st) (nI m) := by
  intro p hp
  refine nm_r ((du48 h0).trans hx) (nm_r (du315 h0) ?_)
  by_cases b : nI x = 13 ∨ nI x = 15
  · exact xs_us0 b (br_t rfl (H _ (xt_eta hp)))
  · exact xs_us1 (fun z => b (Or.inl z)) (fun z => b (Or.inr z)) (br_f (by decide) (xs_us0 (hb.resolve_left b) (br_t rfl (H _ (xt_eta hp)))))
theorem xi_str (h1 : 24576 ≤ m) (h2 : m ≤ 26623) (hp : p (msp, psp, (pc + 2) &&& 254, fl, pr, ss, ph, lf, fb, ln, tl, pm, am, th, bs, dp, nw, cd, upd rm (aw_ (rg (nI (m / 8 % 8)).toNatClampNeg + 4 * nI (m / 64 % 32))) (rg (nI (m % 8)).toNatClampNeg), rg, fr, py, vc, lv, ac, st)) : wpX_memory p (msp, psp, pc, fl, pr, ss, ph, lf, fb, ln, tl, pm, am, th, bs, dp, nw, cd, rm, rg, fr, py, vc, lv, ac, st) (nI m) := by
  have h0 : m < 65536 := by omega
  refine And.intro (ia_7 _) (nm_r (e' := rg (nI (m / 8 % 8)).toNatClampNeg + 4 * nI (m / 64 % 32)) (by rw [du37 h0, du631 h0]) (br_t ((dm_2048 h0).mpr (by omega)) (And.intro (ia_7 _) ?_)))
  rw [da_7 h0]
  exact xs_st (xs_adv hp)
theorem xi_ldr (h1 : 26624 ≤ m) (h2 : m ≤ 28671) (hp : p (msp, psp, (pc + 2) &&& 254, fl, pr, ss, ph, lf, fb, ln, tl, pm, am, th, bs, dp, nw, cd, rm, upd rg (nI (m % 8)).toNatClampNeg (rm (aw_ (rg (nI (m / 8 % 8)).toNatClampNeg + 4 * nI (m / 64 % 32)))), fr, py, vc, lv, ac, st)) : wpX_memory p (msp, psp, pc, fl, pr, ss, ph, lf, fb, ln, tl, pm, am, th, bs, dp, nw, cd, rm, rg, fr, py, vc, lv, ac, st) (nI m) := by
  have h0 : m < 65536 := by omega
  exact And.intro (ia_7 _) (nm_r (e' := rg (nI (m / 8 % 8)).toNatClampNeg + 4 * nI (m / 64 % 32)) (by rw [du37 h0, du631 h0]) (br_f (mt (dm_2048 h0).mp (by omega)) (xs_ld (And.intro (ia_7 _) (nm_r (ie_d rg _ h0) (xs_adv hp))))))
end
section
variable {m : Nat} {q : Int32 → SY → Prop} {pc fl pr ss dp ph lf ln tl : Int32} {cd rm rg sp wt py vc ac rc : Nat → Int32}
theorem yi_lsl (h : m ≤ 2047) (hq : q 1 (pc, lz_f fl (rg (nI (m / 8 % 8)).toNatClampNeg) (m / 64 % 32), pr, ss, dp, ph, lf, ln, tl, cd, rm, upd rg (nI (m % 8)).toNatClampNeg (rg (nI (m / 8 % 8)).toNatClampNeg <<< (nI (m / 64 % 32) &&& 31)), sp, wt, py, vc, ac, rc)) : wpY_perform q (pc, fl, pr, ss, dp, ph, lf, ln, tl, cd, rm, rg, sp, wt, py, vc, ac, rc) (nI m) := by
  have hm : m < 65536 := by omega
  unfold lz_f at hq
  refine nm_r (da_7 hm) (nm_r (ds37 hm) (nm_r (ds67 hm) (nm_r (ds87 hm) (nm_r (da_255 hm) (nm_r (ds631 hm) (nm_r (ds48 hm) (nm_r (ds315 hm) ?_)))))))
  refine br_f (nI_nlt (a := 2047) (by omega) (by decide)) ?_
  by_cases e : m / 64 % 32 = 0
  · rw [if_pos e] at hq
    exact br_t (by rw [e]; exact Int32.le_refl _) (And.intro (in16 (by omega)) (ys_nz rfl (And.intro (in16 (by omega)) (nm_e hq))))
  · rw [if_neg e] at hq
    exact br_f (nI_nle (by omega) (by omega)) (And.intro (in16 (by omega)) (nm_e (And.intro (in16 (by omega)) (ys_nz rfl (And.intro (in16 (by omega)) (nm_e hq))))))
theorem yi_addR (h1 : 6144 ≤ m) (h2 : m ≤ 6655) (hq : q 1 (pc, fz_add (rg (nI (m / 8 % 8)).toNatClampNeg) (rg (nI (m / 64 % 8)).toNatClampNeg), pr, ss, dp, ph, lf, ln, tl, cd, rm, upd rg (nI (m % 8)).toNatClampNeg (rg (nI (m / 8 % 8)).toNatClampNeg + rg (nI (m / 64 % 8)).toNatClampNeg), sp, wt, py, vc, ac, rc)) : wpY_perform q (pc, fl, pr, ss, dp, ph, lf, ln, tl, cd, rm, rg, sp, wt, py, vc, ac, rc) (nI m) := by
  have hm : m < 65536 := by omega
  refine nm_r (da_7 hm) (nm_r (ds37 hm) (nm_r (ds67 hm) (nm_r (ds87 hm) (nm_r (da_255 hm) (nm_r (ds631 hm) (nm_r (ds48 hm) (nm_r (ds315 hm) ?_)))))))
  exact br_t (nI_lt (a := 2047) (by omega) (by omega)) (br_t (nI_lt (a := 6143) (by omega) (by omega)) (br_f (nI_nlt (a := 7167) (by omega) (by decide)) (And.intro (in16 (by omega)) (And.intro (in16 (by omega)) (br_t (nI_lt (b := 6656) (by omega) (by decide)) (ys_add (And.intro (in16 (by omega)) (nm_e hq))))))))
theorem yi_subR (h1 : 6656 ≤ m) (h2 : m ≤ 7167) (hq : q 1 (pc, fz_sub (rg (nI (m / 8 % 8)).toNatClampNeg) (rg (nI (m / 64 % 8)).toNatClampNeg), pr, ss, dp, ph, lf, ln, tl, cd, rm, upd rg (nI (m % 8)).toNatClampNeg (rg (nI (m / 8 % 8)).toNatClampNeg - rg (nI (m / 64 % 8)).toNatClampNeg), sp, wt, py, vc, ac, rc)) : wpY_perform q (pc, fl, pr, ss, dp, ph, lf, ln, tl, cd, rm, rg, sp, wt, py, vc, ac, rc) (nI m) := by
  have hm : m < 65536 := by omega
  refine nm_r (da_7 hm) (nm_r (ds37 hm) (nm_r (ds67 hm) (nm_r (ds87 hm) (nm_r (da_255 hm) (nm_r (ds631 hm) (nm_r (ds48 hm) (nm_r (ds315 hm) ?_)))))))
  exact br_t (nI_lt (a := 2047) (by omega) (by omega)) (br_t (nI_lt (a := 6143) (by omega) (by omega)) (br_f (nI_nlt (a := 7167) (by omega) (by decide)) (And.intro (in16 (by omega)) (And.intro (in16 (by omega)) (br_f (nI_nlt (b := 6656) (by omega) (by omega)) (ys_sub (And.intro (in16 (by omega)) (nm_e hq))))))))
theorem yi_addI (h1 : 7168 ≤ m) (h2 : m ≤ 7679) (hq : q 1 (pc, fz_add (rg (nI (m / 8 % 8)).toNatClampNeg) (nI (m / 64 % 8)), pr, ss, dp, ph, lf, ln, tl, cd, rm, upd rg (nI (m % 8)).toNatClampNeg (rg (nI (m / 8 % 8)).toNatClampNeg + nI (m / 64 % 8)), sp, wt, py, vc, ac, rc)) : wpY_perform q (pc, fl, pr, ss, dp, ph, lf, ln, tl, cd, rm, rg, sp, wt, py, vc, ac, rc) (nI m) := by
  have hm : m < 65536 := by omega
  refine nm_r (da_7 hm) (nm_r (ds37 hm) (nm_r (ds67 hm) (nm_r (ds87 hm) (nm_r (da_255 hm) (nm_r (ds631 hm) (nm_r (ds48 hm) (nm_r (ds315 hm) ?_)))))))
  exact br_t (nI_lt (a := 2047) (by omega) (by omega)) (br_t (nI_lt (a := 6143) (by omega) (by omega)) (br_t (nI_lt (a := 7167) (by omega) (by omega)) (br_f (nI_nlt (a := 8191) (by omega) (by decide)) (And.intro (in16 (by omega)) (br_t (nI_lt (b := 7680) (by omega) (by decide)) (ys_add (And.intro (in16 (by omega)) (nm_e hq))))))))
theorem yi_subI (h1 : 7680 ≤ m) (h2 : m ≤ 8191) (hq : q 1 (pc, fz_sub (rg (nI (m / 8 % 8)).toNatClampNeg) (nI (m / 64 % 8)), pr, ss, dp, ph, lf, ln, tl, cd, rm, upd rg (nI (m % 8)).toNatClampNeg (rg (nI (m / 8 % 8)).toNatClampNeg - nI (m / 64 % 8)), sp, wt, py, vc, ac, rc)) : wpY_perform q (pc, fl, pr, ss, dp, ph, lf, ln, tl, cd, rm, rg, sp, wt, py, vc, ac, rc) (nI m) := by
  have hm : m < 65536 := by omega
  refine nm_r (da_7 hm) (nm_r (ds37 hm) (nm_r (ds67 hm) (nm_r (ds87 hm) (nm_r (da_255 hm) (nm_r (ds631 hm) (nm_r (ds48 hm) (nm_r (ds315 hm) ?_)))))))
  exact br_t (nI_lt (a := 2047) (by omega) (by omega)) (br_t (nI_lt (a := 6143) (by omega) (by omega)) (br_t (nI_lt (a := 7167) (by omega) (by omega)) (br_f (nI_nlt (a := 8191) (by omega) (by decide)) (And.intro (in16 (by omega)) (br_f (nI_nlt (b := 7680) (by omega) (by omega)) (ys_sub (And.intro (in16 (by omega)) (nm_e hq))))))))
theorem yi_movi (h1 : 8192 ≤ m) (h2 : m ≤ 10239) (hq : q 1 (pc, fz_nz fl (nI (m % 256)), pr, ss, dp, ph, lf, ln, tl, cd, rm, upd rg (nI (m / 256 % 8)).toNatClampNeg (nI (m % 256)), sp, wt, py, vc, ac, rc)) : wpY_perform q (pc, fl, pr, ss, dp, ph, lf, ln, tl, cd, rm, rg, sp, wt, py, vc, ac, rc) (nI m) := by
  have hm : m < 65536 := by omega
  refine nm_r (da_7 hm) (nm_r (ds37 hm) (nm_r (ds67 hm) (nm_r (ds87 hm) (nm_r (da_255 hm) (nm_r (ds631 hm) (nm_r (ds48 hm) (nm_r (ds315 hm) ?_)))))))
  exact br_t (nI_lt (a := 2047) (by omega) (by omega)) (br_t (nI_lt (a := 6143) (by omega) (by omega)) (br_t (nI_lt (a := 7167) (by omega) (by omega)) (br_t (nI_lt (a := 8191) (by omega) (by omega)) (br_f (nI_nlt (a := 10239) (by omega) (by decide)) (ys_nz rfl (And.intro (in16 (by omega)) (nm_e hq)))))))
theorem yi_cmpi (h1 : 10240 ≤ m) (h2 : m ≤ 12287) (hq : q 1 (pc, fz_sub (rg (nI (m / 256 % 8)).toNatClampNeg) (nI (m % 256)), pr, ss, dp, ph, lf, ln, tl, cd, rm, rg, sp, wt, py, vc, ac, rc)) : wpY_perform q (pc, fl, pr, ss, dp, ph, lf, ln, tl, cd, rm, rg, sp, wt, py, vc, ac, rc) (nI m) := by
  have hm : m < 65536 := by omega
  refine nm_r (da_7 hm) (nm_r (ds37 hm) (nm_r (ds67 hm) (nm_r (ds87 hm) (nm_r (da_255 hm) (nm_r (ds631 hm) (nm_r (ds48 hm) (nm_r (ds315 hm) ?_)))))))
  exact br_t (nI_lt (a := 2047) (by omega) (by omega)) (br_t (nI_lt (a := 6143) (by omega) (by omega)) (br_t (nI_lt (a := 7167) (by omega) (by omega)) (br_t (nI_lt (a := 8191) (by omega) (by omega)) (br_t (nI_lt (a := 10239) (by omega) (by omega)) (br_f (nI_nlt (a := 12287) (by omega) (by decide)) (And.intro (in16 (by omega)) (ys_sub hq)))))))
theorem yi_add8 (h1 : 12288 ≤ m) (h2 : m ≤ 14335) (hq : q 1 (pc, fz_add (rg (nI (m / 256 % 8)).toNatClampNeg) (nI (m % 256)), pr, ss, dp, ph, lf, ln, tl, cd, rm, upd rg (nI (m / 256 % 8)).toNatClampNeg (rg (nI (m / 256 % 8)).toNatClampNeg + nI (m % 256)), sp, wt, py, vc, ac, rc)) : wpY_perform q (pc, fl, pr, ss, dp, ph, lf, ln, tl, cd, rm, rg, sp, wt, py, vc, ac, rc) (nI m) := by
  have hm : m < 65536 := by omega
  refine nm_r (da_7 hm) (nm_r (ds37 hm) (nm_r (ds67 hm) (nm_r (ds87 hm) (nm_r (da_255 hm) (nm_r (ds631 hm) (nm_r (ds48 hm) (nm_r (ds315 hm) ?_)))))))
  exact br_t (nI_lt (a := 2047) (by omega) (by omega)) (br_t (nI_lt (a := 6143) (by omega) (by omega)) (br_t (nI_lt (a := 7167) (by omega) (by omega)) (br_t (nI_lt (a := 8191) (by omega) (by omega)) (br_t (nI_lt (a := 10239) (by omega) (by omega)) (br_t (nI_lt (a := 12287) (by omega) (by omega)) (br_f (nI_nlt (a := 16383) (by omega) (by decide)) (And.intro (in16 (by omega)) (br_t (nI_lt (b := 14336) (by omega) (by decide)) (ys_add (And.intro (in16 (by omega)) (nm_e hq)))))))))))
theorem yi_sub8 (h1 : 14336 ≤ m) (h2 : m ≤ 16383) (hq : q 1 (pc, fz_sub (rg (nI (m / 256 % 8)).toNatClampNeg) (nI (m % 256)), pr, ss, dp, ph, lf, ln, tl, cd, rm, upd rg (nI (m / 256 % 8)).toNatClampNeg (rg (nI (m / 256 % 8)).toNatClampNeg - nI (m % 256)), sp, wt, py, vc, ac, rc)) : wpY_perform q (pc, fl, pr, ss, dp, ph, lf, ln, tl, cd, rm, rg, sp, wt, py, vc, ac, rc) (nI m) := by
  have hm : m < 65536 := by omega
  refine nm_r (da_7 hm) (nm_r (ds37 hm) (nm_r (ds67 hm) (nm_r (ds87 hm) (nm_r (da_255 hm) (nm_r (ds631 hm) (nm_r (ds48 hm) (nm_r (ds315 hm) ?_)))))))
  exact br_t (nI_lt (a := 2047) (by omega) (by omega)) (br_t (nI_lt (a := 6143) (by omega) (by omega)) (br_t (nI_lt (a := 7167) (by omega) (by omega)) (br_t (nI_lt (a := 8191) (by omega) (by omega)) (br_t (nI_lt (a := 10239) (by omega) (by omega)) (br_t (nI_lt (a := 12287) (by omega) (by omega)) (br_f (nI_nlt (a := 16383) (by omega) (by decide)) (And.intro (in16 (by omega)) (br_f (nI_nlt (b := 14336) (by omega) (by omega)) (ys_sub (And.intro (in16 (by omega)) (nm_e hq)))))))))))
theorem yi_and {v : Int32} (h1 : 16384 ≤ m) (h2 : m ≤ 16447) (hv : rg (nI (m % 8)).toNatClampNeg &&& rg (nI (m / 8 % 8)).toNatClampNeg = v) (hq : q 1 (pc, fz_nz fl v, pr, ss, dp, ph, lf, ln, tl, cd, rm, upd rg (nI (m % 8)).toNatClampNeg v, sp, wt, py, vc, ac, rc)) : wpY_perform q (pc, fl, pr, ss, dp, ph, lf, ln, tl, cd, rm, rg, sp, wt, py, vc, ac, rc) (nI m) := by
  have hm : m < 65536 := by omega
  refine nm_r (da_7 hm) (nm_r (ds37 hm) (nm_r (ds67 hm) (nm_r (ds87 hm) (nm_r (da_255 hm) (nm_r (ds631 hm) (nm_r (ds48 hm) (nm_r (ds315 hm) ?_)))))))
  exact br_t (nI_lt (a := 2047) (by omega) (by omega)) (br_t (nI_lt (a := 6143) (by omega) (by omega)) (br_t (nI_lt (a := 7167) (by omega) (by omega)) (br_t (nI_lt (a := 8191) (by omega) (by omega)) (br_t (nI_lt (a := 10239) (by omega) (by omega)) (br_t (nI_lt (a := 12287) (by omega) (by omega)) (br_t (nI_lt (a := 16383) (by omega) (by omega)) (br_f (nI_nlt (a := 16447) (by omega) (by decide)) (And.intro (in16 (by omega)) (And.intro (in16 (by omega)) (ys_nz hv (And.intro (in16 (by omega)) (nm_e hq))))))))))))
theorem yi_eor {v : Int32} (h1 : 16448 ≤ m) (h2 : m ≤ 16511) (hv : rg (nI (m % 8)).toNatClampNeg ^^^ rg (nI (m / 8 % 8)).toNatClampNeg = v) (hq : q 1 (pc, fz_nz fl v, pr, ss, dp, ph, lf, ln, tl, cd, rm, upd rg (nI (m % 8)).toNatClampNeg v, sp, wt, py, vc, ac, rc)) : wpY_perform q (pc, fl, pr, ss, dp, ph, lf, ln, tl, cd, rm, rg, sp, wt, py, vc, ac, rc) (nI m) := by
  have hm : m < 65536 := by omega
  refine nm_r (da_7 hm) (nm_r (ds37 hm) (nm_r (ds67 hm) (nm_r (ds87 hm) (nm_r (da_255 hm) (nm_r (ds631 hm) (nm_r (ds48 hm) (nm_r (ds315 hm) ?_)))))))
  exact br_t (nI_lt (a := 2047) (by omega) (by omega)) (br_t (nI_lt (a := 6143) (by omega) (by omega)) (br_t (nI_lt (a := 7167) (by omega) (by omega)) (br_t (nI_lt (a := 8191) (by omega) (by omega)) (br_t (nI_lt (a := 10239) (by omega) (by omega)) (br_t (nI_lt (a := 12287) (by omega) (by omega)) (br_t (nI_lt (a := 16383) (by omega) (by omega)) (br_t (nI_lt (a := 16447) (by omega) (by omega)) (br_f (nI_nlt (a := 16511) (by omega) (by decide)) (And.intro (in16 (by omega)) (And.intro (in16 (by omega)) (ys_nz hv (And.intro (in16 (by omega)) (nm_e hq)))))))))))))
theorem yi_cmpr (h1 : 17024 ≤ m) (h2 : m ≤ 17087) (hq : q 1 (pc, fz_sub (rg (nI (m % 8)).toNatClampNeg) (rg (nI (m / 8 % 8)).toNatClampNeg), pr, ss, dp, ph, lf, ln, tl, cd, rm, rg, sp, wt, py, vc, ac, rc)) : wpY_perform q (pc, fl, pr, ss, dp, ph, lf, ln, tl, cd, rm, rg, sp, wt, py, vc, ac, rc) (nI m) := by
  have hm : m < 65536 := by omega
  refine nm_r (da_7 hm) (nm_r (ds37 hm) (nm_r (ds67 hm) (nm_r (ds87 hm) (nm_r (da_255 hm) (nm_r (ds631 hm) (nm_r (ds48 hm) (nm_r (ds315 hm) ?_)))))))
  exact br_t (nI_lt (a := 2047) (by omega) (by omega)) (br_t (nI_lt (a := 6143) (by omega) (by omega)) (br_t (nI_lt (a := 7167) (by omega) (by omega)) (br_t (nI_lt (a := 8191) (by omega) (by omega)) (br_t (nI_lt (a := 10239) (by omega) (by omega)) (br_t (nI_lt (a := 12287) (by omega) (by omega)) (br_t (nI_lt (a := 16383) (by omega) (by omega)) (br_t (nI_lt (a := 16447) (by omega) (by omega)) (br_t (nI_lt (a := 16511) (by omega) (by omega)) (br_f (nI_nlt (b := 17024) (by omega) (by omega)) (br_f (nI_nlt (a := 17087) (by omega) (by decide)) (And.intro (in16 (by omega)) (And.intro (in16 (by omega)) (ys_sub hq)))))))))))))
theorem yi_orr {v : Int32} (h1 : 17152 ≤ m) (h2 : m ≤ 17215) (hv : rg (nI (m % 8)).toNatClampNeg ||| rg (nI (m / 8 % 8)).toNatClampNeg = v) (hq : q 1 (pc, fz_nz fl v, pr, ss, dp, ph, lf, ln, tl, cd, rm, upd rg (nI (m % 8)).toNatClampNeg v, sp, wt, py, vc, ac, rc)) : wpY_perform q (pc, fl, pr, ss, dp, ph, lf, ln, tl, cd, rm, rg, sp, wt, py, vc, ac, rc) (nI m) := by
  have hm : m < 65536 := by omega
  exact yd_top hm (by omega) (by omega) (br_f (nI_nlt (b := 17152) (by omega) (by omega)) (br_f (nI_nlt (a := 17215) (by omega) (by decide)) (And.intro (in16 (by omega)) (And.intro (in16 (by omega)) (ys_nz hv (And.intro (in16 (by omega)) (nm_e hq)))))))
theorem yi_mov {x : Nat} (h1 : 17920 ≤ m) (h2 : m ≤ 18175) (hx : (nI (m / 16) &&& 8) ||| nI (m % 8) = nI x) (hx16 : x < 16) (x1 : ¬ nI x = 13) (x2 : ¬ nI x = 15) (y1 : ¬ nI (m / 8 % 16) = 13) (y2 : ¬ nI (m / 8 % 16) = 15) (hq : q 1 (pc, fl, pr, ss, dp, ph, lf, ln, tl, cd, rm, upd rg (nI x).toNatClampNeg (rg (nI (m / 8 % 16)).toNatClampNeg), sp, wt, py, vc, ac, rc)) : wpY_perform q (pc, fl, pr, ss, dp, ph, lf, ln, tl, cd, rm, rg, sp, wt, py, vc, ac, rc) (nI m) := by
  have hm : m < 65536 := by omega
  refine yd_top hm (by omega) (by omega) (yd_412 hm (by omega) ?_)
  rw [hx]
  exact br_f (nI_nlt (b := 17920) (by omega) (by omega)) (br_f (nI_nlt (a := 18175) (by omega) (by decide)) (ys_us1 x1 x2 (br_f (by decide) (ys_us1 y1 y2 (br_f (by decide) (And.intro (in16 (by omega)) (And.intro (in16 hx16) (nm_e hq))))))))
theorem yi_movu {x : Nat} (h1 : 17920 ≤ m) (h2 : m ≤ 18175) (hx : (nI (m / 16) &&& 8) ||| nI (m % 8) = nI x) (hb : (nI x = 13 ∨ nI x = 15) ∨ (nI (m / 8 % 16) = 13 ∨ nI (m / 8 % 16) = 15)) (hq : q 0 (pc, fl, pr, ss, dp, ph, lf, ln, tl, cd, rm, rg, sp, wt, py, vc, ac, rc)) : wpY_perform q (pc, fl, pr, ss, dp, ph, lf, ln, tl, cd, rm, rg, sp, wt, py, vc, ac, rc) (nI m) := by
  have hm : m < 65536 := by omega
  refine yd_top hm (by omega) (by omega) (yd_412 hm (by omega) ?_)
  rw [hx]
  refine br_f (nI_nlt (b := 17920) (by omega) (by omega)) (br_f (nI_nlt (a := 18175) (by omega) (by decide)) ?_)
  by_cases b : nI x = 13 ∨ nI x = 15
  · exact ys_us0 b (br_t rfl (yd_501 hm (by omega) (yu_542 (by omega) hq)))
  · exact ys_us1 (fun z => b (Or.inl z)) (fun z => b (Or.inr z)) (br_f (by decide) (ys_us0 (hb.resolve_left b) (br_t rfl (yd_501 hm (by omega) (yu_542 (by omega) hq)))))
theorem yi_str (h1 : 24576 ≤ m) (h2 : m ≤ 26623) (hq : q 1 (pc, fl, pr, ss, dp, ph, lf, ln, tl, cd, upd rm (aw_ (rg (nI (m / 8 % 8)).toNatClampNeg + 4 * nI (m / 64 % 32))) (rg (nI (m % 8)).toNatClampNeg), rg, sp, wt, py, vc, ac, rc)) : wpY_perform q (pc, fl, pr, ss, dp, ph, lf, ln, tl, cd, rm, rg, sp, wt, py, vc, ac, rc) (nI m) := by
  have hm : m < 65536 := by omega
  exact yd_top hm (by omega) (by omega) (yd_412 hm (by omega) (yd_452 hm (by omega) (yd_501 hm (by omega) (br_f (nI_nlt (b := 24576) (by omega) (by omega)) (br_f (nI_nlt (a := 26623) (by omega) (by decide)) (And.intro (in16 (by omega)) (And.intro (in16 (by omega)) (ys_st hq))))))))
theorem yi_ldr (h1 : 26624 ≤ m) (h2 : m ≤ 28671) (hq : q 1 (pc, fl, pr, ss, dp, ph, lf, ln, tl, cd, rm, upd rg (nI (m % 8)).toNatClampNeg (rm (aw_ (rg (nI (m / 8 % 8)).toNatClampNeg + 4 * nI (m / 64 % 32)))), sp, wt, py, vc, ac, rc)) : wpY_perform q (pc, fl, pr, ss, dp, ph, lf, ln, tl, cd, rm, rg, sp, wt, py, vc, ac, rc) (nI m) := by
  have hm : m < 65536 := by omega
  exact yd_top hm (by omega) (by omega) (yd_412 hm (by omega) (yd_452 hm (by omega) (yd_501 hm (by omega) (yd_542 hm (by omega) (br_f (nI_nlt (b := 26624) (by omega) (by omega)) (br_f (nI_nlt (a := 28671) (by omega) (by decide)) (And.intro (in16 (by omega)) (ys_ld (And.intro (in16 (by omega)) (nm_e hq))))))))))
end
end
section
/-! X's undefined instructions, and the plain instructions on both sides -/
theorem nx_or (a b : Nat) : nI a ||| nI b = nI (a ||| b) := by
  apply Int32.toBitVec_inj.1
  show BitVec.ofNat 32 a ||| BitVec.ofNat 32 b = BitVec.ofNat 32 (a ||| b)
  apply BitVec.eq_of_getLsbD_eq
  intro i hi
  simp [hi]
theorem dx_x8 (m : Nat) : ∃ x, x < 16 ∧ (nI (m / 16) &&& 8) ||| nI (m % 8) = nI x := by
  refine ⟨((m / 16) &&& 8) ||| (m % 8), ?_, ?_⟩
  · exact Nat.or_lt_two_pow (n := 4) (Nat.lt_of_le_of_lt Nat.and_le_right (by decide)) (by omega)
  · show (nI (m / 16) &&& nI 8) ||| nI (m % 8) = _
    rw [nx_and, nx_or]
section
variable {m : Nat} {p : SX → Prop} {u : SX} {msp psp pc fl pr ss ph lf fb ln tl pm am th bs dp nw : Int32} {cd rm rg fr py vc lv ac st : Nat → Int32}
theorem xg_49u (hm : m < 65536) (h1 : m ≠ 46690) (h2 : m ≠ 46706) (h3 : m ≠ 48896) (H : ∀ p, p u → wpX_undefined p (msp, psp, pc, fl, pr, ss, ph, lf, fb, ln, tl, pm, am, th, bs, dp, nw, cd, rm, rg, fr, py, vc, lv, ac, st)) (hp : p u) : wX_stackGroup_49 p (nI m) msp psp pc fl pr ss ph lf fb ln tl pm am th bs dp nw cd rm rg fr py vc lv ac st :=
  br_f (fun z => h1 ((nI_eq (b := 46690) (by omega) (by decide)).mp z)) (br_f (fun z => h2 ((nI_eq (b := 46706) (by omega) (by decide)).mp z)) (br_f (fun z => h3 ((nI_eq (b := 48896) (by omega) (by decide)).mp z)) (H _ (xt_eta hp))))
theorem xg_27 (hm : m < 65536) (h : m < 48129 ∨ 48639 < m) (H : wX_stackGroup_49 p (nI m) msp psp pc fl pr ss ph lf fb ln tl pm am th bs dp nw cd rm rg fr py vc lv ac st) : wX_stackGroup_27 p (nI m) (nI (m % 512)) msp psp pc fl pr ss ph lf fb ln tl pm am th bs dp nw cd rm rg fr py vc lv ac st := by
  refine br_c (fun e => br_c (fun _ => H) (fun z => ?_)) (fun _ => H)
  rw [dm_fe00 hm] at e
  have e1 := (nI_eq (b := 48128) (by omega) (by decide)).mp e
  have z1 : m % 512 ≠ 0 := fun y => z (by rw [y]; rfl)
  omega
theorem xg_g (hm : m < 65536) (h : m < 46081 ∨ 46591 < m) (H : wX_stackGroup_27 p (nI m) (nI (m % 512)) msp psp pc fl pr ss ph lf fb ln tl pm am th bs dp nw cd rm rg fr py vc lv ac st) : wpX_stackGroup p (msp, psp, pc, fl, pr, ss, ph, lf, fb, ln, tl, pm, am, th, bs, dp, nw, cd, rm, rg, fr, py, vc, lv, ac, st) (nI m) := by
  refine nm_r (da_511 hm) (br_c (fun e => br_c (fun _ => H) (fun z => ?_)) (fun _ => H))
  rw [dm_fe00 hm] at e
  have e1 := (nI_eq (b := 46080) (by omega) (by decide)).mp e
  have z1 : m % 512 ≠ 0 := fun y => z (by rw [y]; rfl)
  omega
theorem xu_0 (hm : 2048 ≤ m) (h : m ≤ 6143) (H : ∀ p, p u → wpX_undefined p (msp, psp, pc, fl, pr, ss, ph, lf, fb, ln, tl, pm, am, th, bs, dp, nw, cd, rm, rg, fr, py, vc, lv, ac, st)) : ∀ p, p u → wpX_shiftOrAdd p (msp, psp, pc, fl, pr, ss, ph, lf, fb, ln, tl, pm, am, th, bs, dp, nw, cd, rm, rg, fr, py, vc, lv, ac, st) (nI m) := fun _ hp =>
  br_t (nI_le (a := 2048) (by omega) (by omega)) (br_t (nI_lt (b := 6144) (by omega) (by decide)) (H _ (xt_eta hp)))
theorem xu_13 (hm : 55296 ≤ m) (h : m ≤ 57087) (H : ∀ p, p u → wpX_undefined p (msp, psp, pc, fl, pr, ss, ph, lf, fb, ln, tl, pm, am, th, bs, dp, nw, cd, rm, rg, fr, py, vc, lv, ac, st)) : ∀ p, p u → wpX_conditionalGroup p (msp, psp, pc, fl, pr, ss, ph, lf, fb, ln, tl, pm, am, th, bs, dp, nw, cd, rm, rg, fr, py, vc, lv, ac, st) (nI m) := fun _ hp =>
  br_t (nI_lt (b := 57088) (by omega) (by decide)) (br_f (nI_nlt (b := 55296) (by omega) (by omega)) (H _ (xt_eta hp)))
theorem xu_14 (hm : 59392 ≤ m) (h : m < 65536) (H : ∀ p, p u → wpX_undefined p (msp, psp, pc, fl, pr, ss, ph, lf, fb, ln, tl, pm, am, th, bs, dp, nw, cd, rm, rg, fr, py, vc, lv, ac, st)) : ∀ p, p u → wpX_branch p (msp, psp, pc, fl, pr, ss, ph, lf, fb, ln, tl, pm, am, th, bs, dp, nw, cd, rm, rg, fr, py, vc, lv, ac, st) (nI m) := fun _ hp =>
  br_t (nI_le (a := 59392) (by omega) (by omega)) (H _ (xt_eta hp))
theorem xu_15 (hm : m < 65536) (h1 : m < 62336 ∨ 62351 < m) (h2 : m ≠ 62447) (H : ∀ p, p u → wpX_undefined p (msp, psp, pc, fl, pr, ss, ph, lf, fb, ln, tl, pm, am, th, bs, dp, nw, cd, rm, rg, fr, py, vc, lv, ac, st)) : ∀ p, p u → wpX_specialGroup p (msp, psp, pc, fl, pr, ss, ph, lf, fb, ln, tl, pm, am, th, bs, dp, nw, cd, rm, rg, fr, py, vc, lv, ac, st) (nI m) := by
  intro p hp
  obtain ⟨q, hq, e, _⟩ := pc_sp (pc + 2)
  refine And.intro (by rw [e]; exact vp_in_nI hq (by decide)) (nm_e (br_f ?_ (br_f (fun z => h2 ((nI_eq (b := 62447) (by omega) (by decide)).mp z)) (H _ (xt_eta hp)))))
  rw [dm_fff0 hm]
  intro z
  have z1 := (nI_eq (b := 62336) (by omega) (by decide)).mp z
  omega
theorem xu_ex (hm : yu_m m) (hc : cd (((pc.toUInt32 >>> ((1 : Int32).toUInt32 &&& Int32.toUInt32 31)).toInt32) &&& 127).toNatClampNeg = nI m) (H : ∀ p, p u → wpX_undefined p (msp, psp, pc, fl, pr, ss, ph, lf, fb, ln, tl, pm, am, th, bs, dp, nw, cd, rm, rg, fr, py, vc, lv, ac, st)) : ∀ p, p u → wpX_execute p (msp, psp, pc, fl, pr, ss, ph, lf, fb, ln, tl, pm, am, th, bs, dp, nw, cd, rm, rg, fr, py, vc, lv, ac, st) := by
  unfold yu_m at hm
  have h0 : m < 65536 := by omega
  rcases (by omega : m / 4096 = 0 ∨ m / 4096 = 1 ∨ m / 4096 = 4 ∨ m / 4096 = 5 ∨ m / 4096 = 7 ∨ m / 4096 = 8 ∨ m / 4096 = 9 ∨ m / 4096 = 10 ∨ m / 4096 = 11 ∨ m / 4096 = 12 ∨ m / 4096 = 13 ∨ m / 4096 = 14 ∨ m / 4096 = 15) with k | k | k | k | k | k | k | k | k | k | k | k | k
  · exact xd_0 h0 hc k (xu_0 (by omega) (by omega) H)
  · exact xd_1 h0 hc k (xu_0 (by omega) (by omega) H)
  · refine xd_4 h0 hc k ?_
    rcases (by omega : m / 64 = 258 ∨ m / 64 = 259 ∨ m / 64 = 260 ∨ m / 64 = 261 ∨ m / 64 = 262 ∨ m / 64 = 263 ∨ m / 64 = 264 ∨ m / 64 = 265 ∨ m / 64 = 267 ∨ m / 64 = 269 ∨ m / 64 = 270 ∨ m / 64 = 271 ∨ m / 64 = 272 ∨ m / 64 = 273 ∨ m / 64 = 274 ∨ m / 64 = 275 ∨ m / 64 = 276 ∨ m / 64 = 277 ∨ m / 64 = 278 ∨ m / 64 = 279 ∨ 285 < m / 64) with j | j | j | j | j | j | j | j | j | j | j | j | j | j | j | j | j | j | j | j | j
    · exact xr_258 h0 j H
    · exact xr_259 h0 j H
    · exact xr_260 h0 j H
    · exact xr_261 h0 j H
    · exact xr_262 h0 j H
    · exact xr_263 h0 j H
    · exact xr_264 h0 j H
    · exact xr_265 h0 j H
    · exact xr_267 h0 j H
    · exact xr_269 h0 j H
    · exact xr_270 h0 j H
    · exact xr_271 h0 j H
    · exact xr_272 h0 j H
    · exact xr_273 h0 j H
    · exact xr_274 h0 j H
    · exact xr_275 h0 j H
    · exact xr_276 h0 j H
    · exact xr_277 h0 j H
    · exact xr_278 h0 j H
    · exact xr_279 h0 j H
    · exact xr_286 h0 j H
  · exact xd_5 h0 hc k H
  · exact xd_7 h0 hc k H
  · exact xd_8 h0 hc k H
  · exact xd_9 h0 hc k H
  · exact xd_10 h0 hc k H
  · exact xd_11 h0 hc k (fun p hp => xg_g h0 (by omega) (xg_27 h0 (by omega) (xg_49u h0 (by omega) (by omega) (by omega) H hp)))
  · exact xd_12 h0 hc k H
  · exact xd_13 h0 hc k (xu_13 (by omega) (by omega) H)
  · exact xd_14 h0 hc k (xu_14 (by omega) h0 H)
  · exact xd_15 h0 hc k (xu_15 h0 (by omega) (by omega) H)
end
section
variable {m : Nat} {msp psp pc fl pr ss ph lf fb ln tl pm am th bs dp nw : Int32} {cd rm rg fr py vc lv ac st sp wt rc : Nat → Int32}
theorem ox_und (hm : yu_m m) (hc : cd (((pc.toUInt32 >>> ((1 : Int32).toUInt32 &&& Int32.toUInt32 31)).toInt32) &&& 127).toNatClampNeg = nI m) (g : rl_G ln tl dp nw pr pm am th bs cd py lv ac st wt rc) (hh : rl_H msp psp ss rg sp) : oc_ (fun p => wpX_execute p (msp, psp, pc, fl, pr, ss, 0, 0, fb, ln, tl, pm, am, th, bs, dp, nw, cd, rm, rg, fr, py, vc, lv, ac, st)) (fun p => wpY_execute p (pc, fl, pr, ss, dp, 0, 0, ln, tl, cd, rm, rg, sp, wt, upd py 3 (-1), vc, ac, rc)) := un_ex hc g hh (fun u H => xu_ex hm hc H) (fun q hq => yu_top hm hq)
theorem ox_lsl (h : m ≤ 2047) (hc : cd (((pc.toUInt32 >>> ((1 : Int32).toUInt32 &&& Int32.toUInt32 31)).toInt32) &&& 127).toNatClampNeg = nI m) (g : rl_G ln tl dp nw pr pm am th bs cd py lv ac st wt rc) (hh : rl_H msp psp ss rg sp) : oc_ (fun p => wpX_execute p (msp, psp, pc, fl, pr, ss, 0, 0, fb, ln, tl, pm, am, th, bs, dp, nw, cd, rm, rg, fr, py, vc, lv, ac, st)) (fun p => wpY_execute p (pc, fl, pr, ss, dp, 0, 0, ln, tl, cd, rm, rg, sp, wt, upd py 3 (-1), vc, ac, rc)) :=
  ⟨_, _, rl_0 g (rl_Hn (d := m % 8) hh (by omega)), xd_0 (by omega) hc (by omega) (fun p hp => xi_lsl h hp), fun p hp => ye_one hc (fun q hq => yi_lsl h hq) (ye_0 (by decide) hp)⟩
theorem ox_addR (h1 : 6144 ≤ m) (h2 : m ≤ 6655) (hc : cd (((pc.toUInt32 >>> ((1 : Int32).toUInt32 &&& Int32.toUInt32 31)).toInt32) &&& 127).toNatClampNeg = nI m) (g : rl_G ln tl dp nw pr pm am th bs cd py lv ac st wt rc) (hh : rl_H msp psp ss rg sp) : oc_ (fun p => wpX_execute p (msp, psp, pc, fl, pr, ss, 0, 0, fb, ln, tl, pm, am, th, bs, dp, nw, cd, rm, rg, fr, py, vc, lv, ac, st)) (fun p => wpY_execute p (pc, fl, pr, ss, dp, 0, 0, ln, tl, cd, rm, rg, sp, wt, upd py 3 (-1), vc, ac, rc)) :=
  ⟨_, _, rl_0 g (rl_Hn (d := m % 8) hh (by omega)), xd_1 (by omega) hc (by omega) (fun p hp => xi_addR h1 h2 hp), fun p hp => ye_one hc (fun q hq => yi_addR h1 h2 hq) (ye_0 (by decide) hp)⟩
theorem ox_subR (h1 : 6656 ≤ m) (h2 : m ≤ 7167) (hc : cd (((pc.toUInt32 >>> ((1 : Int32).toUInt32 &&& Int32.toUInt32 31)).toInt32) &&& 127).toNatClampNeg = nI m) (g : rl_G ln tl dp nw pr pm am th bs cd py lv ac st wt rc) (hh : rl_H msp psp ss rg sp) : oc_ (fun p => wpX_execute p (msp, psp, pc, fl, pr, ss, 0, 0, fb, ln, tl, pm, am, th, bs, dp, nw, cd, rm, rg, fr, py, vc, lv, ac, st)) (fun p => wpY_execute p (pc, fl, pr, ss, dp, 0, 0, ln, tl, cd, rm, rg, sp, wt, upd py 3 (-1), vc, ac, rc)) :=
  ⟨_, _, rl_0 g (rl_Hn (d := m % 8) hh (by omega)), xd_1 (by omega) hc (by omega) (fun p hp => xi_subR h1 h2 hp), fun p hp => ye_one hc (fun q hq => yi_subR h1 h2 hq) (ye_0 (by decide) hp)⟩
theorem ox_addI (h1 : 7168 ≤ m) (h2 : m ≤ 7679) (hc : cd (((pc.toUInt32 >>> ((1 : Int32).toUInt32 &&& Int32.toUInt32 31)).toInt32) &&& 127).toNatClampNeg = nI m) (g : rl_G ln tl dp nw pr pm am th bs cd py lv ac st wt rc) (hh : rl_H msp psp ss rg sp) : oc_ (fun p => wpX_execute p (msp, psp, pc, fl, pr, ss, 0, 0, fb, ln, tl, pm, am, th, bs, dp, nw, cd, rm, rg, fr, py, vc, lv, ac, st)) (fun p => wpY_execute p (pc, fl, pr, ss, dp, 0, 0, ln, tl, cd, rm, rg, sp, wt, upd py 3 (-1), vc, ac, rc)) :=
  ⟨_, _, rl_0 g (rl_Hn (d := m % 8) hh (by omega)), xd_1 (by omega) hc (by omega) (fun p hp => xi_addI h1 h2 hp), fun p hp => ye_one hc (fun q hq => yi_addI h1 h2 hq) (ye_0 (by decide) hp)⟩
theorem ox_subI (h1 : 7680 ≤ m) (h2 : m ≤ 8191) (hc : cd (((pc.toUInt32 >>> ((1 : Int32).toUInt32 &&& Int32.toUInt32 31)).toInt32) &&& 127).toNatClampNeg = nI m) (g : rl_G ln tl dp nw pr pm am th bs cd py lv ac st wt rc) (hh : rl_H msp psp ss rg sp) : oc_ (fun p => wpX_execute p (msp, psp, pc, fl, pr, ss, 0, 0, fb, ln, tl, pm, am, th, bs, dp, nw, cd, rm, rg, fr, py, vc, lv, ac, st)) (fun p => wpY_execute p (pc, fl, pr, ss, dp, 0, 0, ln, tl, cd, rm, rg, sp, wt, upd py 3 (-1), vc, ac, rc)) :=
  ⟨_, _, rl_0 g (rl_Hn (d := m % 8) hh (by omega)), xd_1 (by omega) hc (by omega) (fun p hp => xi_subI h1 h2 hp), fun p hp => ye_one hc (fun q hq => yi_subI h1 h2 hq) (ye_0 (by decide) hp)⟩
theorem ox_movi (h1 : 8192 ≤ m) (h2 : m ≤ 10239) (hc : cd (((pc.toUInt32 >>> ((1 : Int32).toUInt32 &&& Int32.toUInt32 31)).toInt32) &&& 127).toNatClampNeg = nI m) (g : rl_G ln tl dp nw pr pm am th bs cd py lv ac st wt rc) (hh : rl_H msp psp ss rg sp) : oc_ (fun p => wpX_execute p (msp, psp, pc, fl, pr, ss, 0, 0, fb, ln, tl, pm, am, th, bs, dp, nw, cd, rm, rg, fr, py, vc, lv, ac, st)) (fun p => wpY_execute p (pc, fl, pr, ss, dp, 0, 0, ln, tl, cd, rm, rg, sp, wt, upd py 3 (-1), vc, ac, rc)) :=
  ⟨_, _, rl_0 g (rl_Hn (d := m / 256 % 8) hh (by omega)), xd_2 (by omega) hc (by omega) (fun p hp => xi_movi h1 h2 hp), fun p hp => ye_one hc (fun q hq => yi_movi h1 h2 hq) (ye_0 (by decide) hp)⟩
theorem ox_cmpi (h1 : 10240 ≤ m) (h2 : m ≤ 12287) (hc : cd (((pc.toUInt32 >>> ((1 : Int32).toUInt32 &&& Int32.toUInt32 31)).toInt32) &&& 127).toNatClampNeg = nI m) (g : rl_G ln tl dp nw pr pm am th bs cd py lv ac st wt rc) (hh : rl_H msp psp ss rg sp) : oc_ (fun p => wpX_execute p (msp, psp, pc, fl, pr, ss, 0, 0, fb, ln, tl, pm, am, th, bs, dp, nw, cd, rm, rg, fr, py, vc, lv, ac, st)) (fun p => wpY_execute p (pc, fl, pr, ss, dp, 0, 0, ln, tl, cd, rm, rg, sp, wt, upd py 3 (-1), vc, ac, rc)) :=
  ⟨_, _, rl_0 g hh, xd_2 (by omega) hc (by omega) (fun p hp => xi_cmpi h1 h2 hp), fun p hp => ye_one hc (fun q hq => yi_cmpi h1 h2 hq) (ye_0 (by decide) hp)⟩
theorem ox_add8 (h1 : 12288 ≤ m) (h2 : m ≤ 14335) (hc : cd (((pc.toUInt32 >>> ((1 : Int32).toUInt32 &&& Int32.toUInt32 31)).toInt32) &&& 127).toNatClampNeg = nI m) (g : rl_G ln tl dp nw pr pm am th bs cd py lv ac st wt rc) (hh : rl_H msp psp ss rg sp) : oc_ (fun p => wpX_execute p (msp, psp, pc, fl, pr, ss, 0, 0, fb, ln, tl, pm, am, th, bs, dp, nw, cd, rm, rg, fr, py, vc, lv, ac, st)) (fun p => wpY_execute p (pc, fl, pr, ss, dp, 0, 0, ln, tl, cd, rm, rg, sp, wt, upd py 3 (-1), vc, ac, rc)) :=
  ⟨_, _, rl_0 g (rl_Hn (d := m / 256 % 8) hh (by omega)), xd_3 (by omega) hc (by omega) (fun p hp => xi_add8 h1 h2 hp), fun p hp => ye_one hc (fun q hq => yi_add8 h1 h2 hq) (ye_0 (by decide) hp)⟩
theorem ox_sub8 (h1 : 14336 ≤ m) (h2 : m ≤ 16383) (hc : cd (((pc.toUInt32 >>> ((1 : Int32).toUInt32 &&& Int32.toUInt32 31)).toInt32) &&& 127).toNatClampNeg = nI m) (g : rl_G ln tl dp nw pr pm am th bs cd py lv ac st wt rc) (hh : rl_H msp psp ss rg sp) : oc_ (fun p => wpX_execute p (msp, psp, pc, fl, pr, ss, 0, 0, fb, ln, tl, pm, am, th, bs, dp, nw, cd, rm, rg, fr, py, vc, lv, ac, st)) (fun p => wpY_execute p (pc, fl, pr, ss, dp, 0, 0, ln, tl, cd, rm, rg, sp, wt, upd py 3 (-1), vc, ac, rc)) :=
  ⟨_, _, rl_0 g (rl_Hn (d := m / 256 % 8) hh (by omega)), xd_3 (by omega) hc (by omega) (fun p hp => xi_sub8 h1 h2 hp), fun p hp => ye_one hc (fun q hq => yi_sub8 h1 h2 hq) (ye_0 (by decide) hp)⟩
theorem ox_str (h1 : 24576 ≤ m) (h2 : m ≤ 26623) (hc : cd (((pc.toUInt32 >>> ((1 : Int32).toUInt32 &&& Int32.toUInt32 31)).toInt32) &&& 127).toNatClampNeg = nI m) (g : rl_G ln tl dp nw pr pm am th bs cd py lv ac st wt rc) (hh : rl_H msp psp ss rg sp) : oc_ (fun p => wpX_execute p (msp, psp, pc, fl, pr, ss, 0, 0, fb, ln, tl, pm, am, th, bs, dp, nw, cd, rm, rg, fr, py, vc, lv, ac, st)) (fun p => wpY_execute p (pc, fl, pr, ss, dp, 0, 0, ln, tl, cd, rm, rg, sp, wt, upd py 3 (-1), vc, ac, rc)) :=
  ⟨_, _, rl_0 g hh, xd_6 (by omega) hc (by omega) (fun p hp => xi_str h1 h2 hp), fun p hp => ye_one hc (fun q hq => yi_str h1 h2 hq) (ye_0 (by decide) hp)⟩
theorem ox_ldr (h1 : 26624 ≤ m) (h2 : m ≤ 28671) (hc : cd (((pc.toUInt32 >>> ((1 : Int32).toUInt32 &&& Int32.toUInt32 31)).toInt32) &&& 127).toNatClampNeg = nI m) (g : rl_G ln tl dp nw pr pm am th bs cd py lv ac st wt rc) (hh : rl_H msp psp ss rg sp) : oc_ (fun p => wpX_execute p (msp, psp, pc, fl, pr, ss, 0, 0, fb, ln, tl, pm, am, th, bs, dp, nw, cd, rm, rg, fr, py, vc, lv, ac, st)) (fun p => wpY_execute p (pc, fl, pr, ss, dp, 0, 0, ln, tl, cd, rm, rg, sp, wt, upd py 3 (-1), vc, ac, rc)) :=
  ⟨_, _, rl_0 g (rl_Hn (d := m % 8) hh (by omega)), xd_6 (by omega) hc (by omega) (fun p hp => xi_ldr h1 h2 hp), fun p hp => ye_one hc (fun q hq => yi_ldr h1 h2 hq) (ye_0 (by decide) hp)⟩
theorem ox_and (h1 : 16384 ≤ m) (h2 : m ≤ 16447) (hc : cd (((pc.toUInt32 >>> ((1 : Int32).toUInt32 &&& Int32.toUInt32 31)).toInt32) &&& 127).toNatClampNeg = nI m) (g : rl_G ln tl dp nw pr pm am th bs cd py lv ac st wt rc) (hh : rl_H msp psp ss rg sp) : oc_ (fun p => wpX_execute p (msp, psp, pc, fl, pr, ss, 0, 0, fb, ln, tl, pm, am, th, bs, dp, nw, cd, rm, rg, fr, py, vc, lv, ac, st)) (fun p => wpY_execute p (pc, fl, pr, ss, dp, 0, 0, ln, tl, cd, rm, rg, sp, wt, upd py 3 (-1), vc, ac, rc)) :=
  have h0 : m < 65536 := by omega
  ⟨_, _, rl_0 g (rl_Hn (d := m % 8) hh (by omega)), xd_4 h0 hc (by omega) (xr_256 h0 (by omega) (fun p hp => xi_log h0 hp)), fun p hp => ye_one hc (fun q hq => yi_and h1 h2 (by rw [da_7 h0, du37 h0]) hq) (ye_0 (by decide) hp)⟩
theorem ox_eor (h1 : 16448 ≤ m) (h2 : m ≤ 16511) (hc : cd (((pc.toUInt32 >>> ((1 : Int32).toUInt32 &&& Int32.toUInt32 31)).toInt32) &&& 127).toNatClampNeg = nI m) (g : rl_G ln tl dp nw pr pm am th bs cd py lv ac st wt rc) (hh : rl_H msp psp ss rg sp) : oc_ (fun p => wpX_execute p (msp, psp, pc, fl, pr, ss, 0, 0, fb, ln, tl, pm, am, th, bs, dp, nw, cd, rm, rg, fr, py, vc, lv, ac, st)) (fun p => wpY_execute p (pc, fl, pr, ss, dp, 0, 0, ln, tl, cd, rm, rg, sp, wt, upd py 3 (-1), vc, ac, rc)) :=
  have h0 : m < 65536 := by omega
  ⟨_, _, rl_0 g (rl_Hn (d := m % 8) hh (by omega)), xd_4 h0 hc (by omega) (xr_257 h0 (by omega) (fun p hp => xi_log h0 hp)), fun p hp => ye_one hc (fun q hq => yi_eor h1 h2 (by rw [da_7 h0, du37 h0]) hq) (ye_0 (by decide) hp)⟩
theorem ox_orr (h1 : 17152 ≤ m) (h2 : m ≤ 17215) (hc : cd (((pc.toUInt32 >>> ((1 : Int32).toUInt32 &&& Int32.toUInt32 31)).toInt32) &&& 127).toNatClampNeg = nI m) (g : rl_G ln tl dp nw pr pm am th bs cd py lv ac st wt rc) (hh : rl_H msp psp ss rg sp) : oc_ (fun p => wpX_execute p (msp, psp, pc, fl, pr, ss, 0, 0, fb, ln, tl, pm, am, th, bs, dp, nw, cd, rm, rg, fr, py, vc, lv, ac, st)) (fun p => wpY_execute p (pc, fl, pr, ss, dp, 0, 0, ln, tl, cd, rm, rg, sp, wt, upd py 3 (-1), vc, ac, rc)) :=
  have h0 : m < 65536 := by omega
  ⟨_, _, rl_0 g (rl_Hn (d := m % 8) hh (by omega)), xd_4 h0 hc (by omega) (xr_268 h0 (by omega) (fun p hp => xi_log h0 hp)), fun p hp => ye_one hc (fun q hq => yi_orr h1 h2 (by rw [da_7 h0, du37 h0]) hq) (ye_0 (by decide) hp)⟩
theorem ox_cmpr (h1 : 17024 ≤ m) (h2 : m ≤ 17087) (hc : cd (((pc.toUInt32 >>> ((1 : Int32).toUInt32 &&& Int32.toUInt32 31)).toInt32) &&& 127).toNatClampNeg = nI m) (g : rl_G ln tl dp nw pr pm am th bs cd py lv ac st wt rc) (hh : rl_H msp psp ss rg sp) : oc_ (fun p => wpX_execute p (msp, psp, pc, fl, pr, ss, 0, 0, fb, ln, tl, pm, am, th, bs, dp, nw, cd, rm, rg, fr, py, vc, lv, ac, st)) (fun p => wpY_execute p (pc, fl, pr, ss, dp, 0, 0, ln, tl, cd, rm, rg, sp, wt, upd py 3 (-1), vc, ac, rc)) :=
  ⟨_, _, rl_0 g hh, xd_4 (by omega) hc (by omega) (fun p hp => xi_cmpr (by omega) (by omega) hp), fun p hp => ye_one hc (fun q hq => yi_cmpr h1 h2 hq) (ye_0 (by decide) hp)⟩
theorem ox_mov (h1 : 17920 ≤ m) (h2 : m ≤ 18175) (hc : cd (((pc.toUInt32 >>> ((1 : Int32).toUInt32 &&& Int32.toUInt32 31)).toInt32) &&& 127).toNatClampNeg = nI m) (g : rl_G ln tl dp nw pr pm am th bs cd py lv ac st wt rc) (hh : rl_H msp psp ss rg sp) : oc_ (fun p => wpX_execute p (msp, psp, pc, fl, pr, ss, 0, 0, fb, ln, tl, pm, am, th, bs, dp, nw, cd, rm, rg, fr, py, vc, lv, ac, st)) (fun p => wpY_execute p (pc, fl, pr, ss, dp, 0, 0, ln, tl, cd, rm, rg, sp, wt, upd py 3 (-1), vc, ac, rc)) := by
  have h0 : m < 65536 := by omega
  obtain ⟨x, hx16, hx⟩ := dx_x8 m
  have XR : ∀ u, (∀ p, p u → wpX_move p (msp, psp, pc, fl, pr, ss, 0, 0, fb, ln, tl, pm, am, th, bs, dp, nw, cd, rm, rg, fr, py, vc, lv, ac, st) (nI m)) → (∀ p, p u → wpX_execute p (msp, psp, pc, fl, pr, ss, 0, 0, fb, ln, tl, pm, am, th, bs, dp, nw, cd, rm, rg, fr, py, vc, lv, ac, st)) := by
    intro u H
    refine xd_4 h0 hc (by omega) ?_
    rcases (by omega : m / 64 = 280 ∨ m / 64 = 281 ∨ m / 64 = 282 ∨ m / 64 = 283) with j | j | j | j
    · exact xr_280 h0 j H
    · exact xr_281 h0 j H
    · exact xr_282 h0 j H
    · exact xr_283 h0 j H
  by_cases hb : (nI x = 13 ∨ nI x = 15) ∨ (nI (m / 8 % 16) = 13 ∨ nI (m / 8 % 16) = 15)
  · exact un_ex hc g hh (fun u H => XR u (xi_movu h0 hx hb H)) (fun q hq => yi_movu h1 h2 hx hb hq)
  · have x1 : ¬ nI x = 13 := fun z => hb (Or.inl (Or.inl z))
    have x2 : ¬ nI x = 15 := fun z => hb (Or.inl (Or.inr z))
    have y1 : ¬ nI (m / 8 % 16) = 13 := fun z => hb (Or.inr (Or.inl z))
    have y2 : ¬ nI (m / 8 % 16) = 15 := fun z => hb (Or.inr (Or.inr z))
    have n1 : x ≠ 13 := fun z => x1 (congrArg nI z)
    have n2 : x ≠ 15 := fun z => x2 (congrArg nI z)
    exact ⟨_, _, rl_0 g (rl_Hn (d := x) hh (by omega)), XR _ (fun p hp => xi_mov h0 hx hx16 x1 x2 y1 y2 hp), fun p hp => ye_one hc (fun q hq => yi_mov h1 h2 hx hx16 x1 x2 y1 y2 hq) (ye_0 (by decide) hp)⟩
theorem ox_bx (h1 : 18176 ≤ m) (h2 : m ≤ 18303) (hc : cd (((pc.toUInt32 >>> ((1 : Int32).toUInt32 &&& Int32.toUInt32 31)).toInt32) &&& 127).toNatClampNeg = nI m) (g : rl_G ln tl dp nw pr pm am th bs cd py lv ac st wt rc) (hh : rl_H msp psp ss rg sp) : oc_ (fun p => wpX_execute p (msp, psp, pc, fl, pr, ss, 0, 0, fb, ln, tl, pm, am, th, bs, dp, nw, cd, rm, rg, fr, py, vc, lv, ac, st)) (fun p => wpY_execute p (pc, fl, pr, ss, dp, 0, 0, ln, tl, cd, rm, rg, sp, wt, upd py 3 (-1), vc, ac, rc)) := by
  have h0 : m < 65536 := by omega
  have XR : ∀ u, (∀ p, p u → wpX_branchExchange p (msp, psp, pc, fl, pr, ss, 0, 0, fb, ln, tl, pm, am, th, bs, dp, nw, cd, rm, rg, fr, py, vc, lv, ac, st) (nI m)) → (∀ p, p u → wpX_execute p (msp, psp, pc, fl, pr, ss, 0, 0, fb, ln, tl, pm, am, th, bs, dp, nw, cd, rm, rg, fr, py, vc, lv, ac, st)) := by
    intro u H
    refine xd_4 h0 hc (by omega) ?_
    rcases (by omega : m / 64 = 284 ∨ m / 64 = 285) with j | j
    · exact xr_284 h0 j H
    · exact xr_285 h0 j H
  by_cases hd : m % 8 = 0
  · by_cases hb : nI (m / 8 % 16) = 13 ∨ nI (m / 8 % 16) = 15
    · refine un_ex hc g hh (fun u H => XR u (fun p hp => nm_r (du315 h0) (br_t (by rw [da_7 h0, hd]; rfl) (xs_us0 hb (br_t rfl (H _ (xt_eta hp))))))) (fun q hq => ?_)
      exact yd_top h0 (by omega) (by omega) (yd_412 h0 (by omega) (yd_452 h0 (by omega) (br_f (nI_nlt (b := 18176) (by omega) (by omega)) (br_f (nI_nlt (a := 18303) (by omega) (by decide)) (br_t (by rw [hd]; rfl) (ys_us0 hb (br_t rfl (yu_542 (by omega) hq))))))))
    · have y1 : ¬ nI (m / 8 % 16) = 13 := fun z => hb (Or.inl z)
      have y2 : ¬ nI (m / 8 % 16) = 15 := fun z => hb (Or.inr z)
      obtain ⟨u, w, v', R, hX, hY, h4⟩ := jp_oc (v := rg (nI (m / 8 % 16)).toNatClampNeg) (pc := pc) (pc2 := (pc + 2) &&& 254) (fl := fl) (vc := vc) (fb := fb) (fr := fr) (rm := rm) g hh
      refine ⟨u, v', R, XR u (fun p hp => nm_r (du315 h0) (br_t (by rw [da_7 h0, hd]; rfl) (xs_us1 y1 y2 (br_f (by decide) (And.intro (in16 (by omega)) (hX _ (xt_eta hp))))))), fun p hp => ye_one hc (w := w) (fun q hq => ?_) (h4 p hp)⟩
      exact yd_top h0 (by omega) (by omega) (yd_412 h0 (by omega) (yd_452 h0 (by omega) (br_f (nI_nlt (b := 18176) (by omega) (by omega)) (br_f (nI_nlt (a := 18303) (by omega) (by decide)) (br_t (by rw [hd]; rfl) (ys_us1 y1 y2 (br_f (by decide) (And.intro (in16 (by omega)) (hY _ (yt_eta (post := q 1) hq))))))))))
  · refine un_ex hc g hh (fun u H => XR u (fun p hp => nm_r (du315 h0) (br_f (by rw [da_7 h0]; exact nI_ne0 (by omega) (by omega)) (H _ (xt_eta hp))))) (fun q hq => ?_)
    exact yd_top h0 (by omega) (by omega) (yd_412 h0 (by omega) (yd_452 h0 (by omega) (br_f (nI_nlt (b := 18176) (by omega) (by omega)) (br_f (nI_nlt (a := 18303) (by omega) (by decide)) (br_f (nI_ne0 (by omega) (by omega)) (yu_542 (by omega) hq))))))
end
end
section
/-! push and pop -/
def cn_ (b : Nat → Nat) : Nat → Nat
  | 0 => 0
  | k + 1 => cn_ b k + b k
def pu_ (b : Nat → Nat) (r : Nat → Int32) : Nat → Nat → Int32 → (Nat → Int32) → (Nat → Int32)
  | 0, _, _, ram => ram
  | d + 1, k, a, ram => if b k = 1 then pu_ b r d (k + 1) (a + 4) (upd ram (aw_ a) (r (if k = 8 then 14 else k))) else pu_ b r d (k + 1) a ram
def po_ (b : Nat → Nat) (ram : Nat → Int32) (a : Int32) : Nat → Nat → (Nat → Int32) → (Nat → Int32)
  | 0, _, r => r
  | d + 1, k, r => if b k = 1 then po_ b ram a d (k + 1) (upd r k (ram (aw_ (a + 4 * nI (cn_ b k))))) else po_ b ram a d (k + 1) r
theorem a4_ (a : Int32) (c : Nat) : a + 4 * nI c + 4 = a + 4 * nI (c + 1) := by
  rw [← nI_1, Int32.mul_add, Int32.mul_one, Int32.add_assoc]
theorem a4_m (a : Int32) (c : Nat) : a + 4 * nI (c + 1) - 4 = a + 4 * nI c := by
  rw [← a4_, Int32.add_sub_cancel]
theorem b9_ {m k : Nat} (hk : k < 9) : m % 512 / 2 ^ k % 2 = m / 2 ^ k % 2 := by
  rcases (by omega : k = 0 ∨ k = 1 ∨ k = 2 ∨ k = 3 ∨ k = 4 ∨ k = 5 ∨ k = 6 ∨ k = 7 ∨ k = 8) with rfl | rfl | rfl | rfl | rfl | rfl | rfl | rfl | rfl <;> omega
theorem po_13 {b : Nat → Nat} {ram : Nat → Int32} {a : Int32} {msp psp ss : Int32} {sp : Nat → Int32} : ∀ d k r, k + d = 8 → rl_H msp psp ss r sp → rl_H msp psp ss (po_ b ram a d k r) sp := by
  intro d
  induction d with
  | zero => intro k r _ h; exact h
  | succ d ih =>
    intro k r hk h
    unfold po_
    split
    · exact ih (k + 1) _ (by omega) (rl_Hr h (by omega))
    · exact ih (k + 1) _ (by omega) h
section
variable {l : Nat} {b : Nat → Nat} {postI : Int32 → Prop} {p : SX → Prop} {msp psp pc fl pr ss ph lf fb ln tl pm am th bs dp nw : Int32} {cd rm rg fr py vc lv ac st : Nat → Int32}
theorem xs_meml (hl : l < 65536) (hb : ∀ k, k < 9 → l / 2 ^ k % 2 = b k) (hp : postI (nI (cn_ b 9))) : ∀ d k n, k + d = 9 → d < n → wX_members_4 postI (nI l) msp psp pc fl pr ss ph lf fb ln tl pm am th bs dp nw cd rm rg fr py vc lv ac st n (nI (cn_ b k)) (nI k) := by
  intro d
  induction d with
  | zero =>
    intro k n hk hn
    obtain ⟨n, rfl⟩ : ∃ m, n = m + 1 := ⟨n - 1, by omega⟩
    have e : k = 9 := by omega
    subst e
    exact br_t (Int32.le_refl _) hp
  | succ d ih =>
    intro k n hk hn
    obtain ⟨n, rfl⟩ : ∃ m, n = m + 1 := ⟨n - 1, by omega⟩
    refine br_f (nI_ge (b := 9) (by omega) (by decide)) (nm_r (e' := nI (cn_ b (k + 1))) ?_ (nm_r (nI_1 k) (ih (k + 1) n (by omega) (by omega))))
    rw [db_u hl (by omega), hb k (by omega), nI_add]
    rfl
theorem xs_mem (hl : l < 65536) (hb : ∀ k, k < 9 → l / 2 ^ k % 2 = b k) (hp : postI (nI (cn_ b 9))) : wpX_members postI (msp, psp, pc, fl, pr, ss, ph, lf, fb, ln, tl, pm, am, th, bs, dp, nw, cd, rm, rg, fr, py, vc, lv, ac, st) (nI l) := ⟨10, xs_meml hl hb hp 9 0 10 rfl (by decide)⟩
theorem xs_pul (hl : l < 65536) (hb : ∀ k, k < 9 → l / 2 ^ k % 2 = b k) : ∀ d k n a rm, k + d = 9 → d < n → p (msp, psp, (pc + 2) &&& 254, fl, pr, ss, ph, lf, fb, ln, tl, pm, am, th, bs, dp, nw, cd, pu_ b rg d k a rm, rg, fr, py, vc, lv, ac, st) → wX_push_20 p (nI l) n a (nI k) msp psp pc fl pr ss ph lf fb ln tl pm am th bs dp nw cd rm rg fr py vc lv ac st := by
  intro d
  induction d with
  | zero =>
    intro k n a rm hk hn hp
    obtain ⟨n, rfl⟩ : ∃ m, n = m + 1 := ⟨n - 1, by omega⟩
    have e : k = 9 := by omega
    subst e
    exact br_t (Int32.le_refl _) (xs_adv hp)
  | succ d ih =>
    intro k n a rm hk hn hp
    obtain ⟨n, rfl⟩ : ∃ m, n = m + 1 := ⟨n - 1, by omega⟩
    unfold pu_ at hp
    refine br_f (nI_ge (b := 9) (by omega) (by decide)) ?_
    have hbk := hb k (by omega)
    rw [db_u hl (by omega), hbk]
    by_cases e1 : b k = 1
    · rw [if_pos e1] at hp
      refine br_f (nI_ne0 (by omega) (by omega)) ?_
      by_cases e8 : k = 8
      · subst e8
        rw [if_pos rfl] at hp
        exact br_t rfl (And.intro (vp_in_iff.mpr (by decide)) (xs_st (nm_e (nm_r (nI_1 8) (ih 9 n (a + 4) _ (by omega) (by omega) hp)))))
      · rw [if_neg e8] at hp
        refine br_f (fun z => e8 ((nI_eq (b := 8) (by omega) (by decide)).mp z)) (And.intro (vp_in_nI (by omega) (by decide)) ?_)
        rw [nI_clamp (by omega)]
        exact xs_st (nm_e (nm_r (nI_1 k) (ih (k + 1) n (a + 4) _ (by omega) (by omega) hp)))
    · rw [if_neg e1] at hp
      have e0 : b k = 0 := by omega
      rw [e0]
      exact br_t rfl (nm_r (nI_1 k) (ih (k + 1) n a _ (by omega) (by omega) hp))
theorem xs_push (hl : l < 65536) (hb : ∀ k, k < 9 → l / 2 ^ k % 2 = b k) {A : Int32} (hA : sp_r ss msp psp - 4 * nI (cn_ b 9) = A) (hp : p (if ss = 1 then msp else A, if ss = 1 then A else psp, (pc + 2) &&& 254, fl, pr, ss, ph, lf, fb, ln, tl, pm, am, th, bs, dp, nw, cd, pu_ b rg 9 0 A rm, rg, fr, py, vc, lv, ac, st)) : wpX_push p (msp, psp, pc, fl, pr, ss, ph, lf, fb, ln, tl, pm, am, th, bs, dp, nw, cd, rm, rg, fr, py, vc, lv, ac, st) (nI l) := by
  unfold wpX_push
  exact xs_sp (xs_mem hl hb (nm_r hA (xs_setSp ⟨10, xs_pul hl hb 9 0 10 A rm rfl (by decide) hp⟩)))
theorem xs_pol (hl : l < 65536) (hb : ∀ k, k < 9 → l / 2 ^ k % 2 = b k) {a x3 x4 x5 : Int32} : ∀ d k n rg, k + d = 8 → d < n → ((x4 = 0 ∧ p (if ss = 1 then msp else x3, if ss = 1 then x3 else psp, (pc + 2) &&& 254, fl, pr, ss, ph, lf, fb, ln, tl, pm, am, th, bs, dp, nw, cd, rm, po_ b rm a d k rg, fr, py, vc, lv, ac, st)) ∨ (¬ x4 = 0 ∧ ∃ u, p u ∧ ∀ p, p u → wpX_jump p (if ss = 1 then msp else x3, if ss = 1 then x3 else psp, pc, fl, pr, ss, ph, lf, fb, ln, tl, pm, am, th, bs, dp, nw, cd, rm, po_ b rm a d k rg, fr, py, vc, lv, ac, st) x5)) → wX_pop_70 p (nI l) x3 x4 x5 msp psp pc fl pr ss ph lf fb ln tl pm am th bs dp nw n (a + 4 * nI (cn_ b k)) (nI k) cd rm rg fr py vc lv ac st := by
  intro d
  induction d with
  | zero =>
    intro k n rg hk hn hp
    obtain ⟨n, rfl⟩ : ∃ m, n = m + 1 := ⟨n - 1, by omega⟩
    have e : k = 8 := by omega
    subst e
    refine br_t (Int32.le_refl _) (xs_setSp ?_)
    rcases hp with ⟨h, hp⟩ | ⟨h, u, hp, H⟩
    · exact br_t h (xs_adv hp)
    · exact br_f h (H _ (xt_eta hp))
  | succ d ih =>
    intro k n rg hk hn hp
    obtain ⟨n, rfl⟩ : ∃ m, n = m + 1 := ⟨n - 1, by omega⟩
    unfold po_ at hp
    refine br_f (nI_ge (b := 8) (by omega) (by decide)) ?_
    have hbk := hb k (by omega)
    rw [db_u hl (by omega), hbk]
    by_cases e1 : b k = 1
    · rw [if_pos e1] at hp
      refine br_f (nI_ne0 (by omega) (by omega)) (xs_ld (And.intro (vp_in_nI (by omega) (by decide)) ?_))
      rw [nI_clamp (by omega)]
      refine nm_e (nm_r (e' := a + 4 * nI (cn_ b (k + 1))) ?_ (nm_r (nI_1 k) (ih (k + 1) n _ (by omega) (by omega) hp)))
      rw [a4_, show cn_ b (k + 1) = cn_ b k + 1 from congrArg (cn_ b k + ·) e1]
    · rw [if_neg e1] at hp
      have e0 : b k = 0 := by omega
      rw [e0]
      refine br_t rfl (nm_r (nI_1 k) ?_)
      have := ih (k + 1) n rg (by omega) (by omega) hp
      rw [show cn_ b (k + 1) = cn_ b k from congrArg (cn_ b k + ·) e0] at this
      exact this
end
section
variable {l : Nat} {b : Nat → Nat} {p : SY → Prop} {pc fl pr ss dp ph lf ln tl : Int32} {cd rm rg sp wt py vc ac rc : Nat → Int32}
theorem ys_pul (hl : l < 65536) (hb : ∀ k, k < 9 → l / 2 ^ k % 2 = b k) : ∀ d k n a rm, k + d = 9 → d < n → p (pc, fl, pr, ss, dp, ph, lf, ln, tl, cd, pu_ b rg d k a rm, rg, sp, wt, py, vc, ac, rc) → wY_push_52 p (nI l) n a (nI k) pc fl pr ss dp ph lf ln tl cd rm rg sp wt py vc ac rc := by
  intro d
  induction d with
  | zero =>
    intro k n a rm hk hn hp
    obtain ⟨n, rfl⟩ : ∃ m, n = m + 1 := ⟨n - 1, by omega⟩
    have e : k = 9 := by omega
    subst e
    exact br_t (Int32.le_refl _) hp
  | succ d ih =>
    intro k n a rm hk hn hp
    obtain ⟨n, rfl⟩ : ∃ m, n = m + 1 := ⟨n - 1, by omega⟩
    unfold pu_ at hp
    refine br_f (nI_ge (b := 9) (by omega) (by decide)) ?_
    have hbk := hb k (by omega)
    rw [db_s hl (by omega), hbk]
    by_cases e1 : b k = 1
    · rw [if_pos e1] at hp
      rw [e1]
      refine br_t rfl ?_
      by_cases e8 : k = 8
      · subst e8
        rw [if_pos rfl] at hp
        exact br_t rfl (ys_st (nm_e (nm_r (nI_1 8) (ih 9 n (a + 4) _ (by omega) (by omega) hp))))
      · rw [if_neg e8] at hp
        refine br_f (fun z => e8 ((nI_eq (b := 8) (by omega) (by decide)).mp z)) (And.intro (vp_in_nI (by omega) (by decide)) ?_)
        rw [nI_clamp (by omega)]
        exact ys_st (nm_e (nm_r (nI_1 k) (ih (k + 1) n (a + 4) _ (by omega) (by omega) hp)))
    · rw [if_neg e1] at hp
      have e0 : b k = 0 := by omega
      rw [e0]
      exact br_f (by decide) (nm_r (nI_1 k) (ih (k + 1) n a _ (by omega) (by omega) hp))
theorem ys_puc (hl : l < 65536) (hb : ∀ k, k < 9 → l / 2 ^ k % 2 = b k) (hs : vp_in ss 2) {A : Int32} (hA : sp ss.toNatClampNeg - 4 * nI (cn_ b 9) = A) (hp : p (pc, fl, pr, ss, dp, ph, lf, ln, tl, cd, pu_ b rg 9 0 A rm, rg, upd sp ss.toNatClampNeg A, wt, py, vc, ac, rc)) : ∀ d k n, k + d = 9 → d < n → wY_push_4 p (nI l) pc fl pr ss dp ph lf ln tl cd rm rg sp wt py vc ac rc n (nI (cn_ b k)) (nI k) := by
  intro d
  induction d with
  | zero =>
    intro k n hk hn
    obtain ⟨n, rfl⟩ : ∃ m, n = m + 1 := ⟨n - 1, by omega⟩
    have e : k = 9 := by omega
    subst e
    subst hA
    exact br_t (Int32.le_refl _) (And.intro hs (And.intro hs (nm_e (And.intro hs (nm_r pk_us ⟨10, ys_pul hl hb 9 0 10 _ rm rfl (by decide) hp⟩)))))
  | succ d ih =>
    intro k n hk hn
    obtain ⟨n, rfl⟩ : ∃ m, n = m + 1 := ⟨n - 1, by omega⟩
    refine br_f (nI_ge (b := 9) (by omega) (by decide)) (nm_r (e' := nI (cn_ b (k + 1))) ?_ (nm_r (nI_1 k) (ih (k + 1) n (by omega) (by omega))))
    rw [db_s hl (by omega), hb k (by omega), nI_add]
    rfl
theorem ys_push (hl : l < 65536) (hb : ∀ k, k < 9 → l / 2 ^ k % 2 = b k) (hs : vp_in ss 2) {A : Int32} (hA : sp ss.toNatClampNeg - 4 * nI (cn_ b 9) = A) (hp : p (pc, fl, pr, ss, dp, ph, lf, ln, tl, cd, pu_ b rg 9 0 A rm, rg, upd sp ss.toNatClampNeg A, wt, py, vc, ac, rc)) : wpY_push p (pc, fl, pr, ss, dp, ph, lf, ln, tl, cd, rm, rg, sp, wt, py, vc, ac, rc) (nI l) := ⟨10, ys_puc hl hb hs hA hp 9 0 10 rfl (by decide)⟩
theorem ys_pol (hl : l < 65536) (hb : ∀ k, k < 9 → l / 2 ^ k % 2 = b k) (hs : vp_in ss 2) {a x4 x5 : Int32} : ∀ d k n rg, k + d = 8 → d < n → ((x5 = 0 ∧ p (pc, fl, pr, ss, dp, ph, lf, ln, tl, cd, rm, po_ b rm a d k rg, upd sp ss.toNatClampNeg (a + 4 * nI (cn_ b 8)), wt, py, vc, ac, rc)) ∨ (¬ x5 = 0 ∧ ∃ u, p u ∧ ∀ p : SY → Prop, p u → wpY_jump p (pc, fl, pr, ss, dp, ph, lf, ln, tl, cd, rm, po_ b rm a d k rg, upd sp ss.toNatClampNeg (a + 4 * nI (cn_ b 8) + 4), wt, py, vc, ac, rc) x4)) → wY_pop_95 p (nI l) x4 x5 pc fl pr ss dp ph lf ln tl n (a + 4 * nI (cn_ b k)) (nI k) cd rm rg sp wt py vc ac rc := by
  intro d
  induction d with
  | zero =>
    intro k n rg hk hn hp
    obtain ⟨n, rfl⟩ : ∃ m, n = m + 1 := ⟨n - 1, by omega⟩
    have e : k = 8 := by omega
    subst e
    refine br_t (Int32.le_refl _) ?_
    rcases hp with ⟨h, hp⟩ | ⟨h, u, hp, H⟩
    · exact br_t h (And.intro hs (nm_e (br_t h hp)))
    · exact br_f h (And.intro hs (nm_e (br_f h (H _ (yt_eta hp)))))
  | succ d ih =>
    intro k n rg hk hn hp
    obtain ⟨n, rfl⟩ : ∃ m, n = m + 1 := ⟨n - 1, by omega⟩
    unfold po_ at hp
    refine br_f (nI_ge (b := 8) (by omega) (by decide)) ?_
    have hbk := hb k (by omega)
    rw [db_s hl (by omega), hbk]
    by_cases e1 : b k = 1
    · rw [if_pos e1] at hp
      refine br_t (by rw [e1]; rfl) (ys_ld (And.intro (vp_in_nI (by omega) (by decide)) ?_))
      rw [nI_clamp (by omega)]
      refine nm_e (nm_r (e' := a + 4 * nI (cn_ b (k + 1))) ?_ (nm_r (nI_1 k) (ih (k + 1) n _ (by omega) (by omega) hp)))
      rw [a4_, show cn_ b (k + 1) = cn_ b k + 1 from congrArg (cn_ b k + ·) e1]
    · rw [if_neg e1] at hp
      have e0 : b k = 0 := by omega
      rw [e0]
      refine br_f (by decide) (nm_r (nI_1 k) ?_)
      have := ih (k + 1) n rg (by omega) (by omega) hp
      rw [show cn_ b (k + 1) = cn_ b k from congrArg (cn_ b k + ·) e0] at this
      exact this
theorem ys_poc (hl : l < 65536) (hb : ∀ k, k < 9 → l / 2 ^ k % 2 = b k) {a : Int32} (H : ((nI l &&& 256) = 0 → wY_pop_61 p (nI l) a (rm (aw_ (a + 4 * nI (cn_ b 8)))) 0 pc fl pr ss dp ph lf ln tl cd rm rg sp wt py vc ac rc) ∧ (¬ (nI l &&& 256) = 0 → wY_pop_61 p (nI l) a (rm (aw_ (a + 4 * nI (cn_ b 8)))) 1 pc fl pr ss dp ph lf ln tl cd rm rg sp wt py vc ac rc)) : ∀ d k n, k + d = 8 → d < n → wY_pop_15 p (nI l) a pc fl pr ss dp ph lf ln tl cd rm rg sp wt py vc ac rc n (nI (cn_ b k)) (nI k) := by
  intro d
  induction d with
  | zero =>
    intro k n hk hn
    obtain ⟨n, rfl⟩ : ∃ m, n = m + 1 := ⟨n - 1, by omega⟩
    have e : k = 8 := by omega
    subst e
    exact br_t (Int32.le_refl _) (ys_ld H)
  | succ d ih =>
    intro k n hk hn
    obtain ⟨n, rfl⟩ : ∃ m, n = m + 1 := ⟨n - 1, by omega⟩
    refine br_f (nI_ge (b := 8) (by omega) (by decide)) (nm_r (e' := nI (cn_ b (k + 1))) ?_ (nm_r (nI_1 k) (ih (k + 1) n (by omega) (by omega))))
    rw [db_s hl (by omega), hb k (by omega), nI_add]
    rfl
end
section
variable {m : Nat} {p : SX → Prop} {q : Int32 → SY → Prop} {msp psp pc fl pr ss ph lf fb ln tl pm am th bs dp nw : Int32} {cd rm rg fr py vc lv ac st sp wt rc : Nat → Int32}
theorem xi_push (h1 : 46081 ≤ m) (h2 : m ≤ 46591) {A : Int32} (hA : sp_r ss msp psp - 4 * nI (cn_ (fun k => m / 2 ^ k % 2) 9) = A) (hp : p (if ss = 1 then msp else A, if ss = 1 then A else psp, (pc + 2) &&& 254, fl, pr, ss, ph, lf, fb, ln, tl, pm, am, th, bs, dp, nw, cd, pu_ (fun k => m / 2 ^ k % 2) rg 9 0 A rm, rg, fr, py, vc, lv, ac, st)) : wpX_stackGroup p (msp, psp, pc, fl, pr, ss, ph, lf, fb, ln, tl, pm, am, th, bs, dp, nw, cd, rm, rg, fr, py, vc, lv, ac, st) (nI m) := by
  have h0 : m < 65536 := by omega
  exact nm_r (da_511 h0) (br_t (by rw [dm_fe00 h0]; exact congrArg nI (show m / 512 * 512 = 46080 by omega)) (br_f (nI_ne0 (by omega) (by omega)) (xs_push (b := fun k => m / 2 ^ k % 2) (by omega) (fun k hk => b9_ hk) hA hp)))
theorem yi_push (h1 : 46081 ≤ m) (h2 : m ≤ 46591) (hs : vp_in ss 2) {A : Int32} (hA : sp ss.toNatClampNeg - 4 * nI (cn_ (fun k => m / 2 ^ k % 2) 9) = A) (hq : q 1 (pc, fl, pr, ss, dp, ph, lf, ln, tl, cd, pu_ (fun k => m / 2 ^ k % 2) rg 9 0 A rm, rg, upd sp ss.toNatClampNeg A, wt, py, vc, ac, rc)) : wpY_perform q (pc, fl, pr, ss, dp, ph, lf, ln, tl, cd, rm, rg, sp, wt, py, vc, ac, rc) (nI m) := by
  have h0 : m < 65536 := by omega
  exact yd_top h0 (by omega) (by omega) (yd_412 h0 (by omega) (yd_452 h0 (by omega) (yd_501 h0 (by omega) (yd_542 h0 (by omega) (yd_580 h0 (by omega) (br_f (nI_ge (b := m) (a := 46080) (by omega) (by omega)) (br_f (nI_nlt (a := 46591) (by omega) (by decide)) (ys_push (b := fun k => m / 2 ^ k % 2) h0 (fun k _ => rfl) hs hA hq))))))))
theorem ox_push (h1 : 46081 ≤ m) (h2 : m ≤ 46591) (hc : cd (((pc.toUInt32 >>> ((1 : Int32).toUInt32 &&& Int32.toUInt32 31)).toInt32) &&& 127).toNatClampNeg = nI m) (g : rl_G ln tl dp nw pr pm am th bs cd py lv ac st wt rc) (hh : rl_H msp psp ss rg sp) : oc_ (fun p => wpX_execute p (msp, psp, pc, fl, pr, ss, 0, 0, fb, ln, tl, pm, am, th, bs, dp, nw, cd, rm, rg, fr, py, vc, lv, ac, st)) (fun p => wpY_execute p (pc, fl, pr, ss, dp, 0, 0, ln, tl, cd, rm, rg, sp, wt, upd py 3 (-1), vc, ac, rc)) :=
  ⟨_, _, rl_0 g (rl_Hs (a := sp_r ss msp psp - 4 * nI (cn_ (fun k => m / 2 ^ k % 2) 9)) hh), xd_11 (by omega) hc (by omega) (fun p hp => xi_push h1 h2 rfl hp), fun p hp => ye_one hc (fun q hq => yi_push h1 h2 (rl_Hi hh) (by rw [rl_Hp hh]) hq) (ye_0 (by decide) hp)⟩
end
end
section
/-! pop -/
section
variable {m D : Nat} {p : SX → Prop} {b : Nat → Nat} {msp psp pc fl pr ss ph lf fb ln tl pm am th bs dp nw : Int32} {cd rm rg fr py vc lv ac st : Nat → Int32}
theorem xg_pop (h1 : 48129 ≤ m) (h2 : m ≤ 48639) {u : SX} (H : ∀ p, p u → wpX_pop p (msp, psp, pc, fl, pr, ss, ph, lf, fb, ln, tl, pm, am, th, bs, dp, nw, cd, rm, rg, fr, py, vc, lv, ac, st) (nI (m % 512))) : ∀ p, p u → wpX_stackGroup p (msp, psp, pc, fl, pr, ss, ph, lf, fb, ln, tl, pm, am, th, bs, dp, nw, cd, rm, rg, fr, py, vc, lv, ac, st) (nI m) := by
  intro p hp
  have h0 : m < 65536 := by omega
  refine nm_r (da_511 h0) (br_f ?_ (br_t ?_ (br_f (nI_ne0 (by omega) (by omega)) (H _ (xt_eta hp)))))
  · rw [dm_fe00 h0]
    intro z
    have := (nI_eq (b := 46080) (by omega) (by decide)).mp z
    omega
  · rw [dm_fe00 h0]
    exact congrArg nI (show m / 512 * 512 = 48128 by omega)
/-- no jump -/
theorem xs_pop0 (hl : m < 512) (hb : ∀ k, k < 9 → m / 2 ^ k % 2 = b k) (h8 : b 8 = 0) (hp : p (if ss = 1 then msp else sp_r ss msp psp + 4 * nI (cn_ b 8), if ss = 1 then sp_r ss msp psp + 4 * nI (cn_ b 8) else psp, (pc + 2) &&& 254, fl, pr, ss, ph, lf, fb, ln, tl, pm, am, th, bs, dp, nw, cd, rm, po_ b rm (sp_r ss msp psp) 8 0 rg, fr, py, vc, lv, ac, st)) : wpX_pop p (msp, psp, pc, fl, pr, ss, ph, lf, fb, ln, tl, pm, am, th, bs, dp, nw, cd, rm, rg, fr, py, vc, lv, ac, st) (nI m) := by
  have h0 : m < 65536 := by omega
  have e9 : cn_ b 9 = cn_ b 8 := congrArg (cn_ b 8 + ·) h8
  have hb8 := hb 8 (by decide)
  unfold wpX_pop
  refine xs_sp (xs_mem h0 hb (nm_r (congrArg (fun z => sp_r ss msp psp + 4 * nI z) e9) (br_t ((dm_256 h0).mpr (by omega)) ?_)))
  refine xs_ld (br_t rfl ⟨9, ?_⟩)
  have := xs_pol (p := p) h0 hb (a := sp_r ss msp psp) (x3 := sp_r ss msp psp + 4 * nI (cn_ b 8)) (x4 := 0) (x5 := rm (aw_ (sp_r ss msp psp + 4 * nI (cn_ b 8) - 4))) 8 0 9 rg rfl (by decide) (Or.inl ⟨rfl, hp⟩)
  rw [show sp_r ss msp psp + 4 * nI (cn_ b 0) = sp_r ss msp psp from Int32.add_zero _] at this
  exact this
/-- a jump -/
theorem xs_pop1 (hD : D ≤ 10) (hl : m < 512) (hb : ∀ k, k < 9 → m / 2 ^ k % 2 = b k) (h8 : b 8 = 1) {v : Int32} (hv : rm (aw_ (sp_r ss msp psp + 4 * nI (cn_ b 8))) = v) (hg : ¬ (ir_ D v ∧ ¬ gr_ D v)) {u : SX} (hp : p u) (H : ∀ p, p u → wpX_jump p (if ss = 1 then msp else sp_r ss msp psp + 4 * nI (cn_ b 8) + 4, if ss = 1 then sp_r ss msp psp + 4 * nI (cn_ b 8) + 4 else psp, pc, fl, pr, ss, ph, lf, fb, ln, tl, pm, am, th, bs, nI D, nw, cd, rm, po_ b rm (sp_r ss msp psp) 8 0 rg, fr, py, vc, lv, ac, st) v) : wpX_pop p (msp, psp, pc, fl, pr, ss, ph, lf, fb, ln, tl, pm, am, th, bs, nI D, nw, cd, rm, rg, fr, py, vc, lv, ac, st) (nI m) := by
  have h0 : m < 65536 := by omega
  have e9 : cn_ b 9 = cn_ b 8 + 1 := congrArg (cn_ b 8 + ·) h8
  have hb8 := hb 8 (by decide)
  unfold wpX_pop
  refine xs_sp (xs_mem h0 hb (nm_r (e' := sp_r ss msp psp + 4 * nI (cn_ b 8) + 4) (by rw [e9, a4_]) (br_f (mt (dm_256 h0).mp (by omega)) ?_)))
  refine xs_ld ?_
  rw [Int32.add_sub_cancel, hv]
  have L := xs_pol (p := p) (dp := nI D) h0 hb (a := sp_r ss msp psp) (x3 := sp_r ss msp psp + 4 * nI (cn_ b 8) + 4) (x4 := 1) (x5 := v) 8 0 9 rg rfl (by decide) (Or.inr ⟨by decide, u, hp, H⟩)
  rw [show sp_r ss msp psp + 4 * nI (cn_ b 0) = sp_r ss msp psp from Int32.add_zero _] at L
  refine br_f (by decide) ?_
  by_cases h : ir_ D v
  · have h2 : gr_ D v := Classical.not_not.mp (fun z => hg ⟨h, z⟩)
    exact xs_ret1 hD h (br_f (by decide) (xs_gd1 hD h2 (br_f (by decide) ⟨9, L⟩)))
  · exact xs_ret0 hD h (br_t rfl ⟨9, L⟩)
theorem xs_pop2 (hD : D ≤ 10) (hl : m < 512) (hb : ∀ k, k < 9 → m / 2 ^ k % 2 = b k) (h8 : b 8 = 1) {v : Int32} (hv : rm (aw_ (sp_r ss msp psp + 4 * nI (cn_ b 8))) = v) (h : ir_ D v) (h2 : ¬ gr_ D v) (hp : p (msp, psp, pc, fl, pr, ss, 4, 0, fb, ln, tl, pm, am, th, bs, nI D, nw, cd, rm, rg, fr, py, vc, lv, ac, st)) : wpX_pop p (msp, psp, pc, fl, pr, ss, ph, lf, fb, ln, tl, pm, am, th, bs, nI D, nw, cd, rm, rg, fr, py, vc, lv, ac, st) (nI m) := by
  have h0 : m < 65536 := by omega
  have e9 : cn_ b 9 = cn_ b 8 + 1 := congrArg (cn_ b 8 + ·) h8
  have hb8 := hb 8 (by decide)
  unfold wpX_pop
  refine xs_sp (xs_mem h0 hb (nm_r (e' := sp_r ss msp psp + 4 * nI (cn_ b 8) + 4) (by rw [e9, a4_]) (br_f (mt (dm_256 h0).mp (by omega)) ?_)))
  refine xs_ld ?_
  rw [Int32.add_sub_cancel, hv]
  exact br_f (by decide) (xs_ret1 hD h (br_f (by decide) (xs_gd0 hD h2 (br_t rfl hp))))
end
section
variable {m D : Nat} {p : SY → Prop} {b : Nat → Nat} {pc fl pr ss dp ph lf ln tl : Int32} {cd rm rg sp wt py vc ac rc : Nat → Int32}
theorem ys_pop0 (hm : m < 65536) (hb : ∀ k, k < 9 → m / 2 ^ k % 2 = b k) (hs : vp_in ss 2) (h8 : b 8 = 0) {a : Int32} (ha : sp ss.toNatClampNeg = a) (hp : p (pc, fl, pr, ss, dp, ph, lf, ln, tl, cd, rm, po_ b rm a 8 0 rg, upd sp ss.toNatClampNeg (a + 4 * nI (cn_ b 8)), wt, py, vc, ac, rc)) : wpY_pop p (pc, fl, pr, ss, dp, ph, lf, ln, tl, cd, rm, rg, sp, wt, py, vc, ac, rc) (nI m) := by
  have hb8 := hb 8 (by decide)
  have L := ys_pol (p := p) hm hb hs (a := a) (x4 := rm (aw_ (a + 4 * nI (cn_ b 8)))) (x5 := 0) 8 0 9 rg rfl (by decide) (Or.inl ⟨rfl, hp⟩)
  rw [show a + 4 * nI (cn_ b 0) = a from Int32.add_zero _] at L
  exact And.intro hs (nm_r ha ⟨9, ys_poc hm hb (br_t ((dm_256 hm).mpr (by omega)) (br_t rfl ⟨9, L⟩)) 8 0 9 rfl (by decide)⟩)
theorem ys_pop1 (hD : D ≤ 10) (hm : m < 65536) (hb : ∀ k, k < 9 → m / 2 ^ k % 2 = b k) (hs : vp_in ss 2) (h8 : b 8 = 1) {a v : Int32} (ha : sp ss.toNatClampNeg = a) (hv : rm (aw_ (a + 4 * nI (cn_ b 8))) = v) (hg : ¬ (ir_ D v ∧ ¬ gr_ D v)) {u : SY} (hp : p u) (H : ∀ p : SY → Prop, p u → wpY_jump p (pc, fl, pr, ss, nI D, ph, lf, ln, tl, cd, rm, po_ b rm a 8 0 rg, upd sp ss.toNatClampNeg (a + 4 * nI (cn_ b 8) + 4), wt, py, vc, ac, rc) v) : wpY_pop p (pc, fl, pr, ss, nI D, ph, lf, ln, tl, cd, rm, rg, sp, wt, py, vc, ac, rc) (nI m) := by
  have hb8 := hb 8 (by decide)
  have L := ys_pol (p := p) (dp := nI D) hm hb hs (a := a) (x4 := v) (x5 := 1) 8 0 9 rg rfl (by decide) (Or.inr ⟨by decide, u, hp, H⟩)
  rw [show a + 4 * nI (cn_ b 0) = a from Int32.add_zero _] at L
  refine And.intro hs (nm_r ha ⟨9, ys_poc hm hb (br_f (mt (dm_256 hm).mp (by omega)) ?_) 8 0 9 rfl (by decide)⟩)
  rw [hv]
  refine br_f (by decide) ?_
  by_cases h : ir_ D v
  · have h2 : gr_ D v := Classical.not_not.mp (fun z => hg ⟨h, z⟩)
    exact ys_ret1 hD h (br_f (by decide) (ys_gd1 hD h2 (br_f (by decide) ⟨9, L⟩)))
  · exact ys_ret0 hD h (br_t rfl ⟨9, L⟩)
theorem ys_pop2 (hD : D ≤ 10) (hm : m < 65536) (hb : ∀ k, k < 9 → m / 2 ^ k % 2 = b k) (hs : vp_in ss 2) (h8 : b 8 = 1) {a v : Int32} (ha : sp ss.toNatClampNeg = a) (hv : rm (aw_ (a + 4 * nI (cn_ b 8))) = v) (h : ir_ D v) (h2 : ¬ gr_ D v) (hp : p (pc, fl, pr, ss, nI D, 4, lf, ln, tl, cd, rm, rg, sp, wt, py, vc, ac, rc)) : wpY_pop p (pc, fl, pr, ss, nI D, ph, lf, ln, tl, cd, rm, rg, sp, wt, py, vc, ac, rc) (nI m) := by
  have hb8 := hb 8 (by decide)
  refine And.intro hs (nm_r ha ⟨9, ys_poc hm hb (br_f (mt (dm_256 hm).mp (by omega)) ?_) 8 0 9 rfl (by decide)⟩)
  rw [hv]
  exact br_f (by decide) (ys_ret1 hD h (br_f (by decide) (ys_gd0 hD h2 (br_t rfl hp))))
theorem yg_pop {q : Int32 → SY → Prop} (h1 : 48129 ≤ m) (h2 : m ≤ 48639) {u : SY} (H : ∀ p : SY → Prop, p u → wpY_pop p (pc, fl, pr, ss, dp, ph, lf, ln, tl, cd, rm, rg, sp, wt, py, vc, ac, rc) (nI m)) (hq : q 1 u) : wpY_perform q (pc, fl, pr, ss, dp, ph, lf, ln, tl, cd, rm, rg, sp, wt, py, vc, ac, rc) (nI m) := by
  have h0 : m < 65536 := by omega
  exact yd_top h0 (by omega) (by omega) (yd_412 h0 (by omega) (yd_452 h0 (by omega) (yd_501 h0 (by omega) (yd_542 h0 (by omega) (yd_580 h0 (by omega) (yd_618 h0 (by omega) (br_f (nI_ge (b := m) (a := 48128) (by omega) (by omega)) (br_f (nI_nlt (a := 48639) (by omega) (by decide)) (H _ (yt_eta (post := q 1) hq)))))))))) 
end
section
variable {m : Nat} {msp psp pc fl pr ss ph lf fb ln tl pm am th bs dp nw : Int32} {cd rm rg fr py vc lv ac st sp wt rc : Nat → Int32}
theorem ox_pop (h1 : 48129 ≤ m) (h2 : m ≤ 48639) (hc : cd (((pc.toUInt32 >>> ((1 : Int32).toUInt32 &&& Int32.toUInt32 31)).toInt32) &&& 127).toNatClampNeg = nI m) (g : rl_G ln tl dp nw pr pm am th bs cd py lv ac st wt rc) (hh : rl_H msp psp ss rg sp) : oc_ (fun p => wpX_execute p (msp, psp, pc, fl, pr, ss, 0, 0, fb, ln, tl, pm, am, th, bs, dp, nw, cd, rm, rg, fr, py, vc, lv, ac, st)) (fun p => wpY_execute p (pc, fl, pr, ss, dp, 0, 0, ln, tl, cd, rm, rg, sp, wt, upd py 3 (-1), vc, ac, rc)) := by
  have h0 : m < 65536 := by omega
  have hbX : ∀ k, k < 9 → m % 512 / 2 ^ k % 2 = (fun k => m / 2 ^ k % 2) k := fun k hk => b9_ hk
  have hbY : ∀ k, k < 9 → m / 2 ^ k % 2 = (fun k => m / 2 ^ k % 2) k := fun k hk => rfl
  generalize hB : (fun k => m / 2 ^ k % 2) = B at hbX hbY
  have h8 : B 8 = 0 ∨ B 8 = 1 := by
    rw [← hbY 8 (by decide)]
    omega
  rcases h8 with h8 | h8
  · exact ⟨_, _, rl_0 g (po_13 (b := B) (ram := rm) (a := sp_r ss msp psp) 8 0 rg rfl (rl_Hs (a := sp_r ss msp psp + 4 * nI (cn_ B 8)) hh)), xd_11 h0 hc (by omega) (xg_pop h1 h2 (fun p hp => xs_pop0 (by omega) hbX h8 hp)), fun p hp => ye_one hc (fun q hq => yg_pop h1 h2 (fun p hp => ys_pop0 h0 hbY (rl_Hi hh) h8 (rl_Hp hh) hp) hq) (ye_0 (by decide) hp)⟩
  · obtain ⟨L, T, D, W, e1, e2, e3, e4, g1, g2, A, E, g3, g4⟩ := id g
    obtain ⟨A1, A2, A3, A4, A5, A6, A7, A8, A9⟩ := id A
    subst e3
    by_cases hv : ir_ D (rm (aw_ (sp_r ss msp psp + 4 * nI (cn_ B 8)))) ∧ ¬ gr_ D (rm (aw_ (sp_r ss msp psp + 4 * nI (cn_ B 8))))
    · exact ⟨_, _, rl_4 g hh, xd_11 h0 hc (by omega) (xg_pop h1 h2 (fun p hp => xs_pop2 A2 (by omega) hbX h8 rfl hv.1 hv.2 hp)), fun p hp => ye_one hc (fun q hq => yg_pop h1 h2 (fun p hp => ys_pop2 A2 h0 hbY (rl_Hi hh) h8 (rl_Hp hh) rfl hv.1 hv.2 hp) hq) (ye_4 hp)⟩
    · obtain ⟨u, w, v', R, hX, hY, h4⟩ := jp_oc (v := rm (aw_ (sp_r ss msp psp + 4 * nI (cn_ B 8)))) (pc := pc) (pc2 := (pc + 2) &&& 254) (fl := fl) (vc := vc) (fb := fb) (fr := fr) (rm := rm) g (po_13 (b := B) (ram := rm) (a := sp_r ss msp psp) 8 0 rg rfl (rl_Hs (a := sp_r ss msp psp + 4 * nI (cn_ B 8) + 4) hh))
      exact ⟨u, v', R, xd_11 h0 hc (by omega) (xg_pop h1 h2 (fun p hp => xs_pop1 A2 (by omega) hbX h8 rfl hv hp hX)), fun p hp => ye_one hc (w := w) (fun q hq => yg_pop h1 h2 (fun p hp => ys_pop1 A2 h0 hbY (rl_Hi hh) h8 (rl_Hp hh) rfl hv hp hY) hq) (h4 p hp)⟩
end
end
section
/-! branches, SVC, CPS, NOP -/
def bn_ (t : Nat) : Nat := if t < 2 then 30 else if t < 4 then 29 else if t < 6 then 31 else 28
theorem hm_ (f : Int32) (b : Nat) (hb : b < 32) {c : Int32} (hc : (1 : Int32) <<< (nI b &&& 31) = c) : f &&& c = 0 ↔ bt f b = false := by
  rw [← hc, ← nf_bit f b hb, bz_sh f hb]
theorem hv_ (f : Int32) (b : Nat) (hb : b < 32) : (f.toUInt32 >>> ((nI b).toUInt32 &&& Int32.toUInt32 31)).toInt32 &&& 1 = nI (if bt f b = true then 1 else 0) := by
  cases e : bt f b
  · rw [(bz_sh f hb).mpr e]
    rfl
  · obtain ⟨j, hj, ej⟩ := pk_andE ((f.toUInt32 >>> ((nI b).toUInt32 &&& Int32.toUInt32 31)).toInt32) (m := 1) 1 (by decide)
    rw [ej]
    have h0 : j ≠ 0 := by
      intro z
      subst z
      have := (bz_sh f hb).mp ej
      rw [e] at this
      exact nomatch this
    have : j = 1 := by omega
    subst this
    rfl
section
variable {postI : Int32 → Prop} {msp psp pc fl pr ss ph lf fb ln tl pm am th bs dp nw : Int32} {cd rm rg fr py vc lv ac st : Nat → Int32}
theorem xs_h34 {t b : Nat} {c : Int32} (ht : t < 8) (hc : fl &&& c = 0 ↔ bt fl b = false) (h1 : bt fl b = decide (t % 2 = 0) → postI 1) (h0 : ¬ bt fl b = decide (t % 2 = 0) → postI 0) : wX_holds_34 postI (nI t) c msp psp pc fl pr ss ph lf fb ln tl pm am th bs dp nw cd rm rg fr py vc lv ac st := by
  have e := da_1 (n := t) (by omega)
  by_cases p : t % 2 = 0
  · refine br_t (by rw [e, p]; rfl) ?_
    cases f : bt fl b
    · exact br_t (hc.mpr f) (br_f (by decide) (h0 (by rw [f, decide_eq_true p]; decide)))
    · exact br_f (fun z => by rw [hc.mp z] at f; exact nomatch f) (br_t rfl (h1 (by rw [f, decide_eq_true p])))
  · refine br_f (by rw [e, show t % 2 = 1 by omega]; decide) ?_
    cases f : bt fl b
    · exact br_t (hc.mpr f) (br_t rfl (h1 (by rw [f, decide_eq_false p])))
    · exact br_f (fun z => by rw [hc.mp z] at f; exact nomatch f) (br_f (by decide) (h0 (by rw [f, decide_eq_false p]; decide)))
theorem xs_holds {t : Nat} (ht : t < 8) (h1 : bt fl (bn_ t) = decide (t % 2 = 0) → postI 1) (h0 : ¬ bt fl (bn_ t) = decide (t % 2 = 0) → postI 0) : wpX_holds postI (msp, psp, pc, fl, pr, ss, ph, lf, fb, ln, tl, pm, am, th, bs, dp, nw, cd, rm, rg, fr, py, vc, lv, ac, st) (nI t) := by
  by_cases a : t < 2
  · rw [show bn_ t = 30 from if_pos a] at h1 h0
    exact br_f (nI_ge (b := 2) (by omega) (by decide)) (xs_h34 ht (hm_ fl 30 (by decide) (by decide)) h1 h0)
  · by_cases b : t < 4
    · rw [show bn_ t = 29 from (if_neg a).trans (if_pos b)] at h1 h0
      exact br_t (nI_le (a := 2) (by omega) (by omega)) (br_f (nI_ge (b := 4) (by omega) (by decide)) (xs_h34 ht (hm_ fl 29 (by decide) (by decide)) h1 h0))
    · by_cases c : t < 6
      · rw [show bn_ t = 31 from (if_neg a).trans ((if_neg b).trans (if_pos c))] at h1 h0
        exact br_t (nI_le (a := 2) (by omega) (by omega)) (br_t (nI_le (a := 4) (by omega) (by omega)) (br_f (nI_ge (b := 6) (by omega) (by decide)) (xs_h34 ht (hm_ fl 31 (by decide) (by decide)) h1 h0)))
      · rw [show bn_ t = 28 from (if_neg a).trans ((if_neg b).trans (if_neg c))] at h1 h0
        exact br_t (nI_le (a := 2) (by omega) (by omega)) (br_t (nI_le (a := 4) (by omega) (by omega)) (br_t (nI_le (a := 6) (by omega) (by omega)) (xs_h34 ht (hm_ fl 28 (by decide) (by decide)) h1 h0)))
end
def bc_ (fl pc : Int32) (m : Nat) : Int32 := if bt fl (bn_ (m / 256 % 8)) = decide (m / 256 % 8 % 2 = 0) then (pc + (4 + 2 * (if m % 256 < 128 then nI (m % 256) else nI (m % 256) - 256))) &&& 254 else (pc + 2) &&& 254
section
variable {m : Nat} {p : SX → Prop} {q : Int32 → SY → Prop} {msp psp pc fl pr ss ph lf fb ln tl pm am th bs dp nw : Int32} {cd rm rg fr py vc lv ac st sp wt rc : Nat → Int32}
theorem xi_bcc (h1 : 53248 ≤ m) (h2 : m ≤ 55295) (hp : p (msp, psp, bc_ fl pc m, fl, pr, ss, ph, lf, fb, ln, tl, pm, am, th, bs, dp, nw, cd, rm, rg, fr, py, vc, lv, ac, st)) : wpX_conditionalGroup p (msp, psp, pc, fl, pr, ss, ph, lf, fb, ln, tl, pm, am, th, bs, dp, nw, cd, rm, rg, fr, py, vc, lv, ac, st) (nI m) := by
  have h0 : m < 65536 := by omega
  unfold bc_ at hp
  refine br_t (nI_lt (b := 57088) (by omega) (by decide)) (br_t (nI_lt (b := 55296) (by omega) (by decide)) ?_)
  rw [du87 h0]
  refine xs_holds (by omega) (fun h => br_f (by decide) ?_) (fun h => br_t rfl ?_)
  · rw [if_pos h] at hp
    rw [bo_8 h0]
    exact xs_adv hp
  · rw [if_neg h] at hp
    exact xs_adv hp
theorem yi_736 {x : Int32} {b : Nat} (hm : m < 65536) (hb : b < 32) (hx : x = nI b) (h1 : bt fl b = decide (m / 256 % 8 % 2 = 0) → q 1 (((pc + 2) + 2 * (if m % 256 < 128 then nI (m % 256) else nI (m % 256) - 256)) &&& 254, fl, pr, ss, dp, ph, lf, ln, tl, cd, rm, rg, sp, wt, py, vc, ac, rc)) (h0 : ¬ bt fl b = decide (m / 256 % 8 % 2 = 0) → q 1 (pc, fl, pr, ss, dp, ph, lf, ln, tl, cd, rm, rg, sp, wt, py, vc, ac, rc)) : wY_perform_736 q (nI (m / 256 % 8)) (nI (m % 256)) x pc fl pr ss dp ph lf ln tl cd rm rg sp wt py vc ac rc := by
  subst hx
  unfold wY_perform_736
  rw [hv_ fl b hb, da_1 (n := m / 256 % 8) (by omega)]
  by_cases h : bt fl b = decide (m / 256 % 8 % 2 = 0)
  · have hq := h1 h
    refine br_f ?_ ?_
    · rw [h]
      by_cases e : m / 256 % 8 % 2 = 0
      · rw [decide_eq_true e, e]; decide
      · rw [decide_eq_false e, show m / 256 % 8 % 2 = 1 by omega]; decide
    · by_cases c : m % 256 < 128
      · rw [if_pos c] at hq
        exact br_f (nI_ge (b := 128) (by omega) (by decide)) (nm_e hq)
      · rw [if_neg c] at hq
        exact br_t (nI_le (a := 128) (by omega) (by omega)) (nm_e hq)
  · refine br_t ?_ (h0 h)
    by_cases e : m / 256 % 8 % 2 = 0
    · rw [decide_eq_true e] at h
      rw [if_neg h, e]
    · rw [decide_eq_false e] at h
      rw [if_pos (by cases z : bt fl b; exact (h z).elim; rfl), show m / 256 % 8 % 2 = 1 by omega]
theorem yi_bcc (h1 : 53248 ≤ m) (h2 : m ≤ 55295) {x : Int32} (hq : q 1 (bc_ fl x m, fl, pr, ss, dp, ph, lf, ln, tl, cd, rm, rg, sp, wt, py, vc, ac, rc)) : wpY_perform q ((x + 2) &&& 254, fl, pr, ss, dp, ph, lf, ln, tl, cd, rm, rg, sp, wt, py, vc, ac, rc) (nI m) := by
  have h0 : m < 65536 := by omega
  unfold bc_ at hq
  have ht : bt fl (bn_ (m / 256 % 8)) = decide (m / 256 % 8 % 2 = 0) → q 1 (((((x + 2) &&& 254) + 2) + 2 * (if m % 256 < 128 then nI (m % 256) else nI (m % 256) - 256)) &&& 254, fl, pr, ss, dp, ph, lf, ln, tl, cd, rm, rg, sp, wt, py, vc, ac, rc) := by
    intro h
    rw [if_pos h] at hq
    rw [pc_b]
    exact hq
  have hf : ¬ bt fl (bn_ (m / 256 % 8)) = decide (m / 256 % 8 % 2 = 0) → q 1 ((x + 2) &&& 254, fl, pr, ss, dp, ph, lf, ln, tl, cd, rm, rg, sp, wt, py, vc, ac, rc) := by
    intro h
    rw [if_neg h] at hq
    exact hq
  refine yd_top h0 (by omega) (by omega) (yd_412 h0 (by omega) (yd_452 h0 (by omega) (yd_501 h0 (by omega) (yd_542 h0 (by omega) (yd_580 h0 (by omega) (yd_618 h0 (by omega) (yd_638 h0 (by omega) ?_)))))))
  refine br_f (fun z => ?_) (br_f (fun z => ?_) (br_f (nI_nlt (b := 53248) (by omega) (by omega)) (br_f (nI_nlt (a := 55295) (by omega) (by decide)) ?_)))
  · have := (nI_eq (b := 46690) (by omega) (by decide)).mp z
    omega
  · have := (nI_eq (b := 46706) (by omega) (by decide)).mp z
    omega
  · by_cases a : m / 256 % 8 < 2
    · rw [show bn_ (m / 256 % 8) = 30 from if_pos a] at ht hf
      exact br_f (nI_ge (b := 2) (by omega) (by decide)) (yi_736 (b := 30) h0 (by decide) rfl ht hf)
    · by_cases b : m / 256 % 8 < 4
      · rw [show bn_ (m / 256 % 8) = 29 from (if_neg a).trans (if_pos b)] at ht hf
        exact br_t (nI_le (a := 2) (by omega) (by omega)) (br_f (nI_ge (b := 4) (by omega) (by decide)) (yi_736 (b := 29) h0 (by decide) rfl ht hf))
      · by_cases c : m / 256 % 8 < 6
        · rw [show bn_ (m / 256 % 8) = 31 from (if_neg a).trans ((if_neg b).trans (if_pos c))] at ht hf
          exact br_t (nI_le (a := 2) (by omega) (by omega)) (br_t (nI_le (a := 4) (by omega) (by omega)) (br_f (nI_ge (b := 6) (by omega) (by decide)) (yi_736 (b := 31) h0 (by decide) rfl ht hf)))
        · rw [show bn_ (m / 256 % 8) = 28 from (if_neg a).trans ((if_neg b).trans (if_neg c))] at ht hf
          exact br_t (nI_le (a := 2) (by omega) (by omega)) (br_t (nI_le (a := 4) (by omega) (by omega)) (br_t (nI_le (a := 6) (by omega) (by omega)) (yi_736 (b := 28) h0 (by decide) rfl ht hf)))
theorem ox_bcc (h1 : 53248 ≤ m) (h2 : m ≤ 55295) (hc : cd (((pc.toUInt32 >>> ((1 : Int32).toUInt32 &&& Int32.toUInt32 31)).toInt32) &&& 127).toNatClampNeg = nI m) (g : rl_G ln tl dp nw pr pm am th bs cd py lv ac st wt rc) (hh : rl_H msp psp ss rg sp) : oc_ (fun p => wpX_execute p (msp, psp, pc, fl, pr, ss, 0, 0, fb, ln, tl, pm, am, th, bs, dp, nw, cd, rm, rg, fr, py, vc, lv, ac, st)) (fun p => wpY_execute p (pc, fl, pr, ss, dp, 0, 0, ln, tl, cd, rm, rg, sp, wt, upd py 3 (-1), vc, ac, rc)) :=
  ⟨_, _, rl_0 g hh, xd_13 (by omega) hc (by omega) (fun p hp => xi_bcc h1 h2 hp), fun p hp => ye_one hc (fun q hq => yi_bcc h1 h2 hq) (ye_0 (by decide) hp)⟩
theorem xi_b (h1 : 57344 ≤ m) (h2 : m ≤ 59391) (hp : p (msp, psp, (pc + (4 + 2 * ((nI m <<< ((21 : Int32) &&& 31)) >>> ((21 : Int32) &&& 31)))) &&& 254, fl, pr, ss, ph, lf, fb, ln, tl, pm, am, th, bs, dp, nw, cd, rm, rg, fr, py, vc, lv, ac, st)) : wpX_branch p (msp, psp, pc, fl, pr, ss, ph, lf, fb, ln, tl, pm, am, th, bs, dp, nw, cd, rm, rg, fr, py, vc, lv, ac, st) (nI m) := by
  have h0 : m < 65536 := by omega
  refine br_f (nI_ge (b := 59392) (by omega) (by decide)) ?_
  rw [bo_11 h0]
  exact xs_adv hp
theorem yi_b (h1 : 57344 ≤ m) (h2 : m ≤ 59391) {x : Int32} (hq : q 1 ((x + (4 + 2 * ((nI m <<< ((21 : Int32) &&& 31)) >>> ((21 : Int32) &&& 31)))) &&& 254, fl, pr, ss, dp, ph, lf, ln, tl, cd, rm, rg, sp, wt, py, vc, ac, rc)) : wpY_perform q ((x + 2) &&& 254, fl, pr, ss, dp, ph, lf, ln, tl, cd, rm, rg, sp, wt, py, vc, ac, rc) (nI m) := by
  have h0 : m < 65536 := by omega
  exact yd_top h0 (by omega) (by omega) (yd_412 h0 (by omega) (yd_452 h0 (by omega) (yd_501 h0 (by omega) (yd_542 h0 (by omega) (yd_580 h0 (by omega) (yd_618 h0 (by omega) (yd_638 h0 (by omega) (yd_658 h0 (by omega) (by omega) (by omega) (yd_793 h0 (by omega) (br_f (nI_nlt (b := 57344) (by omega) (by omega)) (br_f (nI_nlt (a := 59391) (by omega) (by decide)) (nm_r (pc_b x _) hq))))))))))))
theorem ox_b (h1 : 57344 ≤ m) (h2 : m ≤ 59391) (hc : cd (((pc.toUInt32 >>> ((1 : Int32).toUInt32 &&& Int32.toUInt32 31)).toInt32) &&& 127).toNatClampNeg = nI m) (g : rl_G ln tl dp nw pr pm am th bs cd py lv ac st wt rc) (hh : rl_H msp psp ss rg sp) : oc_ (fun p => wpX_execute p (msp, psp, pc, fl, pr, ss, 0, 0, fb, ln, tl, pm, am, th, bs, dp, nw, cd, rm, rg, fr, py, vc, lv, ac, st)) (fun p => wpY_execute p (pc, fl, pr, ss, dp, 0, 0, ln, tl, cd, rm, rg, sp, wt, upd py 3 (-1), vc, ac, rc)) :=
  ⟨_, _, rl_0 g hh, xd_14 (by omega) hc (by omega) (fun p hp => xi_b h1 h2 hp), fun p hp => ye_one hc (fun q hq => yi_b h1 h2 hq) (ye_0 (by decide) hp)⟩
theorem ox_nop (h1 : m = 48896) (hc : cd (((pc.toUInt32 >>> ((1 : Int32).toUInt32 &&& Int32.toUInt32 31)).toInt32) &&& 127).toNatClampNeg = nI m) (g : rl_G ln tl dp nw pr pm am th bs cd py lv ac st wt rc) (hh : rl_H msp psp ss rg sp) : oc_ (fun p => wpX_execute p (msp, psp, pc, fl, pr, ss, 0, 0, fb, ln, tl, pm, am, th, bs, dp, nw, cd, rm, rg, fr, py, vc, lv, ac, st)) (fun p => wpY_execute p (pc, fl, pr, ss, dp, 0, 0, ln, tl, cd, rm, rg, sp, wt, upd py 3 (-1), vc, ac, rc)) :=
  have h0 : m < 65536 := by omega
  ⟨_, _, rl_0 g hh, xd_11 h0 hc (by omega) (fun p hp => xg_g h0 (by omega) (xg_27 h0 (by omega) (br_f (fun z => by have := (nI_eq (b := 46690) (by omega) (by decide)).mp z; omega) (br_f (fun z => by have := (nI_eq (b := 46706) (by omega) (by decide)).mp z; omega) (br_t (by rw [h1]; rfl) (xs_adv hp)))))), fun p hp => ye_one hc (fun q hq => yd_top h0 (by omega) (by omega) (yd_412 h0 (by omega) (yd_452 h0 (by omega) (yd_501 h0 (by omega) (yd_542 h0 (by omega) (yd_580 h0 (by omega) (yd_618 h0 (by omega) (yd_638 h0 (by omega) (yd_658 h0 (by omega) (by omega) (by omega) (yd_793 h0 (by omega) (yd_837 h0 (by omega) (yd_876 h0 (by omega) (br_f (fun z => by have := (nI_eq (b := 62447) (by omega) (by decide)).mp z; omega) (br_t (by rw [h1]; rfl) hq)))))))))))))) (ye_0 (by decide) hp)⟩
/-- PRIMASK in the relation -/
theorem rl_pm (x : Int32) (g : rl_G ln tl dp nw pr pm am th bs cd py lv ac st wt rc) : ∃ L D t b, ar_A L D pm am py lv ac wt ∧ ar_EN x D ac (upd py 3 (-1)) wt t b ∧ rl_G ln tl dp nw x pm am t b cd py lv ac st wt rc := by
  obtain ⟨L, T, D, W, e1, e2, e3, e4, g1, g2, A, E, g3, g4⟩ := g
  obtain ⟨t, b, E'⟩ := ar_ex x D ac (upd py 3 (-1)) wt
  exact ⟨L, D, t, b, A, E', L, T, D, W, e1, e2, e3, e4, g1, g2, A, E', g3, g4⟩
theorem xs_spm {L D : Nat} {x t b : Int32} (A : ar_A L D pm am py lv ac wt) (E : ar_EN x D ac (upd py 3 (-1)) wt t b) (hp : p (msp, psp, pc, fl, x, ss, ph, lf, fb, ln, tl, pm, am, t, b, dp, nw, cd, rm, rg, fr, py, vc, lv, ac, st)) : wpX_setPrimask p (msp, psp, pc, fl, pr, ss, ph, lf, fb, ln, tl, pm, am, th, bs, dp, nw, cd, rm, rg, fr, py, vc, lv, ac, st) x := by
  unfold wpX_setPrimask
  exact xw_arb A E hp
theorem ox_cps (h1 : m = 46690 ∨ m = 46706) (hc : cd (((pc.toUInt32 >>> ((1 : Int32).toUInt32 &&& Int32.toUInt32 31)).toInt32) &&& 127).toNatClampNeg = nI m) (g : rl_G ln tl dp nw pr pm am th bs cd py lv ac st wt rc) (hh : rl_H msp psp ss rg sp) : oc_ (fun p => wpX_execute p (msp, psp, pc, fl, pr, ss, 0, 0, fb, ln, tl, pm, am, th, bs, dp, nw, cd, rm, rg, fr, py, vc, lv, ac, st)) (fun p => wpY_execute p (pc, fl, pr, ss, dp, 0, 0, ln, tl, cd, rm, rg, sp, wt, upd py 3 (-1), vc, ac, rc)) := by
  have h0 : m < 65536 := by omega
  have YR : ∀ q : Int32 → SY → Prop, wY_perform_658 q (nI m) (nI (m / 256 % 8)) (nI (m % 256)) ((pc + 2) &&& 254) fl pr ss dp 0 0 ln tl cd rm rg sp wt (upd py 3 (-1)) vc ac rc → wpY_perform q ((pc + 2) &&& 254, fl, pr, ss, dp, 0, 0, ln, tl, cd, rm, rg, sp, wt, upd py 3 (-1), vc, ac, rc) (nI m) := fun q H => yd_top h0 (by omega) (by omega) (yd_412 h0 (by omega) (yd_452 h0 (by omega) (yd_501 h0 (by omega) (yd_542 h0 (by omega) (yd_580 h0 (by omega) (yd_618 h0 (by omega) (yd_638 h0 (by omega) H)))))))
  rcases h1 with e | e
  · obtain ⟨L, D, t, b, A, E, g'⟩ := rl_pm 0 g
    exact ⟨_, _, rl_0 g' hh, xd_11 h0 hc (by omega) (fun p hp => xg_g h0 (by omega) (xg_27 h0 (by omega) (br_t (by rw [e]; rfl) (by
      unfold wX_stackGroup_63
      rw [du_4 h0, da_1 (by omega), show m / 16 % 2 = 0 by omega]
      exact xs_spm A E (xs_adv hp))))), fun p hp => ye_one hc (fun q hq => YR q (br_t (by rw [e]; rfl) (br_f (fun z => by have := (nI_eq (b := 46706) (by omega) (by decide)).mp z; omega) hq))) (ye_0 (by decide) hp)⟩
  · obtain ⟨L, D, t, b, A, E, g'⟩ := rl_pm 1 g
    exact ⟨_, _, rl_0 g' hh, xd_11 h0 hc (by omega) (fun p hp => xg_g h0 (by omega) (xg_27 h0 (by omega) (br_f (fun z => by have := (nI_eq (b := 46690) (by omega) (by decide)).mp z; omega) (br_t (by rw [e]; rfl) (by
      unfold wX_stackGroup_63
      rw [du_4 h0, da_1 (by omega), show m / 16 % 2 = 1 by omega]
      exact xs_spm A E (xs_adv hp)))))), fun p hp => ye_one hc (fun q hq => YR q (br_f (fun z => by have := (nI_eq (b := 46690) (by omega) (by decide)).mp z; omega) (br_t (by rw [e]; rfl) (br_t (by rw [e]; rfl) hq)))) (ye_0 (by decide) hp)⟩
theorem xv_lock (h : th ≤ py 11) (h3 : bt am 3 = true) (hp : p (msp, psp, pc, fl, pr, ss, 4, 0, fb, ln, tl, pm, am, th, bs, dp, nw, cd, rm, rg, fr, py, vc, lv, ac, st)) : wpX_supervisorCall p (msp, psp, pc, fl, pr, ss, ph, lf, fb, ln, tl, pm, am, th, bs, dp, nw, cd, rm, rg, fr, py, vc, lv, ac, st) := by
  refine br_f (fun z => ar_no z h) ?_
  unfold wpX_faultActive
  refine br_f (fun z => ?_) (br_f (by decide) hp)
  rw [(bz_8 am).mp z] at h3
  exact nomatch h3
theorem xv_3 {L D : Nat} {t b : Int32} (h : th ≤ py 11) (h3 : bt am 3 = false) (A : ar_A L D (pm ||| ((1 : Int32) <<< (nI 3 &&& 31))) am py lv ac wt) (E : ar_EN pr D ac (upd py 3 (-1)) wt t b) (hp : p (msp, psp, (pc + 2) &&& 254, fl, pr, ss, ph, lf, fb, ln, tl, pm ||| ((1 : Int32) <<< (nI 3 &&& 31)), am, t, b, dp, nw, cd, rm, rg, fr, py, vc, lv, ac, st)) : wpX_supervisorCall p (msp, psp, pc, fl, pr, ss, ph, lf, fb, ln, tl, pm, am, th, bs, dp, nw, cd, rm, rg, fr, py, vc, lv, ac, st) := by
  refine br_f (fun z => ar_no z h) ?_
  unfold wpX_faultActive
  exact br_t ((bz_8 am).mpr h3) (br_t rfl (br_t h (xs_raise (k := 3) A E (xs_adv hp))))
/-- SVC -/
theorem ox_svc (h1 : 57088 ≤ m) (h2 : m ≤ 57343) (hc : cd (((pc.toUInt32 >>> ((1 : Int32).toUInt32 &&& Int32.toUInt32 31)).toInt32) &&& 127).toNatClampNeg = nI m) (g : rl_G ln tl dp nw pr pm am th bs cd py lv ac st wt rc) (hh : rl_H msp psp ss rg sp) : oc_ (fun p => wpX_execute p (msp, psp, pc, fl, pr, ss, 0, 0, fb, ln, tl, pm, am, th, bs, dp, nw, cd, rm, rg, fr, py, vc, lv, ac, st)) (fun p => wpY_execute p (pc, fl, pr, ss, dp, 0, 0, ln, tl, cd, rm, rg, sp, wt, upd py 3 (-1), vc, ac, rc)) := by
  have h0 : m < 65536 := by omega
  have XR : ∀ u, (∀ p, p u → wpX_supervisorCall p (msp, psp, pc, fl, pr, ss, 0, 0, fb, ln, tl, pm, am, th, bs, dp, nw, cd, rm, rg, fr, py, vc, lv, ac, st)) → (∀ p, p u → wpX_execute p (msp, psp, pc, fl, pr, ss, 0, 0, fb, ln, tl, pm, am, th, bs, dp, nw, cd, rm, rg, fr, py, vc, lv, ac, st)) := fun u H => xd_13 h0 hc (by omega) (fun p hp => br_f (nI_nlt (b := 57088) (by omega) (by omega)) (H _ (xt_eta hp)))
  have YR : ∀ q : Int32 → SY → Prop, wY_perform_793 q (nI m) ((pc + 2) &&& 254) fl pr ss dp 0 0 ln tl cd rm rg sp wt (upd py 3 (-1)) vc ac rc → wpY_perform q ((pc + 2) &&& 254, fl, pr, ss, dp, 0, 0, ln, tl, cd, rm, rg, sp, wt, upd py 3 (-1), vc, ac, rc) (nI m) := fun q H => yd_top h0 (by omega) (by omega) (yd_412 h0 (by omega) (yd_452 h0 (by omega) (yd_501 h0 (by omega) (yd_542 h0 (by omega) (yd_580 h0 (by omega) (yd_618 h0 (by omega) (yd_638 h0 (by omega) (yd_658 h0 (by omega) (by omega) (by omega) H))))))))
  obtain ⟨L, T, D, W, e1, e2, e3, e4, g1, g2, A, E, g3, g4⟩ := id g
  obtain ⟨A1, A2, A3, A4, A5, A6, A7, A8, A9⟩ := id A
  subst e3
  have hv : ∀ j, j < D → ∃ k, k < 24 ∧ ac j = nI k := fun j hj => by
    obtain ⟨k, hk, e⟩ := A3 j hj
    exact ⟨k, (ar_v24 A1.2 hk).2, e⟩
  have e11 : upd py 3 (-1) 11 = py 11 := pk_un (by decide)
  have YS : ∀ q : Int32 → SY → Prop, ((th ≤ upd py 3 (-1) 11 → wpY_fault (fun u => match u with | (pc, fl, pr, ss, dp, ph, lf, ln, tl, cd, rm, rg, sp, wt, py, vc, ac, rc) => q 1 (pc, fl, pr, ss, dp, ph, lf, ln, tl, cd, rm, rg, sp, wt, py, vc, ac, rc)) ((pc + 2) &&& 254, fl, pr, ss, nI D, 0, 0, ln, tl, cd, rm, rg, sp, wt, upd py 3 (-1), vc, ac, rc)) ∧ (¬ th ≤ upd py 3 (-1) 11 → ∀ w : Nat → Int32, w = upd wt 11 (vp_nar .boolean 1) → q 1 ((pc + 2) &&& 254, fl, pr, ss, nI D, 0, 0, ln, tl, cd, rm, rg, sp, w, upd py 3 (-1), vc, ac, rc))) → wY_perform_793 q (nI m) ((pc + 2) &&& 254) fl pr ss (nI D) 0 0 ln tl cd rm rg sp wt (upd py 3 (-1)) vc ac rc := fun q H => br_f (nI_nlt (b := 57088) (by omega) (by omega)) (br_f (nI_nlt (a := 57343) (by omega) (by decide)) (yw_ep A2 hv E.1 H))
  by_cases hp11 : th ≤ py 11
  · obtain ⟨u, v, w, hX, hY, h⟩ := un_oc (msp := msp) (psp := psp) (fl := fl) (fb := fb) (vc := vc) (rm := rm) (fr := fr) (pc := pc) pc ((pc + 2) &&& 254) g hh
    have YF : ∀ q : Int32 → SY → Prop, q 1 w → wpY_perform q ((pc + 2) &&& 254, fl, pr, ss, nI D, 0, 0, ln, tl, cd, rm, rg, sp, wt, upd py 3 (-1), vc, ac, rc) (nI m) := fun q hq => YR q (YS q (br_t (by rw [e11]; exact hp11) (hY _ (yt_eta (post := q 1) hq))))
    rcases h with ⟨h3, eu, ew, ev⟩ | ⟨h3, t, b, eu, ew, ev, g'⟩
    · rw [ew] at YF
      exact ⟨_, _, rl_4 g hh, XR _ (fun p hp => xv_lock hp11 h3 hp), fun p hp => ye_one hc YF (ye_4 hp)⟩
    · rw [ew] at YF
      have A' := ar_pend A (k := 3) (Or.inl rfl)
      obtain ⟨t, b, E'⟩ := ar_ex pr D ac (upd py 3 (-1)) (upd wt 3 1)
      have g' : rl_G ln tl (nI D) nw pr (pm ||| ((1 : Int32) <<< (nI 3 &&& 31))) am t b cd py lv ac st (upd wt 3 1) rc := ⟨L, T, D, W, e1, e2, rfl, e4, g1, g2, A', E', g3, g4⟩
      exact ⟨_, _, rl_0 g' hh, XR _ (fun p hp => xv_3 hp11 h3 A' E' hp), fun p hp => ye_one hc YF (ye_0 (by decide) hp)⟩
  · have A' := ar_pend A (k := 11) (Or.inr (Or.inl rfl))
    obtain ⟨t, b, E'⟩ := ar_ex pr D ac (upd py 3 (-1)) (upd wt 11 1)
    have g' : rl_G ln tl (nI D) nw pr (pm ||| ((1 : Int32) <<< (nI 11 &&& 31))) am t b cd py lv ac st (upd wt 11 1) rc := ⟨L, T, D, W, e1, e2, rfl, e4, g1, g2, A', E', g3, g4⟩
    exact ⟨_, _, rl_0 g' hh, XR _ (fun p hp => br_t (ar_nl hp11) (br_f hp11 (xs_raise (k := 11) A' E' (xs_adv hp)))), fun p hp => ye_one hc (fun q hq => YR q (YS q (br_f (by rw [e11]; exact hp11) (nm_r (e' := upd wt 11 1) rfl hq)))) (ye_0 (by decide) hp)⟩
end
end
section
/-! MSR and MRS -/
theorem bo_1 (x : Int32) : (x >>> ((1 : Int32) &&& 31)) &&& 1 = ((x.toUInt32 >>> ((1 : Int32).toUInt32 &&& Int32.toUInt32 31)).toInt32) &&& 1 := by
  have t : ∀ i, i < 32 → bt 1 i = decide (i = 0) := by decide +kernel
  apply b_ext
  intro i hi
  rw [b_and, b_and, bb_sshr1 x hi, bb_ushr1, t i hi]
  by_cases h : i = 0
  · rw [if_pos (by omega)]
  · simp [h]
theorem bo_01 (x : Int32) : x &&& 1 = 0 ∨ x &&& 1 = 1 := by
  obtain ⟨j, hj, e⟩ := pk_andE x (m := 1) 1 (by decide)
  rcases (by omega : j = 0 ∨ j = 1) with rfl | rfl
  · exact Or.inl e
  · exact Or.inr e
def sw_ok (x s h : Nat) : Prop := (s = 8 ∨ s = 9 ∨ s = 16 ∨ s = 20) ∧ ¬ (nI x = 13 ∨ nI x = 15) ∧ h = 136
def sr_ok (x s h : Nat) : Prop := (s = 5 ∨ s = 8 ∨ s = 9 ∨ s = 16 ∨ s = 20) ∧ ¬ (nI x = 13 ∨ nI x = 15) ∧ h = 8
theorem ne_s {s c : Nat} (hs : s < 65536) (hc : c < 65536) (h : s ≠ c) : ¬ nI s = nI c := fun z => h ((nI_eq (by omega) (by omega)).mp z)
section
variable {m x s w : Nat} {p : SX → Prop} {u : SX} {msp psp pc fl pr ss ph lf fb ln tl pm am th bs dp nw : Int32} {cd rm rg fr py vc lv ac st : Nat → Int32}
theorem xw_bad (hx : x < 16) (hw : w < 65536) (hb : ¬ sw_ok x (w % 256) (w / 256)) (H : ∀ p, p u → wpX_undefined p (msp, psp, pc, fl, pr, ss, ph, lf, fb, ln, tl, pm, am, th, bs, dp, nw, cd, rm, rg, fr, py, vc, lv, ac, st)) : ∀ p, p u → wpX_writeSpecial p (msp, psp, pc, fl, pr, ss, ph, lf, fb, ln, tl, pm, am, th, bs, dp, nw, cd, rm, rg, fr, py, vc, lv, ac, st) (nI x) (nI w) := by
  intro p hp
  unfold wpX_writeSpecial
  by_cases n : nI x = 13 ∨ nI x = 15
  · exact xs_us0 n (br_t rfl (H _ (xt_eta hp)))
  · refine xs_us1 (fun z => n (Or.inl z)) (fun z => n (Or.inr z)) (br_f (by decide) ?_)
    rw [du_8 hw]
    by_cases h : w / 256 = 136
    · refine br_t (by rw [h]; rfl) (And.intro (ia_15 _) (nm_e (nm_r (da_255 hw) ?_)))
      refine br_f (ne_s (c := 8) (by omega) (by decide) fun z => ?_) (br_f (ne_s (c := 9) (by omega) (by decide) fun z => ?_) (br_f (ne_s (c := 16) (by omega) (by decide) fun z => ?_) (br_f (ne_s (c := 20) (by omega) (by decide) fun z => ?_) (H _ (xt_eta hp)))))
      · exact hb ⟨Or.inl z, n, h⟩
      · exact hb ⟨Or.inr (Or.inl z), n, h⟩
      · exact hb ⟨Or.inr (Or.inr (Or.inl z)), n, h⟩
      · exact hb ⟨Or.inr (Or.inr (Or.inr z)), n, h⟩
    · exact br_f (ne_s (c := 136) (by omega) (by decide) h) (H _ (xt_eta hp))
theorem xw_hd (hx : x < 16) (hw : w < 65536) (hb : sw_ok x (w % 256) (w / 256)) {a : Int32} (ha : rg x = a)
    (H8 : w % 256 = 8 → p (a &&& (-4), psp, (pc + 4) &&& 254, fl, pr, ss, ph, lf, fb, ln, tl, pm, am, th, bs, dp, nw, cd, rm, rg, fr, py, vc, lv, ac, st))
    (H9 : w % 256 = 9 → p (msp, a &&& (-4), (pc + 4) &&& 254, fl, pr, ss, ph, lf, fb, ln, tl, pm, am, th, bs, dp, nw, cd, rm, rg, fr, py, vc, lv, ac, st))
    (H16 : w % 256 = 16 → wpX_setPrimask (fun u => match u with | (msp, psp, pc, fl, pr, ss, ph, lf, fb, ln, tl, pm, am, th, bs, dp, nw, cd, rm, rg, fr, py, vc, lv, ac, st) => wX_writeSpecial_136 p msp psp pc fl pr ss ph lf fb ln tl pm am th bs dp nw cd rm rg fr py vc lv ac st) (msp, psp, pc, fl, pr, ss, ph, lf, fb, ln, tl, pm, am, th, bs, dp, nw, cd, rm, rg, fr, py, vc, lv, ac, st) (a &&& 1))
    (H20 : w % 256 = 20 → dp = 0 → p (msp, psp, (pc + 4) &&& 254, fl, pr, ((a.toUInt32 >>> ((1 : Int32).toUInt32 &&& Int32.toUInt32 31)).toInt32) &&& 1, ph, lf, fb, ln, tl, pm, am, th, bs, dp, nw, cd, rm, rg, fr, py, vc, lv, ac, st))
    (H21 : w % 256 = 20 → ¬ dp = 0 → p (msp, psp, (pc + 4) &&& 254, fl, pr, ss, ph, lf, fb, ln, tl, pm, am, th, bs, dp, nw, cd, rm, rg, fr, py, vc, lv, ac, st)) : wpX_writeSpecial p (msp, psp, pc, fl, pr, ss, ph, lf, fb, ln, tl, pm, am, th, bs, dp, nw, cd, rm, rg, fr, py, vc, lv, ac, st) (nI x) (nI w) := by
  obtain ⟨hs, n, h⟩ := hb
  unfold wpX_writeSpecial
  refine xs_us1 (fun z => n (Or.inl z)) (fun z => n (Or.inr z)) (br_f (by decide) ?_)
  rw [du_8 hw]
  refine br_t (by rw [h]; rfl) (And.intro (ia_15 _) (nm_r (e' := a) ?_ (nm_r (da_255 hw) ?_)))
  · rw [da_15 (by omega), nI_clamp (by omega), Nat.mod_eq_of_lt hx, ha]
  · rcases hs with e | e | e | e
    · rw [e]; exact br_t rfl (nm_e (xs_adv (H8 e)))
    · rw [e]; exact br_f (by decide) (br_t rfl (nm_e (xs_adv (H9 e))))
    · rw [e]; exact br_f (by decide) (br_f (by decide) (br_t rfl (H16 e)))
    · rw [e]; exact br_f (by decide) (br_f (by decide) (br_f (by decide) (br_t rfl (br_c (fun d => nm_e (xs_adv (H20 e d))) (fun d => xs_adv (H21 e d))))))
theorem xr_bad (hw : w < 65536) (hb : ¬ sr_ok (w / 256 % 16) (w % 256) (w / 4096)) (H : ∀ p, p u → wpX_undefined p (msp, psp, pc, fl, pr, ss, ph, lf, fb, ln, tl, pm, am, th, bs, dp, nw, cd, rm, rg, fr, py, vc, lv, ac, st)) : ∀ p, p u → wpX_readSpecial p (msp, psp, pc, fl, pr, ss, ph, lf, fb, ln, tl, pm, am, th, bs, dp, nw, cd, rm, rg, fr, py, vc, lv, ac, st) (nI w) := by
  intro p hp
  refine nm_r (e' := nI (w / 256 % 16)) (by rw [du_8 hw, da_15 (by omega)]) ?_
  by_cases n : nI (w / 256 % 16) = 13 ∨ nI (w / 256 % 16) = 15
  · exact xs_us0 n (br_t rfl (H _ (xt_eta hp)))
  · refine xs_us1 (fun z => n (Or.inl z)) (fun z => n (Or.inr z)) (br_f (by decide) ?_)
    rw [du_12 hw]
    by_cases h : w / 4096 = 8
    · refine br_t (by rw [h]; rfl) (nm_r (da_255 hw) ?_)
      refine br_f (ne_s (c := 5) (by omega) (by decide) fun z => ?_) (br_f (ne_s (c := 8) (by omega) (by decide) fun z => ?_) (br_f (ne_s (c := 9) (by omega) (by decide) fun z => ?_) (br_f (ne_s (c := 16) (by omega) (by decide) fun z => ?_) (br_f (ne_s (c := 20) (by omega) (by decide) fun z => ?_) (H _ (xt_eta hp))))))
      · exact hb ⟨Or.inl z, n, h⟩
      · exact hb ⟨Or.inr (Or.inl z), n, h⟩
      · exact hb ⟨Or.inr (Or.inr (Or.inl z)), n, h⟩
      · exact hb ⟨Or.inr (Or.inr (Or.inr (Or.inl z))), n, h⟩
      · exact hb ⟨Or.inr (Or.inr (Or.inr (Or.inr z))), n, h⟩
    · exact br_f (ne_s (c := 8) (by omega) (by decide) h) (H _ (xt_eta hp))
theorem xr_ok {D : Nat} (hD : D ≤ 10) (hw : w < 65536) (hb : sr_ok (w / 256 % 16) (w % 256) (w / 4096)) (hp : p (msp, psp, (pc + 4) &&& 254, fl, pr, ss, ph, lf, fb, ln, tl, pm, am, th, bs, nI D, nw, cd, rm, upd rg (nI (w / 256 % 16)).toNatClampNeg (if w % 256 = 5 then cu_ D ac else if w % 256 = 8 then msp else if w % 256 = 9 then psp else if w % 256 = 16 then pr else 2 * ss), fr, py, vc, lv, ac, st)) : wpX_readSpecial p (msp, psp, pc, fl, pr, ss, ph, lf, fb, ln, tl, pm, am, th, bs, nI D, nw, cd, rm, rg, fr, py, vc, lv, ac, st) (nI w) := by
  obtain ⟨hs, n, h⟩ := hb
  refine nm_r (e' := nI (w / 256 % 16)) (by rw [du_8 hw, da_15 (by omega)]) ?_
  refine xs_us1 (fun z => n (Or.inl z)) (fun z => n (Or.inr z)) (br_f (by decide) ?_)
  rw [du_12 hw]
  refine br_t (by rw [h]; rfl) (nm_r (da_255 hw) ?_)
  have hi : vp_in (nI (w / 256 % 16)) 16 := in16 (by omega)
  rcases hs with e | e | e | e | e
  · rw [if_pos e] at hp
    rw [e]; exact br_t rfl (xs_cur hD (And.intro hi (nm_e (xs_adv hp))))
  · rw [if_neg (by omega), if_pos e] at hp
    rw [e]; exact br_f (by decide) (br_t rfl (And.intro hi (nm_e (xs_adv hp))))
  · rw [if_neg (by omega), if_neg (by omega), if_pos e] at hp
    rw [e]; exact br_f (by decide) (br_f (by decide) (br_t rfl (And.intro hi (nm_e (xs_adv hp)))))
  · rw [if_neg (by omega), if_neg (by omega), if_neg (by omega), if_pos e] at hp
    rw [e]; exact br_f (by decide) (br_f (by decide) (br_f (by decide) (br_t rfl (And.intro hi (nm_e (xs_adv hp))))))
  · rw [if_neg (by omega), if_neg (by omega), if_neg (by omega), if_neg (by omega)] at hp
    rw [e]; exact br_f (by decide) (br_f (by decide) (br_f (by decide) (br_f (by decide) (br_t rfl (And.intro hi (nm_e (xs_adv hp)))))))
theorem xg_msr (h1 : 62336 ≤ m) (h2 : m ≤ 62351) (hw : cd ((((pc + 2) &&& 254).toUInt32 >>> ((1 : Int32).toUInt32 &&& Int32.toUInt32 31)).toInt32).toNatClampNeg = nI w) (H : ∀ p, p u → wpX_writeSpecial p (msp, psp, pc, fl, pr, ss, ph, lf, fb, ln, tl, pm, am, th, bs, dp, nw, cd, rm, rg, fr, py, vc, lv, ac, st) (nI (m % 16)) (nI w)) : ∀ p, p u → wpX_specialGroup p (msp, psp, pc, fl, pr, ss, ph, lf, fb, ln, tl, pm, am, th, bs, dp, nw, cd, rm, rg, fr, py, vc, lv, ac, st) (nI m) := by
  intro p hp
  have h0 : m < 65536 := by omega
  obtain ⟨q, hq, e, _⟩ := pc_sp (pc + 2)
  refine And.intro (by rw [e]; exact vp_in_nI hq (by decide)) (nm_r hw (br_t ?_ ?_))
  · rw [dm_fff0 h0]; exact congrArg nI (show m / 16 * 16 = 62336 by omega)
  · rw [da_15 h0]; exact H _ (xt_eta hp)
theorem xg_mrs (h1 : m = 62447) (hw : cd ((((pc + 2) &&& 254).toUInt32 >>> ((1 : Int32).toUInt32 &&& Int32.toUInt32 31)).toInt32).toNatClampNeg = nI w) (H : ∀ p, p u → wpX_readSpecial p (msp, psp, pc, fl, pr, ss, ph, lf, fb, ln, tl, pm, am, th, bs, dp, nw, cd, rm, rg, fr, py, vc, lv, ac, st) (nI w)) : ∀ p, p u → wpX_specialGroup p (msp, psp, pc, fl, pr, ss, ph, lf, fb, ln, tl, pm, am, th, bs, dp, nw, cd, rm, rg, fr, py, vc, lv, ac, st) (nI m) := by
  intro p hp
  have h0 : m < 65536 := by omega
  obtain ⟨q, hq, e, _⟩ := pc_sp (pc + 2)
  refine And.intro (by rw [e]; exact vp_in_nI hq (by decide)) (nm_r hw (br_f ?_ (br_t (by rw [h1]; rfl) (H _ (xt_eta hp)))))
  rw [dm_fff0 h0]
  intro z
  have := (nI_eq (b := 62336) (by omega) (by decide)).mp z
  omega
end
section
variable {m x s w : Nat} {q : Int32 → SY → Prop} {pc fl pr ss dp ph lf ln tl : Int32} {cd rm rg sp wt py vc ac rc : Nat → Int32} {a : Int32}
theorem y9_1 {x2 x3 x4 z0 : Int32} (h : x4 = 8 ∨ x4 = 9 ∨ x4 = 16 ∨ x4 = 20 ∨ (¬ x2 = 0 ∧ x4 = 5)) (H : wY_special_97 q x2 x3 x4 z0 1 pc fl pr ss dp ph lf ln tl cd rm rg sp wt py vc ac rc) : wY_special_52 q x2 x3 x4 z0 pc fl pr ss dp ph lf ln tl cd rm rg sp wt py vc ac rc := by
  refine br_c (fun _ => H) (fun a1 => br_c (fun _ => H) (fun a2 => br_c (fun _ => H) (fun a3 => br_c (fun _ => H) (fun a4 => ?_))))
  have h5 := (((h.resolve_left a1).resolve_left a2).resolve_left a3).resolve_left a4
  exact br_f h5.1 (br_t h5.2 H)
theorem y9_0 {x2 x3 x4 z0 : Int32} (h : ¬ (x4 = 8 ∨ x4 = 9 ∨ x4 = 16 ∨ x4 = 20 ∨ (¬ x2 = 0 ∧ x4 = 5))) (H : q 0 (pc, fl, pr, ss, dp, ph, lf, ln, tl, cd, rm, rg, sp, wt, py, vc, ac, rc)) : wY_special_52 q x2 x3 x4 z0 pc fl pr ss dp ph lf ln tl cd rm rg sp wt py vc ac rc := by
  refine br_f (fun z => h (Or.inl z)) (br_f (fun z => h (Or.inr (Or.inl z))) (br_f (fun z => h (Or.inr (Or.inr (Or.inl z)))) (br_f (fun z => h (Or.inr (Or.inr (Or.inr (Or.inl z))))) (br_c (fun _ => br_t rfl H) (fun n => br_c (fun e => ?_) (fun _ => br_t rfl H))))))
  exact (h (Or.inr (Or.inr (Or.inr (Or.inr ⟨n, e⟩))))).elim
theorem yw_bad (hx : x < 16) (hw : w < 65536) (hb : ¬ sw_ok x (w % 256) (w / 256)) (hq : q 0 (pc, fl, pr, ss, dp, ph, lf, ln, tl, cd, rm, rg, sp, wt, py, vc, ac, rc)) : wY_special_52 q 0 (nI w) (nI (w % 256)) (nI x) pc fl pr ss dp ph lf ln tl cd rm rg sp wt py vc ac rc := by
  by_cases hs : w % 256 = 8 ∨ w % 256 = 9 ∨ w % 256 = 16 ∨ w % 256 = 20
  · refine y9_1 ?_ (br_f (by decide) ?_)
    · rcases hs with e | e | e | e
      · exact Or.inl (by rw [e]; rfl)
      · exact Or.inr (Or.inl (by rw [e]; rfl))
      · exact Or.inr (Or.inr (Or.inl (by rw [e]; rfl)))
      · exact Or.inr (Or.inr (Or.inr (Or.inl (by rw [e]; rfl))))
    · by_cases n : nI x = 13 ∨ nI x = 15
      · exact ys_us0 n (br_t rfl hq)
      · refine ys_us1 (fun z => n (Or.inl z)) (fun z => n (Or.inr z)) (br_f (by decide) (br_t rfl ?_))
        rw [ds_8 hw]
        exact br_f (ne_s (c := 136) (by omega) (by decide) (fun z => hb ⟨hs, n, z⟩)) hq
  · refine y9_0 ?_ hq
    rintro (e | e | e | e | ⟨e, _⟩)
    · exact hs (Or.inl ((nI_eq (b := 8) (by omega) (by decide)).mp e))
    · exact hs (Or.inr (Or.inl ((nI_eq (b := 9) (by omega) (by decide)).mp e)))
    · exact hs (Or.inr (Or.inr (Or.inl ((nI_eq (b := 16) (by omega) (by decide)).mp e))))
    · exact hs (Or.inr (Or.inr (Or.inr ((nI_eq (b := 20) (by omega) (by decide)).mp e))))
    · exact e rfl
theorem yw_hd (hx : x < 16) (hw : w < 65536) (hb : sw_ok x (w % 256) (w / 256)) (ha : rg x = a)
    (H8 : w % 256 = 8 → q 1 ((pc + 2) &&& 254, fl, pr, ss, dp, ph, lf, ln, tl, cd, rm, rg, upd sp 0 (a &&& (-4)), wt, py, vc, ac, rc))
    (H9 : w % 256 = 9 → q 1 ((pc + 2) &&& 254, fl, pr, ss, dp, ph, lf, ln, tl, cd, rm, rg, upd sp 1 (a &&& (-4)), wt, py, vc, ac, rc))
    (H16 : w % 256 = 16 → q 1 ((pc + 2) &&& 254, fl, a &&& 1, ss, dp, ph, lf, ln, tl, cd, rm, rg, sp, wt, py, vc, ac, rc))
    (H20 : w % 256 = 20 → dp = 0 → q 1 ((pc + 2) &&& 254, fl, pr, ((a.toUInt32 >>> ((1 : Int32).toUInt32 &&& Int32.toUInt32 31)).toInt32) &&& 1, dp, ph, lf, ln, tl, cd, rm, rg, sp, wt, py, vc, ac, rc))
    (H21 : w % 256 = 20 → ¬ dp = 0 → q 1 ((pc + 2) &&& 254, fl, pr, ss, dp, ph, lf, ln, tl, cd, rm, rg, sp, wt, py, vc, ac, rc)) : wY_special_52 q 0 (nI w) (nI (w % 256)) (nI x) pc fl pr ss dp ph lf ln tl cd rm rg sp wt py vc ac rc := by
  obtain ⟨hs, n, h⟩ := hb
  have hi : vp_in (nI x) 16 := in16 hx
  have hr : rg (nI x).toNatClampNeg = a := by rw [nI_clamp (by omega), ha]
  refine y9_1 ?_ (br_f (by decide) (ys_us1 (fun z => n (Or.inl z)) (fun z => n (Or.inr z)) (br_f (by decide) (br_t rfl ?_))))
  · rcases hs with e | e | e | e
    · exact Or.inl (by rw [e]; rfl)
    · exact Or.inr (Or.inl (by rw [e]; rfl))
    · exact Or.inr (Or.inr (Or.inl (by rw [e]; rfl)))
    · exact Or.inr (Or.inr (Or.inr (Or.inl (by rw [e]; rfl))))
  · rw [ds_8 hw]
    refine br_t (by rw [h]; rfl) (br_t rfl ?_)
    rw [hr]
    rcases hs with e | e | e | e
    · rw [e]; exact br_t rfl (And.intro hi (nm_e (nm_e (H8 e))))
    · rw [e]; exact br_f (by decide) (br_t rfl (And.intro hi (nm_e (nm_e (H9 e)))))
    · rw [e]; exact br_f (by decide) (br_f (by decide) (br_t rfl (And.intro hi (nm_e (nm_e (H16 e))))))
    · rw [e]; exact br_f (by decide) (br_f (by decide) (br_f (by decide) (br_c (fun d => And.intro hi (nm_r (bo_1 a) (nm_e (H20 e d)))) (fun d => nm_e (H21 e d)))))
theorem yr_bad (hx : x < 16) (hw : w < 65536) (hb : ¬ sr_ok x (w % 256) (w / 4096)) (hq : q 0 (pc, fl, pr, ss, dp, ph, lf, ln, tl, cd, rm, rg, sp, wt, py, vc, ac, rc)) : wY_special_52 q 1 (nI w) (nI (w % 256)) (nI x) pc fl pr ss dp ph lf ln tl cd rm rg sp wt py vc ac rc := by
  by_cases hs : w % 256 = 5 ∨ w % 256 = 8 ∨ w % 256 = 9 ∨ w % 256 = 16 ∨ w % 256 = 20
  · refine y9_1 ?_ (br_f (by decide) ?_)
    · rcases hs with e | e | e | e | e
      · exact Or.inr (Or.inr (Or.inr (Or.inr ⟨by decide, by rw [e]; rfl⟩)))
      · exact Or.inl (by rw [e]; rfl)
      · exact Or.inr (Or.inl (by rw [e]; rfl))
      · exact Or.inr (Or.inr (Or.inl (by rw [e]; rfl)))
      · exact Or.inr (Or.inr (Or.inr (Or.inl (by rw [e]; rfl))))
    · by_cases n : nI x = 13 ∨ nI x = 15
      · exact ys_us0 n (br_t rfl hq)
      · refine ys_us1 (fun z => n (Or.inl z)) (fun z => n (Or.inr z)) (br_f (by decide) (br_f (by decide) ?_))
        rw [ds_12 hw]
        exact br_f (ne_s (c := 8) (by omega) (by decide) (fun z => hb ⟨hs, n, z⟩)) hq
  · refine y9_0 ?_ hq
    rintro (e | e | e | e | ⟨_, e⟩)
    · exact hs (Or.inr (Or.inl ((nI_eq (b := 8) (by omega) (by decide)).mp e)))
    · exact hs (Or.inr (Or.inr (Or.inl ((nI_eq (b := 9) (by omega) (by decide)).mp e))))
    · exact hs (Or.inr (Or.inr (Or.inr (Or.inl ((nI_eq (b := 16) (by omega) (by decide)).mp e)))))
    · exact hs (Or.inr (Or.inr (Or.inr (Or.inr ((nI_eq (b := 20) (by omega) (by decide)).mp e)))))
    · exact hs (Or.inl ((nI_eq (b := 5) (by omega) (by decide)).mp e))
theorem yr_ok {D : Nat} (hD : D ≤ 10) (hx : x < 16) (hw : w < 65536) (hb : sr_ok x (w % 256) (w / 4096)) (hq : q 1 ((pc + 2) &&& 254, fl, pr, ss, nI D, ph, lf, ln, tl, cd, rm, upd rg (nI x).toNatClampNeg (if w % 256 = 5 then cu_ D ac else if w % 256 = 8 then sp 0 else if w % 256 = 9 then sp 1 else if w % 256 = 16 then pr else 2 * ss), sp, wt, py, vc, ac, rc)) : wY_special_52 q 1 (nI w) (nI (w % 256)) (nI x) pc fl pr ss (nI D) ph lf ln tl cd rm rg sp wt py vc ac rc := by
  obtain ⟨hs, n, h⟩ := hb
  have hi : vp_in (nI x) 16 := in16 hx
  refine y9_1 ?_ (br_f (by decide) (ys_us1 (fun z => n (Or.inl z)) (fun z => n (Or.inr z)) (br_f (by decide) (br_f (by decide) ?_))))
  · rcases hs with e | e | e | e | e
    · exact Or.inr (Or.inr (Or.inr (Or.inr ⟨by decide, by rw [e]; rfl⟩)))
    · exact Or.inl (by rw [e]; rfl)
    · exact Or.inr (Or.inl (by rw [e]; rfl))
    · exact Or.inr (Or.inr (Or.inl (by rw [e]; rfl)))
    · exact Or.inr (Or.inr (Or.inr (Or.inl (by rw [e]; rfl))))
  · rw [ds_12 hw]
    refine br_t (by rw [h]; rfl) (br_f (by decide) ?_)
    rcases hs with e | e | e | e | e
    · rw [if_pos e] at hq
      rw [e]; exact br_t rfl (ys_nest0 hD (And.intro hi (nm_e (nm_e hq))))
    · rw [if_neg (by omega), if_pos e] at hq
      rw [e]; exact br_f (by decide) (br_t rfl (And.intro hi (nm_e (nm_e hq))))
    · rw [if_neg (by omega), if_neg (by omega), if_pos e] at hq
      rw [e]; exact br_f (by decide) (br_f (by decide) (br_t rfl (And.intro hi (nm_e (nm_e hq)))))
    · rw [if_neg (by omega), if_neg (by omega), if_neg (by omega), if_pos e] at hq
      rw [e]; exact br_f (by decide) (br_f (by decide) (br_f (by decide) (br_t rfl (And.intro hi (nm_e (nm_e hq))))))
    · rw [if_neg (by omega), if_neg (by omega), if_neg (by omega), if_neg (by omega)] at hq
      rw [e]; exact br_f (by decide) (br_f (by decide) (br_f (by decide) (br_f (by decide) (And.intro hi (nm_e (nm_e hq))))))
theorem yg_hd (h0 : m < 65536) (h1 : 59391 < m) (H : wY_perform_876 q (nI m) pc fl pr ss dp ph lf ln tl cd rm rg sp wt py vc ac rc) : wpY_perform q (pc, fl, pr, ss, dp, ph, lf, ln, tl, cd, rm, rg, sp, wt, py, vc, ac, rc) (nI m) :=
  yd_top h0 (by omega) (by omega) (yd_412 h0 (by omega) (yd_452 h0 (by omega) (yd_501 h0 (by omega) (yd_542 h0 (by omega) (yd_580 h0 (by omega) (yd_618 h0 (by omega) (yd_638 h0 (by omega) (yd_658 h0 (by omega) (by omega) (by omega) (yd_793 h0 (by omega) (yd_837 h0 (by omega) H))))))))))
theorem yg_msr {r : Int32} {u : SY} (hr : narrow .boolean (.int r) = .int r) (h1 : 62336 ≤ m) (h2 : m ≤ 62351) (hw : cd ((pc >>> ((1 : Int32) &&& 31)) &&& 127).toNatClampNeg = nI w) (w0 : w < 65536) (H : ∀ q : Int32 → SY → Prop, q r u → wY_special_52 q 0 (nI w) (nI (w % 256)) (nI (m % 16)) pc fl pr ss dp ph lf ln tl cd rm rg sp wt py vc ac rc) (hq : q r u) : wpY_perform q (pc, fl, pr, ss, dp, ph, lf, ln, tl, cd, rm, rg, sp, wt, py, vc, ac, rc) (nI m) := by
  have h0 : m < 65536 := by omega
  refine yg_hd h0 (by omega) (br_f (nI_nlt (b := 62336) (by omega) (by omega)) (br_t (nI_le (b := 62351) (by omega) (by decide)) ?_))
  unfold wY_perform_894
  refine br_f (fun z => ?_) (And.intro (ia_127 _) (nm_r hw (nm_r (da_255 w0) (br_t rfl ?_))))
  · have := (nI_eq (b := 62447) (by omega) (by decide)).mp z
    omega
  · rw [da_15 h0]
    refine H _ ?_
    obtain ⟨pc', fl', pr', ss', dp', ph', lf', ln', tl', cd', rm', rg', sp', wt', py', vc', ac', rc'⟩ := u
    exact ⟨hr, hq⟩
theorem yg_mrs {r : Int32} {u : SY} (hr : narrow .boolean (.int r) = .int r) (h1 : m = 62447) (hw : cd ((pc >>> ((1 : Int32) &&& 31)) &&& 127).toNatClampNeg = nI w) (w0 : w < 65536) (H : ∀ q : Int32 → SY → Prop, q r u → wY_special_52 q 1 (nI w) (nI (w % 256)) (nI (w / 256 % 16)) pc fl pr ss dp ph lf ln tl cd rm rg sp wt py vc ac rc) (hq : q r u) : wpY_perform q (pc, fl, pr, ss, dp, ph, lf, ln, tl, cd, rm, rg, sp, wt, py, vc, ac, rc) (nI m) := by
  have h0 : m < 65536 := by omega
  refine yg_hd h0 (by omega) (yd_876 h0 (by omega) (br_t (by rw [h1]; rfl) ?_))
  unfold wY_perform_894
  refine br_t (by rw [h1]; rfl) (And.intro (ia_127 _) (nm_r hw (nm_r (da_255 w0) (br_f (by decide) ?_))))
  rw [ds_8 w0, da_15 (by omega)]
  refine H _ ?_
  obtain ⟨pc', fl', pr', ss', dp', ph', lf', ln', tl', cd', rm', rg', sp', wt', py', vc', ac', rc'⟩ := u
  exact ⟨hr, hq⟩
end
section
variable {msp psp ss v : Int32} {rg sp : Nat → Int32}
theorem rl_H0 (h : rl_H msp psp ss rg sp) : rl_H v psp ss rg (upd sp 0 v) := by
  obtain ⟨h1, h2, h3, h4, h5⟩ := h
  exact ⟨h1, h2, pk_us, by rw [pk_un (by decide), h4], h5⟩
theorem rl_H1 (h : rl_H msp psp ss rg sp) : rl_H msp v ss rg (upd sp 1 v) := by
  obtain ⟨h1, h2, h3, h4, h5⟩ := h
  exact ⟨h1, h2, by rw [pk_un (by decide), h3], pk_us, h5⟩
theorem rl_H2 (h : rl_H msp psp ss rg sp) (hv : v = 0 ∨ v = 1) : rl_H msp psp v rg sp := by
  obtain ⟨h1, h2, h3, h4, h5⟩ := h
  exact ⟨h1, h2, h3, h4, hv⟩
end
end
section
/-! execute on both sides -/
section
variable {m : Nat} {msp psp pc fl pr ss ph lf fb ln tl pm am th bs dp nw : Int32} {cd rm rg fr py vc lv ac st sp wt rc : Nat → Int32}
theorem ox_msr (h1 : 62336 ≤ m) (h2 : m ≤ 62351) (hc : cd (((pc.toUInt32 >>> ((1 : Int32).toUInt32 &&& Int32.toUInt32 31)).toInt32) &&& 127).toNatClampNeg = nI m) (g : rl_G ln tl dp nw pr pm am th bs cd py lv ac st wt rc) (hh : rl_H msp psp ss rg sp) : oc_ (fun p => wpX_execute p (msp, psp, pc, fl, pr, ss, 0, 0, fb, ln, tl, pm, am, th, bs, dp, nw, cd, rm, rg, fr, py, vc, lv, ac, st)) (fun p => wpY_execute p (pc, fl, pr, ss, dp, 0, 0, ln, tl, cd, rm, rg, sp, wt, upd py 3 (-1), vc, ac, rc)) := by
  have h0 : m < 65536 := by omega
  obtain ⟨L, T, D, W, e1, e2, e3, e4, g1, g2, A, E, g3, g4⟩ := id g
  obtain ⟨j, hj, eX, eY⟩ := pc_sp (pc + 2)
  obtain ⟨w, w0, ew⟩ := g4 j
  have hX : cd ((((pc + 2) &&& 254).toUInt32 >>> ((1 : Int32).toUInt32 &&& Int32.toUInt32 31)).toInt32).toNatClampNeg = nI w := by rw [eX, nI_clamp (by omega)]; exact ew
  have hY : cd ((((pc + 2) &&& 254) >>> ((1 : Int32) &&& 31)) &&& 127).toNatClampNeg = nI w := by rw [eY, nI_clamp (by omega)]; exact ew
  by_cases hb : sw_ok (m % 16) (w % 256) (w / 256)
  · rcases hb.1 with e | e | e | e
    · exact ⟨_, _, rl_0 g (rl_H0 (v := rg (m % 16) &&& (-4)) hh), xd_15 h0 hc (by omega) (xg_msr h1 h2 hX (fun p hp => xw_hd (by omega) w0 hb rfl (fun _ => hp) (fun z => by omega) (fun z => by omega) (fun z => by omega) (fun z => by omega))), fun p hp => ye_one hc (fun q hq => yg_msr rfl h1 h2 hY w0 (fun q hq => yw_hd (by omega) w0 hb rfl (fun _ => by rw [pc_4]; exact hq) (fun z => by omega) (fun z => by omega) (fun z => by omega) (fun z => by omega)) hq) (ye_0 (by decide) hp)⟩
    · exact ⟨_, _, rl_0 g (rl_H1 (v := rg (m % 16) &&& (-4)) hh), xd_15 h0 hc (by omega) (xg_msr h1 h2 hX (fun p hp => xw_hd (by omega) w0 hb rfl (fun z => by omega) (fun _ => hp) (fun z => by omega) (fun z => by omega) (fun z => by omega))), fun p hp => ye_one hc (fun q hq => yg_msr rfl h1 h2 hY w0 (fun q hq => yw_hd (by omega) w0 hb rfl (fun z => by omega) (fun _ => by rw [pc_4]; exact hq) (fun z => by omega) (fun z => by omega) (fun z => by omega)) hq) (ye_0 (by decide) hp)⟩
    · obtain ⟨L', D', t, b, A', E', g'⟩ := rl_pm (rg (m % 16) &&& 1) g
      exact ⟨_, _, rl_0 g' hh, xd_15 h0 hc (by omega) (xg_msr h1 h2 hX (fun p hp => xw_hd (by omega) w0 hb rfl (fun z => by omega) (fun z => by omega) (fun _ => xs_spm A' E' (xs_adv hp)) (fun z => by omega) (fun z => by omega))), fun p hp => ye_one hc (fun q hq => yg_msr rfl h1 h2 hY w0 (fun q hq => yw_hd (by omega) w0 hb rfl (fun z => by omega) (fun z => by omega) (fun _ => by rw [pc_4]; exact hq) (fun z => by omega) (fun z => by omega)) hq) (ye_0 (by decide) hp)⟩
    · by_cases hd : dp = 0
      · exact ⟨_, _, rl_0 g (rl_H2 hh (bo_01 ((rg (m % 16)).toUInt32 >>> ((1 : Int32).toUInt32 &&& Int32.toUInt32 31)).toInt32)), xd_15 h0 hc (by omega) (xg_msr h1 h2 hX (fun p hp => xw_hd (by omega) w0 hb rfl (fun z => by omega) (fun z => by omega) (fun z => by omega) (fun _ _ => hp) (fun _ z => (z hd).elim))), fun p hp => ye_one hc (fun q hq => yg_msr rfl h1 h2 hY w0 (fun q hq => yw_hd (by omega) w0 hb rfl (fun z => by omega) (fun z => by omega) (fun z => by omega) (fun _ _ => by rw [pc_4]; exact hq) (fun _ z => (z hd).elim)) hq) (ye_0 (by decide) hp)⟩
      · exact ⟨_, _, rl_0 g hh, xd_15 h0 hc (by omega) (xg_msr h1 h2 hX (fun p hp => xw_hd (by omega) w0 hb rfl (fun z => by omega) (fun z => by omega) (fun z => by omega) (fun _ z => (hd z).elim) (fun _ _ => hp))), fun p hp => ye_one hc (fun q hq => yg_msr rfl h1 h2 hY w0 (fun q hq => yw_hd (by omega) w0 hb rfl (fun z => by omega) (fun z => by omega) (fun z => by omega) (fun _ z => (hd z).elim) (fun _ _ => by rw [pc_4]; exact hq)) hq) (ye_0 (by decide) hp)⟩
  · exact un_ex hc g hh (fun u H => xd_15 h0 hc (by omega) (xg_msr h1 h2 hX (xw_bad (by omega) w0 hb H))) (fun q hq => yg_msr rfl h1 h2 hY w0 (fun q hq => yw_bad (by omega) w0 hb hq) hq)
theorem ox_mrs (h1 : m = 62447) (hc : cd (((pc.toUInt32 >>> ((1 : Int32).toUInt32 &&& Int32.toUInt32 31)).toInt32) &&& 127).toNatClampNeg = nI m) (g : rl_G ln tl dp nw pr pm am th bs cd py lv ac st wt rc) (hh : rl_H msp psp ss rg sp) : oc_ (fun p => wpX_execute p (msp, psp, pc, fl, pr, ss, 0, 0, fb, ln, tl, pm, am, th, bs, dp, nw, cd, rm, rg, fr, py, vc, lv, ac, st)) (fun p => wpY_execute p (pc, fl, pr, ss, dp, 0, 0, ln, tl, cd, rm, rg, sp, wt, upd py 3 (-1), vc, ac, rc)) := by
  have h0 : m < 65536 := by omega
  obtain ⟨L, T, D, W, e1, e2, e3, e4, g1, g2, A, E, g3, g4⟩ := id g
  obtain ⟨A1, A2, A3, A4, A5, A6, A7, A8, A9⟩ := id A
  obtain ⟨j, hj, eX, eY⟩ := pc_sp (pc + 2)
  obtain ⟨w, w0, ew⟩ := g4 j
  subst e3
  obtain ⟨_, _, hs0, hs1, _⟩ := id hh
  have hX : cd ((((pc + 2) &&& 254).toUInt32 >>> ((1 : Int32).toUInt32 &&& Int32.toUInt32 31)).toInt32).toNatClampNeg = nI w := by rw [eX, nI_clamp (by omega)]; exact ew
  have hY : cd ((((pc + 2) &&& 254) >>> ((1 : Int32) &&& 31)) &&& 127).toNatClampNeg = nI w := by rw [eY, nI_clamp (by omega)]; exact ew
  by_cases hb : sr_ok (w / 256 % 16) (w % 256) (w / 4096)
  · have n1 : w / 256 % 16 ≠ 13 := fun z => hb.2.1 (Or.inl (congrArg nI z))
    have n2 : w / 256 % 16 ≠ 15 := fun z => hb.2.1 (Or.inr (congrArg nI z))
    exact ⟨_, _, rl_0 g (rl_Hn (d := w / 256 % 16) hh (by omega)), xd_15 h0 hc (by omega) (xg_mrs h1 hX (fun p hp => xr_ok A2 w0 hb hp)), fun p hp => ye_one hc (fun q hq => yg_mrs rfl h1 hY w0 (fun q hq => yr_ok A2 (by omega) w0 hb (by rw [hs0, hs1, pc_4]; exact hq)) hq) (ye_0 (by decide) hp)⟩
  · exact un_ex hc g hh (fun u H => xd_15 h0 hc (by omega) (xg_mrs h1 hX (xr_bad w0 hb H))) (fun q hq => yg_mrs rfl h1 hY w0 (fun q hq => yr_bad (by omega) w0 hb hq) hq)
theorem ox_m (h0 : m < 65536) (hc : cd (((pc.toUInt32 >>> ((1 : Int32).toUInt32 &&& Int32.toUInt32 31)).toInt32) &&& 127).toNatClampNeg = nI m) (g : rl_G ln tl dp nw pr pm am th bs cd py lv ac st wt rc) (hh : rl_H msp psp ss rg sp) : oc_ (fun p => wpX_execute p (msp, psp, pc, fl, pr, ss, 0, 0, fb, ln, tl, pm, am, th, bs, dp, nw, cd, rm, rg, fr, py, vc, lv, ac, st)) (fun p => wpY_execute p (pc, fl, pr, ss, dp, 0, 0, ln, tl, cd, rm, rg, sp, wt, upd py 3 (-1), vc, ac, rc)) := by
  have h : m ≤ 2047 ∨ (6144 ≤ m ∧ m ≤ 6655) ∨ (6656 ≤ m ∧ m ≤ 7167) ∨ (7168 ≤ m ∧ m ≤ 7679) ∨ (7680 ≤ m ∧ m ≤ 8191) ∨ (8192 ≤ m ∧ m ≤ 10239) ∨ (10240 ≤ m ∧ m ≤ 12287) ∨ (12288 ≤ m ∧ m ≤ 14335) ∨ (14336 ≤ m ∧ m ≤ 16383) ∨ (16384 ≤ m ∧ m ≤ 16447) ∨ (16448 ≤ m ∧ m ≤ 16511) ∨ (17024 ≤ m ∧ m ≤ 17087) ∨ (17152 ≤ m ∧ m ≤ 17215) ∨ (17920 ≤ m ∧ m ≤ 18175) ∨ (18176 ≤ m ∧ m ≤ 18303) ∨ (24576 ≤ m ∧ m ≤ 26623) ∨ (26624 ≤ m ∧ m ≤ 28671) ∨ (46081 ≤ m ∧ m ≤ 46591) ∨ (48129 ≤ m ∧ m ≤ 48639) ∨ (m = 46690 ∨ m = 46706) ∨ m = 48896 ∨ (53248 ≤ m ∧ m ≤ 55295) ∨ (57088 ≤ m ∧ m ≤ 57343) ∨ (57344 ≤ m ∧ m ≤ 59391) ∨ (62336 ≤ m ∧ m ≤ 62351) ∨ m = 62447 ∨ yu_m m := by
    unfold yu_m
    omega
  rcases h with h | h | h | h | h | h | h | h | h | h | h | h | h | h | h | h | h | h | h | h | h | h | h | h | h | h | h
  · exact ox_lsl h hc g hh
  · exact ox_addR h.1 h.2 hc g hh
  · exact ox_subR h.1 h.2 hc g hh
  · exact ox_addI h.1 h.2 hc g hh
  · exact ox_subI h.1 h.2 hc g hh
  · exact ox_movi h.1 h.2 hc g hh
  · exact ox_cmpi h.1 h.2 hc g hh
  · exact ox_add8 h.1 h.2 hc g hh
  · exact ox_sub8 h.1 h.2 hc g hh
  · exact ox_and h.1 h.2 hc g hh
  · exact ox_eor h.1 h.2 hc g hh
  · exact ox_cmpr h.1 h.2 hc g hh
  · exact ox_orr h.1 h.2 hc g hh
  · exact ox_mov h.1 h.2 hc g hh
  · exact ox_bx h.1 h.2 hc g hh
  · exact ox_str h.1 h.2 hc g hh
  · exact ox_ldr h.1 h.2 hc g hh
  · exact ox_push h.1 h.2 hc g hh
  · exact ox_pop h.1 h.2 hc g hh
  · exact ox_cps h hc g hh
  · exact ox_nop h hc g hh
  · exact ox_bcc h.1 h.2 hc g hh
  · exact ox_svc h.1 h.2 hc g hh
  · exact ox_b h.1 h.2 hc g hh
  · exact ox_msr h.1 h.2 hc g hh
  · exact ox_mrs h hc g hh
  · exact ox_und h hc g hh
theorem ox_ex (g : rl_G ln tl dp nw pr pm am th bs cd py lv ac st wt rc) (hh : rl_H msp psp ss rg sp) : oc_ (fun p => wpX_execute p (msp, psp, pc, fl, pr, ss, 0, 0, fb, ln, tl, pm, am, th, bs, dp, nw, cd, rm, rg, fr, py, vc, lv, ac, st)) (fun p => wpY_execute p (pc, fl, pr, ss, dp, 0, 0, ln, tl, cd, rm, rg, sp, wt, upd py 3 (-1), vc, ac, rc)) := by
  obtain ⟨L, T, D, W, e1, e2, e3, e4, g1, g2, A, E, g3, g4⟩ := id g
  obtain ⟨m, h0, hc⟩ := g4 (((pc.toUInt32 >>> ((1 : Int32).toUInt32 &&& Int32.toUInt32 31)).toInt32) &&& 127).toNatClampNeg
  exact ox_m h0 hc g hh
end
end
section
/-! entry and return: frames -/
theorem aw_n {a : Nat} (h : a < 4294967296) : aw_ (nI a) = a / 4 % 64 := by
  unfold aw_
  rw [pk_ushrN (by omega) 2 2 (by decide), pk_andN (n := a / 2 ^ 2) (by omega) 6 (by decide), nI_clamp (by omega)]
theorem aw_add (s : Int32) {k : Nat} (hk : k < 1000) : aw_ (s + 4 * nI k) = (aw_ s + k) % 64 := by
  obtain ⟨a, ha, rfl⟩ := dx_ex s
  show aw_ (nI a + nI 4 * nI k) = _
  rw [pk_mul, nI_add, dx_mod (a + 4 * k), aw_n (by omega), aw_n ha]
  omega
/-- Y's stores of n words val at s -/
def es_ (rm : Nat → Int32) (s : Int32) (val : Nat → Int32) : Nat → (Nat → Int32)
  | 0 => rm
  | n + 1 => upd (es_ rm s val n) (aw_ (s + 4 * nI n)) (val n)
theorem es_ov (rm : Nat → Int32) (s : Int32) (val : Nat → Int32) : ∀ n, n ≤ 8 → es_ rm s val n = fun j => if j < 64 ∧ (j + 64 - aw_ s) % 64 < n then val ((j + 64 - aw_ s) % 64) else rm j := by
  intro n
  induction n with
  | zero =>
    intro _
    funext j
    rw [if_neg (by omega)]
    rfl
  | succ n ih =>
    intro hn
    have hq := aw_lt s
    unfold es_
    rw [ih (by omega), aw_add s (by omega)]
    funext j
    by_cases e : j = (aw_ s + n) % 64
    · subst e
      have e2 : ((aw_ s + n) % 64 + 64 - aw_ s) % 64 = n := by omega
      rw [pk_us, if_pos (by omega), e2]
    · rw [pk_un e]
      show (if j < 64 ∧ (j + 64 - aw_ s) % 64 < n then val ((j + 64 - aw_ s) % 64) else rm j) = _
      by_cases c : j < 64 ∧ (j + 64 - aw_ s) % 64 < n
      · rw [if_pos c, if_pos (by omega)]
      · rw [if_neg c, if_neg (by omega)]
def ef_ (fr : Nat → Int32) (val : Nat → Int32) : Nat → Int32 := upd (upd (upd (upd (upd (upd (upd (upd fr 0 (val 0)) 1 (val 1)) 2 (val 2)) 3 (val 3)) 4 (val 4)) 5 (val 5)) 6 (val 6)) 7 (val 7)
theorem ef_at (fr val : Nat → Int32) {k : Nat} (hk : k < 8) : ef_ fr val k = val k := by
  unfold ef_
  rcases (by omega : k = 0 ∨ k = 1 ∨ k = 2 ∨ k = 3 ∨ k = 4 ∨ k = 5 ∨ k = 6 ∨ k = 7) with rfl | rfl | rfl | rfl | rfl | rfl | rfl | rfl <;> simp [upd]
theorem es_all (rm fr : Nat → Int32) (s : Int32) (val : Nat → Int32) : es_ rm s val 8 = ov_ rm (ef_ fr val) (aw_ s) 0 := by
  rw [es_ov rm s val 8 (by decide)]
  funext j
  unfold ov_
  by_cases c : j < 64 ∧ (j + 64 - aw_ s) % 64 < 8
  · rw [if_pos c, if_pos ⟨c.1, c.2, by omega⟩, ef_at fr val c.2]
  · rw [if_neg c, if_neg (fun z => c ⟨z.1, z.2.1⟩)]
theorem ov_8 (rm fr : Nat → Int32) (q : Nat) : ov_ rm fr q 8 = rm := by
  funext j
  unfold ov_
  rw [if_neg (by omega)]
theorem ov_st (rm fr : Nat → Int32) {q k : Nat} (hq : q < 64) (hk : k < 8) : ov_ rm fr q k = ov_ (upd rm ((q + k) % 64) (fr k)) fr q (k + 1) := by
  funext j
  unfold ov_
  by_cases e : j = (q + k) % 64
  · subst e
    have e2 : ((q + k) % 64 + 64 - q) % 64 = k := by omega
    rw [if_pos (by omega), if_neg (by omega), pk_us, e2]
  · rw [pk_un e]
    by_cases c : j < 64 ∧ (j + 64 - q) % 64 < 8 ∧ k ≤ (j + 64 - q) % 64
    · rw [if_pos c, if_pos (by omega)]
    · rw [if_neg c, if_neg (by omega)]
/-- the word k of a new frame -/
def ev_ (rg : Nat → Int32) (pc x : Int32) (k : Nat) : Int32 := if k < 4 then rg k else if k = 4 then rg 12 else if k = 5 then rg 14 else if k = 6 then pc else x
def em_ (D : Nat) (ss : Int32) : Int32 := if 0 < D then -15 else if ss = 1 then -3 else -7
def gz_ (f rg : Nat → Int32) : Nat → Int32 := upd (upd (upd (upd (upd (upd rg 0 (f 0)) 1 (f 1)) 2 (f 2)) 3 (f 3)) 12 (f 4)) 14 (f 5)
section
variable {L D : Nat} {p : SX → Prop} {msp psp pc fl pr ss ph lf fb ln tl pm am th bs dp nw : Int32} {cd rm rg fr py vc lv ac st : Nat → Int32} {wt : Nat → Int32} {t b B : Int32}
theorem xe_26 (hD : D ≤ 10) {x : Int32} (hB : sp_r ss msp psp - 32 = B) (hp : p (if ss = 1 then msp else B, if ss = 1 then B else psp, 0, 0, pr, 0, 1, 8, nI (aw_ B), ln, tl, pm, am, th, bs, nI D, nw, cd, rm, upd (zs_ rg) 14 x, ef_ fr (ev_ rg pc ((fl ||| 16777216) ||| cu_ D ac)), py, vc, lv, ac, st)) : wX_beginEntry_26 p x msp psp pc fl pr ss ph lf fb ln tl pm am th bs (nI D) nw cd rm rg fr py vc lv ac st := by
  subst hB
  unfold wX_beginEntry_26
  refine xs_sp (nm_e (xs_setSp (nm_r (aw_eq _) ⟨5, ?_⟩)))
  refine br_f (by decide) (And.intro (vp_in_iff.mpr (by decide)) (And.intro (vp_in_iff.mpr (by decide)) (nm_e (nm_r (e' := 1) (by decide) ?_))))
  refine br_f (by decide) (And.intro (vp_in_iff.mpr (by decide)) (And.intro (vp_in_iff.mpr (by decide)) (nm_e (nm_r (e' := 2) (by decide) ?_))))
  refine br_f (by decide) (And.intro (vp_in_iff.mpr (by decide)) (And.intro (vp_in_iff.mpr (by decide)) (nm_e (nm_r (e' := 3) (by decide) ?_))))
  refine br_f (by decide) (And.intro (vp_in_iff.mpr (by decide)) (And.intro (vp_in_iff.mpr (by decide)) (nm_e (nm_r (e' := 4) (by decide) ?_))))
  exact br_t (by decide) (nm_e (nm_e (nm_e (xs_cur hD (nm_e (xs_clr (nm_e hp)))))))
theorem xe_be (hD : D ≤ 10) (hB : sp_r ss msp psp - 32 = B) (hp : p (if ss = 1 then msp else B, if ss = 1 then B else psp, 0, 0, pr, 0, 1, 8, nI (aw_ B), ln, tl, pm, am, th, bs, nI D, nw, cd, rm, upd (zs_ rg) 14 (em_ D ss), ef_ fr (ev_ rg pc ((fl ||| 16777216) ||| cu_ D ac)), py, vc, lv, ac, st)) : wpX_beginEntry p (msp, psp, pc, fl, pr, ss, ph, lf, fb, ln, tl, pm, am, th, bs, nI D, nw, cd, rm, rg, fr, py, vc, lv, ac, st) := by
  unfold em_ at hp
  by_cases h : 0 < D
  · rw [if_pos h] at hp
    have hn : ¬ nI D ≤ 0 := nI_nle h (by omega)
    exact br_c (fun _ => br_f hn (xe_26 hD hB hp)) (fun _ => br_f hn (xe_26 hD hB hp))
  · rw [if_neg h] at hp
    have hn : nI D ≤ 0 := by rw [show D = 0 by omega]; exact Int32.le_refl _
    by_cases e : ss = 1
    · rw [if_pos (c := ss = 1) (t := (-3 : Int32)) e] at hp
      exact br_t e (br_t hn (xe_26 hD hB hp))
    · rw [if_neg (c := ss = 1) (t := (-3 : Int32)) e] at hp
      exact br_f e (br_t hn (xe_26 hD hB hp))
theorem xe_fin {S : Int32} (hS : (if rg 14 = -3 then (1 : Int32) else 0) = S) {M : Int32} (hM : sp_r S msp psp + 32 = M) (hp : p (if S = 1 then msp else M, if S = 1 then M else psp, fr 6 &&& 254, fr 7 &&& (-268435456), pr, S, 0, lf, fb, ln, tl, pm, am, th, bs, dp, nw, cd, rm, gz_ fr rg, fr, py, vc, lv, ac, st)) : wpX_finishReturn p (msp, psp, pc, fl, pr, ss, ph, lf, fb, ln, tl, pm, am, th, bs, dp, nw, cd, rm, rg, fr, py, vc, lv, ac, st) := by
  have K : ∀ z, z = S → wX_finishReturn_18 p z msp psp pc fl pr ss ph lf fb ln tl pm am th bs dp nw cd rm rg fr py vc lv ac st := by
    intro z e
    subst e
    unfold wX_finishReturn_18
    refine xs_sp (nm_r hM (xs_setSp ⟨5, ?_⟩))
    refine br_f (by decide) (And.intro (vp_in_iff.mpr (by decide)) (And.intro (vp_in_iff.mpr (by decide)) (nm_e (nm_r (e' := 1) (by decide) ?_))))
    refine br_f (by decide) (And.intro (vp_in_iff.mpr (by decide)) (And.intro (vp_in_iff.mpr (by decide)) (nm_e (nm_r (e' := 2) (by decide) ?_))))
    refine br_f (by decide) (And.intro (vp_in_iff.mpr (by decide)) (And.intro (vp_in_iff.mpr (by decide)) (nm_e (nm_r (e' := 3) (by decide) ?_))))
    refine br_f (by decide) (And.intro (vp_in_iff.mpr (by decide)) (And.intro (vp_in_iff.mpr (by decide)) (nm_e (nm_r (e' := 4) (by decide) ?_))))
    exact br_t (by decide) (nm_e (nm_e (nm_e (nm_e hp))))
  refine br_c (fun e => K 1 ?_) (fun e => K 0 ?_)
  · rw [← hS, if_pos e]
  · rw [← hS, if_neg e]
theorem xe_sh {k W : Nat} (hk : k < 24) (hD : D ≤ 10) (hW : W < 8) (A : ar_A L (D + 1) (pm &&& (((1 : Int32) <<< (nI k &&& 31)) ^^^ (-1))) (am ||| ((1 : Int32) <<< (nI k &&& 31))) py lv (upd ac D (nI k)) wt) (E : ar_EN pr (D + 1) (upd ac D (nI k)) (upd py 3 (-1)) wt t b) (hp : p (msp, psp, 2 * vc k, fl, pr, ss, 0, lf, fb, ln, tl, pm &&& (((1 : Int32) <<< (nI k &&& 31)) ^^^ (-1)), am ||| ((1 : Int32) <<< (nI k &&& 31)), t, b, nI (D + 1), nI ((W + 1) % 8), cd, rm, rg, fr, py, vc, lv, upd ac D (nI k), upd st ((W + 1) % 8) (nI k))) : wpX_startHandler p (msp, psp, pc, fl, pr, ss, ph, lf, fb, ln, tl, pm, am, th, nI k, nI D, nI W, cd, rm, rg, fr, py, vc, lv, ac, st) := by
  refine nm_e (nm_e (And.intro (ia_15 _) (nm_r (e' := upd ac D (nI k)) ?_ (nm_r (nI_1 D) (nm_r (e' := nI ((W + 1) % 8)) ?_ (And.intro (vp_in_nI (by omega) (by decide)) (nm_r (e' := upd st ((W + 1) % 8) (nI k)) ?_ (And.intro (vp_in_nI hk (by decide)) (nm_r (e' := 2 * vc k) ?_ (xw_arb A E hp)))))))))) 
  · rw [da_15 (by omega), nI_clamp (by omega), Nat.mod_eq_of_lt (by omega)]
  · rw [nI_1, da_7 (by omega)]
  · rw [nI_clamp (by omega)]
  · rw [nI_clamp (by omega)]
end
def rs_ (rc : Nat → Int32) (x : Int32) : Nat → Int32 := upd (upd (upd (upd (upd (upd (upd (upd rc 7 (rc 6)) 6 (rc 5)) 5 (rc 4)) 4 (rc 3)) 3 (rc 2)) 2 (rc 1)) 1 (rc 0)) 0 x
theorem rs_0 (rc : Nat → Int32) (x : Int32) : rs_ rc x 0 = x := pk_us
theorem rs_s (rc : Nat → Int32) (x : Int32) {i : Nat} (hi : i < 7) : rs_ rc x (i + 1) = rc i := by
  unfold rs_
  rcases (by omega : i = 0 ∨ i = 1 ∨ i = 2 ∨ i = 3 ∨ i = 4 ∨ i = 5 ∨ i = 6) with rfl | rfl | rfl | rfl | rfl | rfl | rfl <;> simp [upd]
section
variable {D : Nat} {p : SY → Prop} {pc fl pr ss dp ph lf ln tl : Int32} {cd rm rg sp wt py vc ac rc : Nat → Int32} {s : Int32}
theorem ye_69 {x1 x2 : Int32} (hp : p (0, 0, pr, 0, dp, 1, 8, ln, tl, cd, es_ rm s (ev_ rg pc x2) 8, upd (zs_ rg) 14 x1, sp, wt, py, vc, ac, rc)) : ∀ d k n, k + d = 8 → d < n → wY_beginEntry_69 p x1 x2 s n (nI k) pc fl pr ss dp ph lf ln tl cd (es_ rm s (ev_ rg pc x2) k) rg sp wt py vc ac rc := by
  intro d
  induction d with
  | zero =>
    intro k n hk hn
    obtain ⟨n, rfl⟩ : ∃ m, n = m + 1 := ⟨n - 1, by omega⟩
    have e : k = 8 := by omega
    subst e
    exact br_t (Int32.le_refl _) (ys_wipe hp)
  | succ d ih =>
    intro k n hk hn
    obtain ⟨n, rfl⟩ : ∃ m, n = m + 1 := ⟨n - 1, by omega⟩
    have R := ih (k + 1) n (by omega) (by omega)
    unfold es_ at R
    refine br_f (nI_ge (b := 8) (by omega) (by decide)) ?_
    rcases (by omega : k < 4 ∨ k = 4 ∨ k = 5 ∨ k = 6 ∨ k = 7) with h | h | h | h | h
    · rw [show ev_ rg pc x2 k = rg k from if_pos h] at R
      refine br_f (nI_ge (b := 4) (by omega) (by decide)) (And.intro (in16 (by omega)) ?_)
      rw [nI_clamp (by omega)]
      exact ys_st (nm_r (nI_1 k) R)
    · subst h
      exact br_t (by decide) (br_t rfl (ys_st (nm_r (nI_1 4) R)))
    · subst h
      exact br_t (by decide) (br_f (by decide) (br_t rfl (ys_st (nm_r (nI_1 5) R))))
    · subst h
      exact br_t (by decide) (br_f (by decide) (br_f (by decide) (br_t rfl (ys_st (nm_r (nI_1 6) R)))))
    · subst h
      exact br_t (by decide) (br_f (by decide) (br_f (by decide) (br_f (by decide) (ys_st (nm_r (nI_1 7) R)))))
theorem ye_27 (hD : D ≤ 10) (hs : vp_in ss 2) {x B : Int32} (hB : sp ss.toNatClampNeg - 32 = B) (hp : p (0, 0, pr, 0, nI D, 1, 8, ln, tl, cd, es_ rm B (ev_ rg pc ((fl ||| 16777216) ||| cu_ D ac)) 8, upd (zs_ rg) 14 x, upd sp ss.toNatClampNeg B, wt, py, vc, ac, rc)) : wY_beginEntry_27 p x pc fl pr ss (nI D) ph lf ln tl cd rm rg sp wt py vc ac rc := by
  subst hB
  unfold wY_beginEntry_27
  exact ys_nest0 hD (nm_e (And.intro hs (And.intro hs (nm_e (And.intro hs (nm_r pk_us ⟨9, ye_69 hp 8 0 9 rfl (by decide)⟩))))))
theorem ye_be (hD : D ≤ 10) (hs : vp_in ss 2) {B : Int32} (hB : sp ss.toNatClampNeg - 32 = B) (hp : p (0, 0, pr, 0, nI D, 1, 8, ln, tl, cd, es_ rm B (ev_ rg pc ((fl ||| 16777216) ||| cu_ D ac)) 8, upd (zs_ rg) 14 (em_ D ss), upd sp ss.toNatClampNeg B, wt, py, vc, ac, rc)) : wpY_beginEntry p (pc, fl, pr, ss, nI D, ph, lf, ln, tl, cd, rm, rg, sp, wt, py, vc, ac, rc) := by
  unfold em_ at hp
  by_cases h : 0 < D
  · rw [if_pos h] at hp
    exact br_f (nI_nle h (by omega)) (ye_27 hD hs hB hp)
  · rw [if_neg h] at hp
    have hn : nI D ≤ 0 := by rw [show D = 0 by omega]; exact Int32.le_refl _
    by_cases e : ss = 1
    · rw [if_pos e] at hp
      exact br_t hn (br_t e (ye_27 hD hs hB hp))
    · rw [if_neg e] at hp
      exact br_t hn (br_f e (ye_27 hD hs hB hp))
theorem ye_fin {S : Int32} (hS : (if rg 14 = -3 then (1 : Int32) else 0) = S) (hi : vp_in S 2) (hs : sp S.toNatClampNeg = s) {f : Nat → Int32} (hf : ∀ k, k < 8 → rm (aw_ (s + 4 * nI k)) = f k) (hp : p (f 6 &&& 254, f 7 &&& (-268435456), pr, S, dp, 0, lf, ln, tl, cd, rm, gz_ f rg, upd sp S.toNatClampNeg (s + 32), wt, py, vc, ac, rc)) : wpY_finishReturn p (pc, fl, pr, ss, dp, ph, lf, ln, tl, cd, rm, rg, sp, wt, py, vc, ac, rc) := by
  have K : ∀ z, z = S → wY_finishReturn_18 p z pc fl pr ss dp ph lf ln tl cd rm rg sp wt py vc ac rc := by
    intro z e
    subst e
    refine And.intro hi (nm_r hs ⟨5, ?_⟩)
    refine br_f (by decide) (ys_ld (And.intro (vp_in_iff.mpr (by decide)) (nm_r (e' := upd rg 0 (f 0)) (by rw [← hf 0 (by decide)]; rfl) (nm_r (e' := 1) (by decide) ?_))))
    refine br_f (by decide) (ys_ld (And.intro (vp_in_iff.mpr (by decide)) (nm_r (e' := upd (upd rg 0 (f 0)) 1 (f 1)) (by rw [← hf 1 (by decide)]; rfl) (nm_r (e' := 2) (by decide) ?_))))
    refine br_f (by decide) (ys_ld (And.intro (vp_in_iff.mpr (by decide)) (nm_r (e' := upd (upd (upd rg 0 (f 0)) 1 (f 1)) 2 (f 2)) (by rw [← hf 2 (by decide)]; rfl) (nm_r (e' := 3) (by decide) ?_))))
    refine br_f (by decide) (ys_ld (And.intro (vp_in_iff.mpr (by decide)) (nm_r (e' := upd (upd (upd (upd rg 0 (f 0)) 1 (f 1)) 2 (f 2)) 3 (f 3)) (by rw [← hf 3 (by decide)]; rfl) (nm_r (e' := 4) (by decide) ?_))))
    refine br_t (by decide) (ys_ld (nm_r (e' := upd (upd (upd (upd (upd rg 0 (f 0)) 1 (f 1)) 2 (f 2)) 3 (f 3)) 12 (f 4)) (by rw [← hf 4 (by decide)]; rfl) (ys_ld (nm_r (e' := gz_ f rg) (by unfold gz_; rw [← hf 5 (by decide)]; rfl) (ys_ld (nm_r (e' := f 6 &&& 254) (by rw [← hf 6 (by decide)]; rfl) (ys_ld (nm_r (e' := f 7 &&& (-268435456)) (by rw [← hf 7 (by decide)]; rfl) (And.intro hi (nm_e hp))))))))))
  refine br_c (fun e => K 1 ?_) (fun e => K 0 ?_)
  · rw [← hS, if_pos e]
  · rw [← hS, if_neg e]
theorem ye_sh {k : Nat} (hk : k < 24) (hD : D ≤ 10) (hp : p (2 * vc k, fl, pr, ss, nI (D + 1), 0, lf, ln, tl, cd, rm, rg, sp, upd wt k 0, py, vc, upd ac D (nI k), rs_ rc (nI k))) : wpY_startHandler p (pc, fl, pr, ss, nI D, ph, lf, ln, tl, cd, rm, rg, sp, wt, py, vc, ac, rc) (nI k) := by
  refine And.intro (vp_in_nI hk (by decide)) (nm_r (e' := upd wt k 0) (by rw [nI_clamp (by omega)]; rfl) (br_f (nI_ge (b := 16) (by omega) (by decide)) (And.intro (vp_in_nI (by omega) (by decide)) (nm_r (e' := upd ac D (nI k)) (by rw [nI_clamp (by omega)]) (nm_r (nI_1 D) ⟨8, ?_⟩)))))
  refine br_f (by decide) (And.intro (vp_in_iff.mpr (by decide)) (And.intro (vp_in_iff.mpr (by decide)) (nm_r (e' := upd rc 7 (rc 6)) rfl (nm_r (e' := 6) (by decide) ?_))))
  refine br_f (by decide) (And.intro (vp_in_iff.mpr (by decide)) (And.intro (vp_in_iff.mpr (by decide)) (nm_r (e' := upd (upd rc 7 (rc 6)) 6 (rc 5)) rfl (nm_r (e' := 5) (by decide) ?_))))
  refine br_f (by decide) (And.intro (vp_in_iff.mpr (by decide)) (And.intro (vp_in_iff.mpr (by decide)) (nm_r (e' := upd (upd (upd rc 7 (rc 6)) 6 (rc 5)) 5 (rc 4)) rfl (nm_r (e' := 4) (by decide) ?_))))
  refine br_f (by decide) (And.intro (vp_in_iff.mpr (by decide)) (And.intro (vp_in_iff.mpr (by decide)) (nm_r (e' := upd (upd (upd (upd rc 7 (rc 6)) 6 (rc 5)) 5 (rc 4)) 4 (rc 3)) rfl (nm_r (e' := 3) (by decide) ?_))))
  refine br_f (by decide) (And.intro (vp_in_iff.mpr (by decide)) (And.intro (vp_in_iff.mpr (by decide)) (nm_r (e' := upd (upd (upd (upd (upd rc 7 (rc 6)) 6 (rc 5)) 5 (rc 4)) 4 (rc 3)) 3 (rc 2)) rfl (nm_r (e' := 2) (by decide) ?_))))
  refine br_f (by decide) (And.intro (vp_in_iff.mpr (by decide)) (And.intro (vp_in_iff.mpr (by decide)) (nm_r (e' := upd (upd (upd (upd (upd (upd rc 7 (rc 6)) 6 (rc 5)) 5 (rc 4)) 4 (rc 3)) 3 (rc 2)) 2 (rc 1)) rfl (nm_r (e' := 1) (by decide) ?_))))
  refine br_f (by decide) (And.intro (vp_in_iff.mpr (by decide)) (And.intro (vp_in_iff.mpr (by decide)) (nm_r (e' := upd (upd (upd (upd (upd (upd (upd rc 7 (rc 6)) 6 (rc 5)) 5 (rc 4)) 4 (rc 3)) 3 (rc 2)) 2 (rc 1)) 1 (rc 0)) rfl (nm_r (e' := 0) (by decide) ?_))))
  exact br_t (by decide) (nm_e (And.intro (vp_in_nI hk (by decide)) (nm_r (e' := 2 * vc k) (by rw [nI_clamp (by omega)]) hp)))
end
end
section
/-! one tick on both sides -/
section
variable {l q : Nat} {p : SX → Prop} {u : SX} {msp psp pc fl pr ss ph lf fb ln tl pm am th bs dp nw : Int32} {cd rm rg fr py vc lv ac st : Nat → Int32}
theorem xt_ix (h1 : 1 ≤ l) (h8 : l ≤ 8) : (8 - nI l) &&& 7 = nI (8 - l) := by
  show (nI 8 - nI l) &&& 7 = _
  rw [pk_sub (by omega), da_7 (by omega), Nat.mod_eq_of_lt (by omega)]
theorem xt_fx (hq : q < 64) {k : Nat} (hk : k < 8) : (nI q + nI k) &&& 63 = nI ((q + k) % 64) := by
  rw [nI_add, da_63 (by omega)]
theorem xt_sfw (h1 : 1 ≤ l) (h8 : l ≤ 8) (hq : q < 64) (hp : p (msp, psp, pc, fl, pr, ss, ph, nI l, nI q, ln, tl, pm, am, th, bs, dp, nw, cd, upd rm ((q + (8 - l)) % 64) (fr (8 - l)), rg, fr, py, vc, lv, ac, st)) : wpX_storeFrameWord p (msp, psp, pc, fl, pr, ss, ph, nI l, nI q, ln, tl, pm, am, th, bs, dp, nw, cd, rm, rg, fr, py, vc, lv, ac, st) := by
  refine nm_r (xt_ix h1 h8) (And.intro (vp_in_nI (by omega) (by decide)) (And.intro (ia_63 _) (nm_r (e' := upd rm ((q + (8 - l)) % 64) (fr (8 - l))) ?_ hp)))
  rw [xt_fx hq (by omega), nI_clamp (by omega), nI_clamp (by omega)]
theorem xt_c1 (h1 : 2 ≤ l) (h8 : l ≤ 8) (hp : p (msp, psp, pc, fl, pr, ss, ph, nI (l - 1), fb, ln, tl, pm, am, th, bs, dp, nw, cd, rm, rg, fr, py, vc, lv, ac, st)) : wpX_countToHandler p (msp, psp, pc, fl, pr, ss, ph, nI l, fb, ln, tl, pm, am, th, bs, dp, nw, cd, rm, rg, fr, py, vc, lv, ac, st) := by
  obtain ⟨d, rfl⟩ : ∃ d, l = d + 1 := ⟨l - 1, by omega⟩
  exact nm_r (nI_pred d) (br_f (nI_ne0 (by omega) (by omega)) hp)
theorem xt_c0 (H : ∀ p, p u → wpX_startHandler p (msp, psp, pc, fl, pr, ss, ph, 0, fb, ln, tl, pm, am, th, bs, dp, nw, cd, rm, rg, fr, py, vc, lv, ac, st)) (hp : p u) : wpX_countToHandler p (msp, psp, pc, fl, pr, ss, ph, nI 1, fb, ln, tl, pm, am, th, bs, dp, nw, cd, rm, rg, fr, py, vc, lv, ac, st) :=
  nm_r (e' := 0) (by decide) (br_t rfl (H _ (xt_eta hp)))
theorem xt_e1 (h1 : 2 ≤ l) (h8 : l ≤ 8) (hq : q < 64) (hb : bs = 0) (hp : p (msp, psp, pc, fl, pr, ss, ph, nI (l - 1), nI q, ln, tl, pm, am, th, bs, dp, nw, cd, rm, rg, upd fr (8 - l) (rm ((q + (8 - l)) % 64)), py, vc, lv, ac, st)) : wpX_exitTick p (msp, psp, pc, fl, pr, ss, ph, nI l, nI q, ln, tl, pm, am, th, bs, dp, nw, cd, rm, rg, fr, py, vc, lv, ac, st) := by
  refine br_t hb (nm_r (xt_ix (by omega) h8) (And.intro (ia_63 _) (And.intro (vp_in_nI (by omega) (by decide)) (nm_r (e' := upd fr (8 - l) (rm ((q + (8 - l)) % 64))) ?_ (nm_r (e' := nI (l - 1)) ?_ (br_f (nI_ne0 (by omega) (by omega)) hp))))))
  · rw [xt_fx hq (by omega), nI_clamp (by omega), nI_clamp (by omega)]
  · obtain ⟨d, rfl⟩ : ∃ d, l = d + 1 := ⟨l - 1, by omega⟩
    exact nI_pred d
theorem xt_e0 (hq : q < 64) (hb : bs = 0) (hp : p u) (H : ∀ p, p u → wpX_finishReturn p (msp, psp, pc, fl, pr, ss, ph, 0, nI q, ln, tl, pm, am, th, bs, dp, nw, cd, rm, rg, upd fr 7 (rm ((q + 7) % 64)), py, vc, lv, ac, st)) : wpX_exitTick p (msp, psp, pc, fl, pr, ss, ph, nI 1, nI q, ln, tl, pm, am, th, bs, dp, nw, cd, rm, rg, fr, py, vc, lv, ac, st) := by
  refine br_t hb (nm_r (xt_ix (by decide) (by decide)) (And.intro (ia_63 _) (And.intro (vp_in_nI (by decide) (by decide)) (nm_r (e' := upd fr 7 (rm ((q + 7) % 64))) ?_ (nm_r (e' := 0) (by decide) (br_t rfl (H _ (xt_eta hp))))))))
  rw [xt_fx hq (by omega), nI_clamp (by omega), nI_clamp (by omega)]
end
section
variable {l : Nat} {p : SY → Prop} {u : SY} {pc fl pr ss dp ph lf ln tl : Int32} {cd rm rg sp wt py vc ac rc : Nat → Int32} {x : Int32}
theorem yt_c1 (h1 : 2 ≤ l) (h8 : l ≤ 8) (a0 : ¬ ph = 0) (a3 : ¬ ph = 3) (a4 : ¬ ph = 4) (hp : p (pc, fl, pr, ss, dp, ph, nI (l - 1), ln, tl, cd, rm, rg, sp, wt, py, vc, ac, rc)) : wY_oneTick_23 p x pc fl pr ss dp ph (nI l) ln tl cd rm rg sp wt py vc ac rc := by
  obtain ⟨d, rfl⟩ : ∃ d, l = d + 1 := ⟨l - 1, by omega⟩
  have n0 : ¬ nI d = 0 := nI_ne0 (by omega) (by omega)
  exact br_f a0 (br_f a3 (br_f a4 (nm_r (nI_pred d) (br_f n0 (br_f n0 hp)))))
theorem yt_c0 (a0 : ¬ ph = 0) (a3 : ¬ ph = 3) (a4 : ¬ ph = 4) (H : ∀ p : SY → Prop, p u → wpY_startHandler p (pc, fl, pr, ss, dp, ph, 0, ln, tl, cd, rm, rg, sp, wt, py, vc, ac, rc) x) (hp : p u) : wY_oneTick_23 p x pc fl pr ss dp ph (nI 1) ln tl cd rm rg sp wt py vc ac rc :=
  br_f a0 (br_f a3 (br_f a4 (nm_r (e' := 0) (by decide) (br_t rfl (br_f a3 (br_t rfl (H _ (yt_eta hp))))))))
theorem yt_e1 (h1 : 2 ≤ l) (h8 : l ≤ 8) (hx : x = 0) (hp : p (pc, fl, pr, ss, dp, 3, nI (l - 1), ln, tl, cd, rm, rg, sp, wt, py, vc, ac, rc)) : wY_oneTick_23 p x pc fl pr ss dp 3 (nI l) ln tl cd rm rg sp wt py vc ac rc := by
  obtain ⟨d, rfl⟩ : ∃ d, l = d + 1 := ⟨l - 1, by omega⟩
  have n0 : ¬ nI d = 0 := nI_ne0 (by omega) (by omega)
  exact br_f (by decide) (br_t rfl (br_t hx (br_f (by decide) (nm_r (nI_pred d) (br_f n0 (br_f n0 hp))))))
theorem yt_e0 (hx : x = 0) (H : ∀ p : SY → Prop, p u → wpY_finishReturn p (pc, fl, pr, ss, dp, 3, 0, ln, tl, cd, rm, rg, sp, wt, py, vc, ac, rc)) (hp : p u) : wY_oneTick_23 p x pc fl pr ss dp 3 (nI 1) ln tl cd rm rg sp wt py vc ac rc :=
  br_f (by decide) (br_t rfl (br_t hx (br_f (by decide) (nm_r (e' := 0) (by decide) (br_t rfl (br_t rfl (H _ (yt_eta hp))))))))
end
section
variable {msp psp pc fl pr ss ph lf fb ln tl pm am th bs dp nw : Int32} {cd rm rg fr py vc lv ac st sp wt rc : Nat → Int32}
/-- a handler starts -/
theorem sh_oc (g : rl_G ln tl dp nw pr pm am th bs cd py lv ac st wt rc) (hh : rl_H msp psp ss rg sp) (hb : ¬ bs = 0) : ∃ u v, rl_R u v ∧ (∀ p, p u → wpX_startHandler p (msp, psp, pc, fl, pr, ss, ph, 0, fb, ln, tl, pm, am, th, bs, dp, nw, cd, rm, rg, fr, py, vc, lv, ac, st)) ∧ (∀ p : SY → Prop, p v → wpY_startHandler p (pc, fl, pr, ss, dp, ph, 0, ln, tl, cd, rm, rg, sp, wt, upd py 3 (-1), vc, ac, rc) bs) := by
  obtain ⟨L, T, D, W, e1, e2, e3, e4, g1, g2, A, E, g3, g4⟩ := g
  obtain ⟨k, hk, ek, kv, kn⟩ := ar_ch A E hb
  have A2 := A.2.1
  have A' := ar_start A kv kn
  obtain ⟨t, b, E'⟩ := ar_ex pr (D + 1) (upd ac D (nI k)) (upd py 3 (-1)) (upd wt k 0)
  subst e3
  subst e4
  subst ek
  have g' : rl_G ln tl (nI (D + 1)) (nI ((W + 1) % 8)) pr (pm &&& (((1 : Int32) <<< (nI k &&& 31)) ^^^ (-1))) (am ||| ((1 : Int32) <<< (nI k &&& 31))) t b cd py lv (upd ac D (nI k)) (upd st ((W + 1) % 8) (nI k)) (upd wt k 0) (rs_ rc (nI k)) := by
    refine ⟨L, T, D + 1, (W + 1) % 8, e1, e2, rfl, rfl, g1, by omega, A', E', ?_, g4⟩
    intro i hi
    rcases Nat.eq_zero_or_pos i with z | z
    · subst z
      rw [show ((W + 1) % 8 + 8 - 0) % 8 = (W + 1) % 8 by omega, pk_us, rs_0]
    · obtain ⟨i, rfl⟩ : ∃ d, i = d + 1 := ⟨i - 1, by omega⟩
      rw [rs_s rc _ (by omega), ← g3 i (by omega), show ((W + 1) % 8 + 8 - (i + 1)) % 8 = (W + 8 - i) % 8 by omega, pk_un (by omega)]
  exact ⟨_, _, rl_0 g' hh, fun p hp => xe_sh hk A2 g2 A' E' hp, fun p hp => ye_sh hk A2 hp⟩
theorem gz_H {f : Nat → Int32} (h : rl_H msp psp ss rg sp) : rl_H msp psp ss (gz_ f rg) sp :=
  rl_Hr (rl_Hr (rl_Hr (rl_Hr (rl_Hr (rl_Hr h (by decide)) (by decide)) (by decide)) (by decide)) (by decide)) (Or.inr rfl)
/-- a return ends -/
theorem fi_oc {q : Nat} (g : rl_G ln tl dp nw pr pm am th bs cd py lv ac st wt rc) (hh : rl_H msp psp ss rg sp) (hq : q < 64) (haw : aw_ (if rg 14 = -3 then psp else msp) = q) (hfr : ∀ k, k < 8 → fr k = rm ((q + k) % 64)) : ∃ u v, rl_R u v ∧ (∀ p, p u → wpX_finishReturn p (msp, psp, pc, fl, pr, ss, ph, 0, fb, ln, tl, pm, am, th, bs, dp, nw, cd, rm, rg, fr, py, vc, lv, ac, st)) ∧ (∀ p : SY → Prop, p v → wpY_finishReturn p (pc, fl, pr, ss, dp, ph, 0, ln, tl, cd, rm, rg, sp, wt, upd py 3 (-1), vc, ac, rc)) := by
  have hf : ∀ k, k < 8 → rm (aw_ ((if rg 14 = -3 then psp else msp) + 4 * nI k)) = fr k := by
    intro k hk
    rw [aw_add _ (by omega), haw, hfr k hk]
  obtain ⟨_, _, hs0, hs1, _⟩ := id hh
  by_cases e : rg 14 = -3
  · rw [if_pos e] at hf
    exact ⟨_, _, rl_0 g (gz_H (f := fr) (rl_Hs (a := psp + 32) (rl_H2 (v := 1) hh (Or.inr rfl)))), fun p hp => xe_fin (if_pos e) rfl hp, fun p hp => ye_fin (if_pos e) (vp_in_iff.mpr (by decide)) hs1 hf hp⟩
  · rw [if_neg e] at hf
    exact ⟨_, _, rl_0 g (gz_H (f := fr) (rl_Hs (a := msp + 32) (rl_H2 (v := 0) hh (Or.inl rfl)))), fun p hp => xe_fin (if_neg e) rfl hp, fun p hp => ye_fin (if_neg e) (vp_in_iff.mpr (by decide)) hs0 hf hp⟩
theorem rl_nx {D : Nat} {post : Int32 → Prop} {rY : Nat → Int32} (g : rl_G ln tl dp nw pr pm am th bs cd py lv ac st wt rc) (hp : post bs) : wpY_next post (pc, fl, pr, ss, dp, ph, lf, ln, tl, cd, rY, rg, sp, wt, upd py 3 (-1), vc, ac, rc) := by
  obtain ⟨L, T, D, W, e1, e2, e3, e4, g1, g2, A, E, g3, g4⟩ := g
  obtain ⟨A1, A2, A3, A4, A5, A6, A7, A8, A9⟩ := id A
  subst e3
  exact yw_nx A2 (fun j hj => by
    obtain ⟨k, hk, e⟩ := A3 j hj
    exact ⟨k, (ar_v24 A1.2 hk).2, e⟩) E hp
end
end
section
/-! oneTick by phase, tick -/
section
variable {msp psp pc fl pr ss ph lf fb ln tl pm am th bs dp nw : Int32} {cd rm rg fr py vc lv ac st sp wt rc : Nat → Int32}
theorem tk_0 (g : rl_G ln tl dp nw pr pm am th bs cd py lv ac st wt rc) (hh : rl_H msp psp ss rg sp) : oc_ (fun p => wpX_oneTick p (msp, psp, pc, fl, pr, ss, 0, 0, fb, ln, tl, pm, am, th, bs, dp, nw, cd, rm, rg, fr, py, vc, lv, ac, st)) (fun p => wpY_oneTick p (pc, fl, pr, ss, dp, 0, 0, ln, tl, cd, rm, rg, sp, wt, upd py 3 (-1), vc, ac, rc)) := by
  by_cases hb : bs = 0
  · obtain ⟨u, v, R, hX, hY⟩ := ox_ex (fl := fl) (fb := fb) (rm := rm) (fr := fr) (vc := vc) (pc := pc) g hh
    refine ⟨u, v, R, fun p hp => br_f (by decide) (br_f (by decide) (br_t rfl (br_t hb (hX _ (xt_eta hp))))), fun p hp => ?_⟩
    unfold wpY_oneTick
    exact rl_nx (D := 0) g (br_t rfl (br_t hb (br_t rfl (hY _ (yt_eta hp)))))
  · obtain ⟨L, T, D, W, e1, e2, e3, e4, g1, g2, A, E, g3, g4⟩ := id g
    have A2 := A.2.1
    subst e3
    have F : rl_F 1 8 (nI (aw_ (sp_r ss msp psp - 32))) bs (if ss = 1 then msp else sp_r ss msp psp - 32) (if ss = 1 then sp_r ss msp psp - 32 else psp) (upd (zs_ rg) 14 (em_ D ss)) (ef_ fr (ev_ rg pc ((fl ||| 16777216) ||| cu_ D ac))) rm (es_ rm (sp_r ss msp psp - 32) (ev_ rg pc ((fl ||| 16777216) ||| cu_ D ac)) 8) :=
      Or.inr (Or.inl ⟨rfl, hb, 8, aw_ (sp_r ss msp psp - 32), by decide, by decide, aw_lt _, rfl, rfl, es_all rm fr _ _⟩)
    have H : rl_H (if ss = 1 then msp else sp_r ss msp psp - 32) (if ss = 1 then sp_r ss msp psp - 32 else psp) 0 (upd (zs_ rg) 14 (em_ D ss)) (upd sp ss.toNatClampNeg (sp_r ss msp psp - 32)) := rl_H2 (rl_Hr (rl_Hz (rl_Hs (a := sp_r ss msp psp - 32) hh)) (Or.inr rfl)) (Or.inl rfl)
    have YB : ∀ p : SY → Prop, p (0, 0, pr, 0, nI D, 1, 8, ln, tl, cd, es_ rm (sp_r ss msp psp - 32) (ev_ rg pc ((fl ||| 16777216) ||| cu_ D ac)) 8, upd (zs_ rg) 14 (em_ D ss), upd sp ss.toNatClampNeg (sp_r ss msp psp - 32), wt, upd py 3 (-1), vc, ac, rc) → wpY_oneTick p (pc, fl, pr, ss, nI D, 0, 0, ln, tl, cd, rm, rg, sp, wt, upd py 3 (-1), vc, ac, rc) := by
      intro p hp
      unfold wpY_oneTick
      exact rl_nx (D := 0) g (br_t rfl (br_f hb (ye_be A2 (rl_Hi hh) (by rw [rl_Hp hh]) hp)))
    exact ⟨_, _, rl_in g H F, fun p hp => br_f (by decide) (br_f (by decide) (br_t rfl (br_f hb (xe_be A2 rfl hp)))), YB⟩
theorem tk_1 {l q : Nat} (h1 : 1 ≤ l) (h8 : l ≤ 8) (hq : q < 64) (hb : ¬ bs = 0) (g : rl_G ln tl dp nw pr pm am th bs cd py lv ac st wt rc) (hh : rl_H msp psp ss rg sp) : oc_ (fun p => wpX_oneTick p (msp, psp, pc, fl, pr, ss, 1, nI l, nI q, ln, tl, pm, am, th, bs, dp, nw, cd, rm, rg, fr, py, vc, lv, ac, st)) (fun p => wpY_oneTick p (pc, fl, pr, ss, dp, 1, nI l, ln, tl, cd, ov_ rm fr q (8 - l), rg, sp, wt, upd py 3 (-1), vc, ac, rc)) := by
  have e : ov_ rm fr q (8 - l) = ov_ (upd rm ((q + (8 - l)) % 64) (fr (8 - l))) fr q (8 - l + 1) := ov_st rm fr hq (by omega)
  rw [e]
  by_cases h2 : l = 1
  · subst h2
    obtain ⟨u, v, R, hX, hY⟩ := sh_oc (ph := 1) (fl := fl) (fb := nI q) (rm := upd rm ((q + 7) % 64) (fr 7)) (fr := fr) (vc := vc) (pc := pc) g hh hb
    refine ⟨u, v, R, fun p hp => br_f (by decide) (br_f (by decide) (br_f (by decide) (br_t rfl (xt_sfw h1 h8 hq (xt_c0 hX (xt_eta hp)))))), fun p hp => ?_⟩
    rw [show ov_ (upd rm ((q + (8 - 1)) % 64) (fr (8 - 1))) fr q (8 - 1 + 1) = upd rm ((q + 7) % 64) (fr 7) from ov_8 _ _ _]
    unfold wpY_oneTick
    exact rl_nx (D := 0) g (br_f (by decide) (yt_c0 (by decide) (by decide) (by decide) hY hp))
  · have F : rl_F 1 (nI (l - 1)) (nI q) bs msp psp rg fr (upd rm ((q + (8 - l)) % 64) (fr (8 - l))) (ov_ (upd rm ((q + (8 - l)) % 64) (fr (8 - l))) fr q (8 - l + 1)) :=
      Or.inr (Or.inl ⟨rfl, hb, l - 1, q, by omega, by omega, hq, rfl, rfl, by rw [show 8 - (l - 1) = 8 - l + 1 by omega]⟩)
    refine ⟨_, _, rl_in g hh F, fun p hp => br_f (by decide) (br_f (by decide) (br_f (by decide) (br_t rfl (xt_sfw h1 h8 hq (xt_c1 (by omega) h8 hp))))), fun p hp => ?_⟩
    unfold wpY_oneTick
    exact rl_nx (D := 0) g (br_f (by decide) (yt_c1 (by omega) h8 (by decide) (by decide) (by decide) hp))
theorem tk_2 {l : Nat} (h1 : 1 ≤ l) (h8 : l ≤ 8) (hb : ¬ bs = 0) (g : rl_G ln tl dp nw pr pm am th bs cd py lv ac st wt rc) (hh : rl_H msp psp ss rg sp) : oc_ (fun p => wpX_oneTick p (msp, psp, pc, fl, pr, ss, 2, nI l, fb, ln, tl, pm, am, th, bs, dp, nw, cd, rm, rg, fr, py, vc, lv, ac, st)) (fun p => wpY_oneTick p (pc, fl, pr, ss, dp, 2, nI l, ln, tl, cd, rm, rg, sp, wt, upd py 3 (-1), vc, ac, rc)) := by
  by_cases h2 : l = 1
  · subst h2
    obtain ⟨u, v, R, hX, hY⟩ := sh_oc (ph := 2) (fl := fl) (fb := fb) (rm := rm) (fr := fr) (vc := vc) (pc := pc) g hh hb
    refine ⟨u, v, R, fun p hp => br_f (by decide) (br_f (by decide) (br_f (by decide) (br_f (by decide) (br_t rfl (xt_c0 hX (xt_eta hp)))))), fun p hp => ?_⟩
    unfold wpY_oneTick
    exact rl_nx (D := 0) g (br_f (by decide) (yt_c0 (by decide) (by decide) (by decide) hY hp))
  · have F : rl_F 2 (nI (l - 1)) fb bs msp psp rg fr rm rm := Or.inr (Or.inr (Or.inl ⟨rfl, hb, ⟨l - 1, by omega, by omega, rfl⟩, rfl⟩))
    refine ⟨_, _, rl_in g hh F, fun p hp => br_f (by decide) (br_f (by decide) (br_f (by decide) (br_f (by decide) (br_t rfl (xt_c1 (by omega) h8 hp))))), fun p hp => ?_⟩
    unfold wpY_oneTick
    exact rl_nx (D := 0) g (br_f (by decide) (yt_c1 (by omega) h8 (by decide) (by decide) (by decide) hp))
theorem tk_3 {l q : Nat} (h1 : 1 ≤ l) (h8 : l ≤ 8) (hq : q < 64) (haw : aw_ (if rg 14 = -3 then psp else msp) = q) (hfr : ∀ k, k < 8 - l → fr k = rm ((q + k) % 64)) (g : rl_G ln tl dp nw pr pm am th bs cd py lv ac st wt rc) (hh : rl_H msp psp ss rg sp) : oc_ (fun p => wpX_oneTick p (msp, psp, pc, fl, pr, ss, 3, nI l, nI q, ln, tl, pm, am, th, bs, dp, nw, cd, rm, rg, fr, py, vc, lv, ac, st)) (fun p => wpY_oneTick p (pc, fl, pr, ss, dp, 3, nI l, ln, tl, cd, rm, rg, sp, wt, upd py 3 (-1), vc, ac, rc)) := by
  by_cases hb : bs = 0
  · have hfr' : ∀ k, k < 8 - (l - 1) → upd fr (8 - l) (rm ((q + (8 - l)) % 64)) k = rm ((q + k) % 64) := by
      intro k hk
      by_cases e : k = 8 - l
      · rw [e, pk_us]
      · rw [pk_un e]
        exact hfr k (by omega)
    by_cases h2 : l = 1
    · subst h2
      obtain ⟨u, v, R, hX, hY⟩ := fi_oc (ph := 3) (fl := fl) (fb := nI q) (rm := rm) (fr := upd fr 7 (rm ((q + 7) % 64))) (vc := vc) (pc := pc) g hh hq haw hfr'
      refine ⟨u, v, R, fun p hp => br_f (by decide) (br_f (by decide) (br_f (by decide) (br_f (by decide) (br_f (by decide) (br_t rfl (xt_e0 hq hb (xt_eta hp) hX)))))), fun p hp => ?_⟩
      unfold wpY_oneTick
      exact rl_nx (D := 0) g (br_f (by decide) (yt_e0 hb hY hp))
    · have F : rl_F 3 (nI (l - 1)) (nI q) bs msp psp rg (upd fr (8 - l) (rm ((q + (8 - l)) % 64))) rm rm := Or.inr (Or.inr (Or.inr (Or.inl ⟨rfl, rfl, l - 1, q, by omega, by omega, hq, rfl, rfl, haw, hfr'⟩)))
      refine ⟨_, _, rl_in g hh F, fun p hp => br_f (by decide) (br_f (by decide) (br_f (by decide) (br_f (by decide) (br_f (by decide) (br_t rfl (xt_e1 (by omega) h8 hq hb hp)))))), fun p hp => ?_⟩
      unfold wpY_oneTick
      exact rl_nx (D := 0) g (br_f (by decide) (yt_e1 (by omega) h8 hb hp))
  · obtain ⟨L, T, D, W, e1, e2, e3, e4, g1, g2, A, E, g3, g4⟩ := id g
    have F : rl_F 2 tl (nI q) bs msp psp rg fr rm rm := Or.inr (Or.inr (Or.inl ⟨rfl, hb, ⟨T, g1.1, g1.2, e2⟩, rfl⟩))
    refine ⟨_, _, rl_in g hh F, fun p hp => br_f (by decide) (br_f (by decide) (br_f (by decide) (br_f (by decide) (br_f (by decide) (br_t rfl (br_f hb hp)))))), fun p hp => ?_⟩
    unfold wpY_oneTick
    exact rl_nx (D := 0) g (br_f (by decide) (br_f (by decide) (br_t rfl (br_f hb hp))))
theorem tk_4 (g : rl_G ln tl dp nw pr pm am th bs cd py lv ac st wt rc) (hh : rl_H msp psp ss rg sp) : oc_ (fun p => wpX_oneTick p (msp, psp, pc, fl, pr, ss, 4, 0, fb, ln, tl, pm, am, th, bs, dp, nw, cd, rm, rg, fr, py, vc, lv, ac, st)) (fun p => wpY_oneTick p (pc, fl, pr, ss, dp, 4, 0, ln, tl, cd, rm, rg, sp, wt, upd py 3 (-1), vc, ac, rc)) := by
  refine ⟨_, _, rl_4 (fb := fb) (rm := rm) (fr := fr) (vc := vc) (pc := pc) (fl := fl) g hh, fun p hp => br_f (by decide) (br_t (by decide) hp), fun p hp => ?_⟩
  unfold wpY_oneTick
  exact rl_nx (D := 0) g (br_f (by decide) (br_f (by decide) (br_f (by decide) (br_t rfl hp))))
end
theorem tk_oc {u : SX} {v : SY} (R : rl_R u v) : oc_ (fun p => wpX_oneTick p u) (fun p => wpY_oneTick p v) := by
  refine rl_el (P := fun u v => oc_ (fun p => wpX_oneTick p u) (fun p => wpY_oneTick p v)) ?_ R
  intro msp psp pc fl pr ss ph lf fb ln tl pm am th bs dp nw cd rm rg fr py vc lv ac st sp wt rc rY g hh f
  rcases f with ⟨e1, e2, e3⟩ | ⟨e1, hb, l, q, h1, h8, hq, e2, e3, e4⟩ | ⟨e1, hb, ⟨l, h1, h8, e2⟩, e3⟩ | ⟨e1, e3, l, q, h1, h8, hq, e2, e4, haw, hfr⟩ | ⟨e1, e2, e3⟩
  · subst e1 e2 e3
    exact tk_0 g hh
  · subst e1 e2 e3 e4
    exact tk_1 h1 h8 hq hb g hh
  · subst e1 e2 e3
    exact tk_2 h1 h8 hb g hh
  · subst e1 e2 e3 e4
    exact tk_3 h1 h8 hq haw hfr g hh
  · subst e1 e2 e3
    exact tk_4 g hh
/-- the ticks of a call -/
def wx_ (post : Int32 → SX → Prop) (x1 : Int32) (n : Nat) (x2 : Int32) (u : SX) : Prop := match u with | (msp, psp, pc, fl, pr, ss, ph, lf, fb, ln, tl, pm, am, th, bs, dp, nw, cd, rm, rg, fr, py, vc, lv, ac, st) => wX_tick_2 post x1 n x2 msp psp pc fl pr ss ph lf fb ln tl pm am th bs dp nw cd rm rg fr py vc lv ac st
def wy_ (post : Int32 → SY → Prop) (x1 : Int32) (n : Nat) (x2 : Int32) (u : SY) : Prop := match u with | (pc, fl, pr, ss, dp, ph, lf, ln, tl, cd, rm, rg, sp, wt, py, vc, ac, rc) => wY_tick_2 post x1 n x2 pc fl pr ss dp ph lf ln tl cd rm rg sp wt py vc ac rc
def phX_ (u : SX) : Int32 := match u with | (msp, psp, pc, fl, pr, ss, ph, lf, fb, ln, tl, pm, am, th, bs, dp, nw, cd, rm, rg, fr, py, vc, lv, ac, st) => ph
theorem tk_end {u : SX} {v : SY} (R : rl_R u v) (x1 x2 : Int32) (h : 64 ≤ x2 ∨ x1 ≤ x2) (n : Nat) : (∀ post : Int32 → SX → Prop, post (phX_ u) u → wx_ post x1 (n + 1) x2 u) ∧ (∀ post : Int32 → SY → Prop, post (phX_ u) v → wy_ post x1 (n + 1) x2 v) := by
  refine rl_el (P := fun u v => (∀ post : Int32 → SX → Prop, post (phX_ u) u → wx_ post x1 (n + 1) x2 u) ∧ (∀ post : Int32 → SY → Prop, post (phX_ u) v → wy_ post x1 (n + 1) x2 v)) ?_ R
  intro msp psp pc fl pr ss ph lf fb ln tl pm am th bs dp nw cd rm rg fr py vc lv ac st sp wt rc rY g hh f
  constructor
  · intro post hp
    exact br_c (fun _ => hp) (fun z => br_t (h.resolve_left z) hp)
  · intro post hp
    refine br_c (fun _ => hp) (fun z => br_t ?_ hp)
    exact h.resolve_right z
theorem tk_stX {u u' : SX} {x1 x2 : Int32} {n : Nat} {post : Int32 → SX → Prop} (h1 : ¬ 64 ≤ x2) (h2 : ¬ x1 ≤ x2) (hX : ∀ p, p u' → wpX_oneTick p u) (H : wx_ post x1 n (x2 + 1) u') : wx_ post x1 (n + 1) x2 u := by
  obtain ⟨msp, psp, pc, fl, pr, ss, ph, lf, fb, ln, tl, pm, am, th, bs, dp, nw, cd, rm, rg, fr, py, vc, lv, ac, st⟩ := u
  obtain ⟨msp', psp', pc', fl', pr', ss', ph', lf', fb', ln', tl', pm', am', th', bs', dp', nw', cd', rm', rg', fr', py', vc', lv', ac', st'⟩ := u'
  exact br_f h1 (br_f h2 (hX _ (nm_e H)))
theorem tk_stY {u u' : SY} {x1 x2 : Int32} {n : Nat} {post : Int32 → SY → Prop} (h1 : ¬ 64 ≤ x2) (h2 : ¬ x1 ≤ x2) (hX : ∀ p : SY → Prop, p u' → wpY_oneTick p u) (H : wy_ post x1 n (x2 + 1) u') : wy_ post x1 (n + 1) x2 u := by
  obtain ⟨pc, fl, pr, ss, dp, ph, lf, ln, tl, cd, rm, rg, sp, wt, py, vc, ac, rc⟩ := u
  obtain ⟨pc', fl', pr', ss', dp', ph', lf', ln', tl', cd', rm', rg', sp', wt', py', vc', ac', rc'⟩ := u'
  exact br_f h2 (br_f h1 (hX _ (nm_e H)))
theorem tk_l (x1 : Int32) : ∀ d k, k + d = 64 → ∀ {u : SX} {v : SY}, rl_R u v → ∃ r u' v', rl_R u' v' ∧ (∀ post : Int32 → SX → Prop, post r u' → wx_ post x1 (d + 1) (nI k) u) ∧ (∀ post : Int32 → SY → Prop, post r v' → wy_ post x1 (d + 1) (nI k) v) := by
  intro d
  induction d with
  | zero =>
    intro k hk u v R
    have e : k = 64 := by omega
    subst e
    obtain ⟨a, b⟩ := tk_end R x1 (nI 64) (Or.inl (Int32.le_refl _)) 0
    exact ⟨_, _, _, R, a, b⟩
  | succ d ih =>
    intro k hk u v R
    by_cases h : x1 ≤ nI k
    · obtain ⟨a, b⟩ := tk_end R x1 (nI k) (Or.inr h) (d + 1)
      exact ⟨_, _, _, R, a, b⟩
    · obtain ⟨u1, v1, R1, hX, hY⟩ := tk_oc R
      obtain ⟨r, u', v', R', HX, HY⟩ := ih (k + 1) (by omega) R1
      have h64 : ¬ (64 : Int32) ≤ nI k := nI_ge (b := 64) (by omega) (by decide)
      exact ⟨r, u', v', R', fun post hp => tk_stX h64 h hX (by rw [nI_1]; exact HX post hp), fun post hp => tk_stY h64 h hY (by rw [nI_1]; exact HY post hp)⟩
theorem i_vc_tick {k : Nat} {u : SX} {v : SY} (I : i_Rel k u v) (hk : k + 4 ≤ 2050) (v1 : Int32) : wpX_tick (fun r u' => wpY_tick (fun r' v' => r' = r ∧ i_Rel (k + 4) u' v') v v1) u v1 := by
  obtain ⟨r, u', v', R', HX, HY⟩ := tk_l v1 64 0 rfl I
  have hY : wpY_tick (fun r' v' => r' = r ∧ i_Rel (k + 4) u' v') v v1 := by
    have h := HY (fun r' v' => r' = r ∧ i_Rel (k + 4) u' v') ⟨rfl, R'⟩
    obtain ⟨pc, fl, pr, ss, dp, ph, lf, ln, tl, cd, rm, rg, sp, wt, py, vc, ac, rc⟩ := v
    exact ⟨65, h⟩
  have h := HX (fun r u' => wpY_tick (fun r' v' => r' = r ∧ i_Rel (k + 4) u' v') v v1) hY
  obtain ⟨msp, psp, pc, fl, pr, ss, ph, lf, fb, ln, tl, pm, am, th, bs, dp, nw, cd, rm, rg, fr, py, vc, lv, ac, st⟩ := u
  exact ⟨65, h⟩
end
section
/-! reset, the constructors -/
def zr_ (n : Nat) (f : Nat → Int32) : Nat → Int32 := fun j => if j < n then 0 else f j
theorem zr_0 (f : Nat → Int32) : zr_ 0 f = f := by
  funext j
  exact if_neg (by omega)
theorem zr_s (n : Nat) (f : Nat → Int32) : upd (zr_ n f) n 0 = zr_ (n + 1) f := by
  funext j
  unfold zr_
  by_cases e : j = n
  · subst e
    rw [pk_us, if_pos (by omega)]
  · rw [pk_un e]
    by_cases c : j < n
    · rw [if_pos c, if_pos (by omega)]
    · rw [if_neg c, if_neg (by omega)]
def zm_ (n : Nat) (f : Nat → Int32) : Nat → Int32 := fun j => if 4 ≤ j ∧ j < n then 0 else f j
theorem zm_4 (f : Nat → Int32) : zm_ 4 f = f := by
  funext j
  exact if_neg (by omega)
theorem zm_s {n : Nat} (hn : 4 ≤ n) (f : Nat → Int32) : upd (zm_ n f) n 0 = zm_ (n + 1) f := by
  funext j
  unfold zm_
  by_cases e : j = n
  · subst e
    rw [pk_us, if_pos (by omega)]
  · rw [pk_un e]
    by_cases c : 4 ≤ j ∧ j < n
    · rw [if_pos c, if_pos (by omega)]
    · rw [if_neg c, if_neg (by omega)]
theorem zm_r {rg : Nat → Int32} (h13 : rg 13 = 0) (h15 : rg 15 = 0) : upd (zs_ (zm_ 12 rg)) 14 0 = zr_ 16 rg := by
  funext j
  unfold zs_ zr_ upd zm_
  by_cases h : j < 16
  · rw [if_pos h]
    rcases (by omega : j = 0 ∨ j = 1 ∨ j = 2 ∨ j = 3 ∨ (4 ≤ j ∧ j < 12) ∨ j = 12 ∨ j = 13 ∨ j = 14 ∨ j = 15) with e | e | e | e | e | e | e | e | e
    · subst e; rfl
    · subst e; rfl
    · subst e; rfl
    · subst e; rfl
    · rw [if_neg (by omega), if_neg (by omega), if_neg (by omega), if_neg (by omega), if_neg (by omega), if_neg (by omega), if_pos e]
    · subst e; rfl
    · subst e; exact h13
    · subst e; rfl
    · subst e; exact h15
  · rw [if_neg h, if_neg (by omega), if_neg (by omega), if_neg (by omega), if_neg (by omega), if_neg (by omega), if_neg (by omega), if_neg (by omega)]
section
variable {L : Nat} {p : SX → Prop} {msp psp pc fl pr ss ph lf fb ln tl pm am th bs dp nw : Int32} {cd rm rg fr py vc lv ac st : Nat → Int32} {wt : Nat → Int32} {t b : Int32}
theorem xz_44 (A : ar_A L 0 0 0 py lv ac wt) (E : ar_EN 0 0 ac (upd py 3 (-1)) wt t b) (hp : p (256, 128, 0, 0, 0, 0, 0, 0, fb, ln, tl, 0, 0, t, b, 0, 0, cd, rm, rg, fr, py, vc, lv, ac, zr_ 8 st)) : ∀ d k n, k + d = 8 → d < n → wX_reset_44 p msp psp pc fl pr ss ph lf fb ln tl pm am th bs dp nw n (nI k) cd rm rg fr py vc lv ac (zr_ k st) := by
  intro d
  induction d with
  | zero =>
    intro k n hk hn
    obtain ⟨n, rfl⟩ : ∃ m, n = m + 1 := ⟨n - 1, by omega⟩
    have e : k = 8 := by omega
    subst e
    exact br_t (Int32.le_refl _) (xw_arb A E hp)
  | succ d ih =>
    intro k n hk hn
    obtain ⟨n, rfl⟩ : ∃ m, n = m + 1 := ⟨n - 1, by omega⟩
    exact br_f (nI_ge (b := 8) (by omega) (by decide)) (And.intro (vp_in_nI (by omega) (by decide)) (nm_r (e' := zr_ (k + 1) st) (by rw [nI_clamp (by omega), zr_s]) (nm_r (nI_1 k) (ih (k + 1) n (by omega) (by omega)))))
theorem xz_23 (A : ar_A L 0 0 0 py lv ac wt) (E : ar_EN 0 0 ac (upd py 3 (-1)) wt t b) (hp : p (256, 128, 0, 0, 0, 0, 0, 0, fb, ln, tl, 0, 0, t, b, 0, 0, cd, rm, zr_ 16 rg, fr, py, vc, lv, ac, zr_ 8 st)) : ∀ d k n, k + d = 16 → d < n → wX_reset_23 p msp psp pc fl pr ss ph lf fb ln tl pm am th bs dp nw n (nI k) cd rm (zr_ k rg) fr py vc lv ac st := by
  intro d
  induction d with
  | zero =>
    intro k n hk hn
    obtain ⟨n, rfl⟩ : ∃ m, n = m + 1 := ⟨n - 1, by omega⟩
    have e : k = 16 := by omega
    subst e
    have K := xz_44 (msp := msp) (psp := psp) (pc := pc) (fl := fl) (pr := pr) (ss := ss) (ph := ph) (lf := lf) (pm := pm) (am := am) (th := th) (bs := bs) (dp := dp) (nw := nw) A E hp 8 0 9 rfl (by decide)
    rw [zr_0] at K
    exact br_t (Int32.le_refl _) ⟨9, K⟩
  | succ d ih =>
    intro k n hk hn
    obtain ⟨n, rfl⟩ : ∃ m, n = m + 1 := ⟨n - 1, by omega⟩
    exact br_f (nI_ge (b := 16) (by omega) (by decide)) (And.intro (vp_in_nI (by omega) (by decide)) (nm_r (e' := zr_ (k + 1) rg) (by rw [nI_clamp (by omega), zr_s]) (nm_r (nI_1 k) (ih (k + 1) n (by omega) (by omega)))))
theorem xz_2 (A : ar_A L 0 0 0 py lv ac wt) (E : ar_EN 0 0 ac (upd py 3 (-1)) wt t b) (hp : p (256, 128, 0, 0, 0, 0, 0, 0, fb, ln, tl, 0, 0, t, b, 0, 0, cd, zr_ 64 rm, zr_ 16 rg, fr, py, vc, lv, ac, zr_ 8 st)) : ∀ d k n, k + d = 64 → d < n → wX_reset_2 p msp psp pc fl pr ss ph lf fb ln tl pm am th bs dp nw n (nI k) cd (zr_ k rm) rg fr py vc lv ac st := by
  intro d
  induction d with
  | zero =>
    intro k n hk hn
    obtain ⟨n, rfl⟩ : ∃ m, n = m + 1 := ⟨n - 1, by omega⟩
    have e : k = 64 := by omega
    subst e
    have K := xz_23 (msp := msp) (psp := psp) (pc := pc) (fl := fl) (pr := pr) (ss := ss) (ph := ph) (lf := lf) (pm := pm) (am := am) (th := th) (bs := bs) (dp := dp) (nw := nw) A E hp 16 0 17 rfl (by decide)
    rw [zr_0] at K
    exact br_t (Int32.le_refl _) ⟨17, K⟩
  | succ d ih =>
    intro k n hk hn
    obtain ⟨n, rfl⟩ : ∃ m, n = m + 1 := ⟨n - 1, by omega⟩
    exact br_f (nI_ge (b := 64) (by omega) (by decide)) (And.intro (vp_in_nI (by omega) (by decide)) (nm_r (e' := zr_ (k + 1) rm) (by rw [nI_clamp (by omega), zr_s]) (nm_r (nI_1 k) (ih (k + 1) n (by omega) (by omega)))))
theorem xz_ (A : ar_A L 0 0 0 py lv ac wt) (E : ar_EN 0 0 ac (upd py 3 (-1)) wt t b) (hp : p (256, 128, 0, 0, 0, 0, 0, 0, fb, ln, tl, 0, 0, t, b, 0, 0, cd, zr_ 64 rm, zr_ 16 rg, fr, py, vc, lv, ac, zr_ 8 st)) : wpX_reset p (msp, psp, pc, fl, pr, ss, ph, lf, fb, ln, tl, pm, am, th, bs, dp, nw, cd, rm, rg, fr, py, vc, lv, ac, st) := by
  have K := xz_2 (msp := msp) (psp := psp) (pc := pc) (fl := fl) (pr := pr) (ss := ss) (ph := ph) (lf := lf) (pm := pm) (am := am) (th := th) (bs := bs) (dp := dp) (nw := nw) A E hp 64 0 65 rfl (by decide)
  rw [zr_0] at K
  exact ⟨65, K⟩
end
section
variable {p : SY → Prop} {pc fl pr ss dp ph lf ln tl : Int32} {cd rm rg sp wt py vc ac rc : Nat → Int32}
theorem yz_65 (h13 : rg 13 = 0) (h15 : rg 15 = 0) (hp : p (0, 0, 0, 0, 0, 0, 0, ln, tl, cd, rm, zr_ 16 rg, upd (upd sp 0 256) 1 128, wt, py, vc, ac, rc)) : ∀ d k n, k + d = 12 → 4 ≤ k → d < n → wY_reset_65 p pc fl pr ss dp ph lf ln tl n (nI k) cd rm (zm_ k rg) sp wt py vc ac rc := by
  intro d
  induction d with
  | zero =>
    intro k n hk h4 hn
    obtain ⟨n, rfl⟩ : ∃ m, n = m + 1 := ⟨n - 1, by omega⟩
    have e : k = 12 := by omega
    subst e
    rw [← zm_r h13 h15] at hp
    exact br_t (Int32.le_refl _) (ys_wipe (nm_e (nm_e hp)))
  | succ d ih =>
    intro k n hk h4 hn
    obtain ⟨n, rfl⟩ : ∃ m, n = m + 1 := ⟨n - 1, by omega⟩
    exact br_f (nI_ge (b := 12) (by omega) (by decide)) (And.intro (vp_in_nI (by omega) (by decide)) (nm_r (e' := zm_ (k + 1) rg) (by rw [nI_clamp (by omega), zm_s h4]) (nm_r (nI_1 k) (ih (k + 1) n (by omega) (by omega) (by omega)))))
theorem yz_44 (h13 : rg 13 = 0) (h15 : rg 15 = 0) (hp : p (0, 0, 0, 0, 0, 0, 0, ln, tl, cd, rm, zr_ 16 rg, upd (upd sp 0 256) 1 128, wt, py, vc, ac, zr_ 8 rc)) : ∀ d k n, k + d = 8 → d < n → wY_reset_44 p pc fl pr ss dp ph lf ln tl n (nI k) cd rm rg sp wt py vc ac (zr_ k rc) := by
  intro d
  induction d with
  | zero =>
    intro k n hk hn
    obtain ⟨n, rfl⟩ : ∃ m, n = m + 1 := ⟨n - 1, by omega⟩
    have e : k = 8 := by omega
    subst e
    have K := yz_65 (pc := pc) (fl := fl) (pr := pr) (ss := ss) (dp := dp) (ph := ph) (lf := lf) h13 h15 hp 8 4 9 rfl (by decide) (by decide)
    rw [zm_4] at K
    exact br_t (Int32.le_refl _) ⟨9, K⟩
  | succ d ih =>
    intro k n hk hn
    obtain ⟨n, rfl⟩ : ∃ m, n = m + 1 := ⟨n - 1, by omega⟩
    exact br_f (nI_ge (b := 8) (by omega) (by decide)) (And.intro (vp_in_nI (by omega) (by decide)) (nm_r (e' := zr_ (k + 1) rc) (by rw [nI_clamp (by omega), zr_s]) (nm_r (nI_1 k) (ih (k + 1) n (by omega) (by omega)))))
theorem yz_23 (h13 : rg 13 = 0) (h15 : rg 15 = 0) (hp : p (0, 0, 0, 0, 0, 0, 0, ln, tl, cd, rm, zr_ 16 rg, upd (upd sp 0 256) 1 128, zr_ 24 wt, py, vc, ac, zr_ 8 rc)) : ∀ d k n, k + d = 24 → d < n → wY_reset_23 p pc fl pr ss dp ph lf ln tl n (nI k) cd rm rg sp (zr_ k wt) py vc ac rc := by
  intro d
  induction d with
  | zero =>
    intro k n hk hn
    obtain ⟨n, rfl⟩ : ∃ m, n = m + 1 := ⟨n - 1, by omega⟩
    have e : k = 24 := by omega
    subst e
    have K := yz_44 (pc := pc) (fl := fl) (pr := pr) (ss := ss) (dp := dp) (ph := ph) (lf := lf) h13 h15 hp 8 0 9 rfl (by decide)
    rw [zr_0] at K
    exact br_t (Int32.le_refl _) ⟨9, K⟩
  | succ d ih =>
    intro k n hk hn
    obtain ⟨n, rfl⟩ : ∃ m, n = m + 1 := ⟨n - 1, by omega⟩
    exact br_f (nI_ge (b := 24) (by omega) (by decide)) (And.intro (vp_in_nI (by omega) (by decide)) (nm_r (e' := zr_ (k + 1) wt) (by rw [nI_clamp (by omega), ← zr_s]; rfl) (nm_r (nI_1 k) (ih (k + 1) n (by omega) (by omega)))))
theorem yz_2 (h13 : rg 13 = 0) (h15 : rg 15 = 0) (hp : p (0, 0, 0, 0, 0, 0, 0, ln, tl, cd, zr_ 64 rm, zr_ 16 rg, upd (upd sp 0 256) 1 128, zr_ 24 wt, py, vc, ac, zr_ 8 rc)) : ∀ d k n, k + d = 64 → d < n → wY_reset_2 p pc fl pr ss dp ph lf ln tl n (nI k) cd (zr_ k rm) rg sp wt py vc ac rc := by
  intro d
  induction d with
  | zero =>
    intro k n hk hn
    obtain ⟨n, rfl⟩ : ∃ m, n = m + 1 := ⟨n - 1, by omega⟩
    have e : k = 64 := by omega
    subst e
    have K := yz_23 (pc := pc) (fl := fl) (pr := pr) (ss := ss) (dp := dp) (ph := ph) (lf := lf) h13 h15 hp 24 0 25 rfl (by decide)
    rw [zr_0] at K
    exact br_t (Int32.le_refl _) ⟨25, K⟩
  | succ d ih =>
    intro k n hk hn
    obtain ⟨n, rfl⟩ : ∃ m, n = m + 1 := ⟨n - 1, by omega⟩
    exact br_f (nI_ge (b := 64) (by omega) (by decide)) (And.intro (vp_in_nI (by omega) (by decide)) (nm_r (e' := zr_ (k + 1) rm) (by rw [nI_clamp (by omega), zr_s]) (nm_r (nI_1 k) (ih (k + 1) n (by omega) (by omega)))))
theorem yz_ (h13 : rg 13 = 0) (h15 : rg 15 = 0) (hp : p (0, 0, 0, 0, 0, 0, 0, ln, tl, cd, zr_ 64 rm, zr_ 16 rg, upd (upd sp 0 256) 1 128, zr_ 24 wt, py, vc, ac, zr_ 8 rc)) : wpY_reset p (pc, fl, pr, ss, dp, ph, lf, ln, tl, cd, rm, rg, sp, wt, py, vc, ac, rc) := by
  have K := yz_2 (pc := pc) (fl := fl) (pr := pr) (ss := ss) (dp := dp) (ph := ph) (lf := lf) h13 h15 hp 64 0 65 rfl (by decide)
  rw [zr_0] at K
  exact ⟨65, K⟩
end
def rl_Z (ln tl : Int32) (cd py lv : Nat → Int32) : Prop :=
  ∃ L T : Nat, ln = nI L ∧ tl = nI T ∧ (1 ≤ T ∧ T ≤ 8) ∧ (1 ≤ L ∧ L ≤ 8) ∧ (∀ p k, p < 4 → k < 32 → (bt (lv p) k = true ↔ (ar_v L k ∧ k ≠ 3 ∧ py k = nI p))) ∧ (∀ k, ar_v L k → k ≠ 3 → ∃ p, p < 4 ∧ py k = nI p) ∧ (∀ j, ∃ m, m < 65536 ∧ cd j = nI m)
section
variable {msp psp pc fl pr ss ph lf fb ln tl pm am th bs dp nw : Int32} {cd rm rg fr py vc lv ac st sp wt rc : Nat → Int32} {rY : Nat → Int32}
theorem rs_oc {pc' fl' pr' ss' dp' ph' lf' : Int32} (z : rl_Z ln tl cd py lv) (h13 : rg 13 = 0) (h15 : rg 15 = 0) (hr : zr_ 64 rY = zr_ 64 rm) : ∃ u v, rl_R u v ∧ (∀ p, p u → wpX_reset p (msp, psp, pc, fl, pr, ss, ph, lf, fb, ln, tl, pm, am, th, bs, dp, nw, cd, rm, rg, fr, py, vc, lv, ac, st)) ∧ (∀ p : SY → Prop, p v → wpY_reset p (pc', fl', pr', ss', dp', ph', lf', ln, tl, cd, rY, rg, sp, wt, upd py 3 (-1), vc, ac, rc)) := by
  obtain ⟨L, T, e1, e2, hT, hL, A8, A9, g4⟩ := z
  have A : ar_A L 0 0 0 py lv ac (zr_ 24 wt) := ar_zero hL A8 A9 (fun k hk => if_pos hk)
  obtain ⟨t, b, E⟩ := ar_ex 0 0 ac (upd py 3 (-1)) (zr_ 24 wt)
  have g : rl_G ln tl 0 0 0 0 0 t b cd py lv ac (zr_ 8 st) (zr_ 24 wt) (zr_ 8 rc) := ⟨L, T, 0, 0, e1, e2, rfl, rfl, hT, by decide, A, E, fun i hi => by
    unfold zr_
    rw [if_pos (by omega), if_pos hi], g4⟩
  have H : rl_H 256 128 0 (zr_ 16 rg) (upd (upd sp 0 256) 1 128) := ⟨if_pos (by decide), if_pos (by decide), by rw [pk_un (by decide), pk_us], pk_us, Or.inl rfl⟩
  exact ⟨_, _, rl_0 g H, fun p hp => xz_ A E hp, fun p hp => yz_ h13 h15 (by rw [hr]; exact hp)⟩
theorem rl_zr (f : rl_F ph lf fb bs msp psp rg fr rm rY) : zr_ 64 rY = zr_ 64 rm := by
  rcases f with ⟨_, _, e⟩ | ⟨_, _, l, q, _, _, _, _, _, e⟩ | ⟨_, _, _, e⟩ | ⟨_, e, _⟩ | ⟨_, _, e⟩
  · rw [e]
  · rw [e]
    funext j
    unfold zr_ ov_
    by_cases c : j < 64
    · rw [if_pos c, if_pos c]
    · rw [if_neg c, if_neg c, if_neg (fun z => c z.1)]
  · rw [e]
  · rw [e]
  · rw [e]
end
theorem i_vc_reset {k : Nat} {u : SX} {v : SY} (I : i_Rel k u v) (hk : k + 4 ≤ 2050) : wpX_reset (fun u' => wpY_reset (fun v' => i_Rel (k + 4) u' v') v) u := by
  refine rl_el (P := fun u v => wpX_reset (fun u' => wpY_reset (fun v' => i_Rel (k + 4) u' v') v) u) ?_ I
  intro msp psp pc fl pr ss ph lf fb ln tl pm am th bs dp nw cd rm rg fr py vc lv ac st sp wt rc rY g hh f
  obtain ⟨L, T, D, W, e1, e2, e3, e4, g1, g2, A, E, g3, g4⟩ := g
  obtain ⟨A1, A2, A3, A4, A5, A6, A7, A8, A9⟩ := A
  obtain ⟨u', v', R, hX, hY⟩ := rs_oc (msp := msp) (psp := psp) (pc := pc) (fl := fl) (pr := pr) (ss := ss) (ph := ph) (lf := lf) (fb := fb) (pm := pm) (am := am) (th := th) (bs := bs) (dp := dp) (nw := nw) (rm := rm) (fr := fr) (vc := vc) (ac := ac) (st := st) (sp := sp) (wt := wt) (rc := rc) (pc' := pc) (fl' := fl) (pr' := pr) (ss' := ss) (dp' := dp) (ph' := ph) (lf' := lf) ⟨L, T, e1, e2, g1, A1, A8, A9, g4⟩ hh.1 hh.2.1 (rl_zr f)
  exact hX _ (hY _ R)
/-! the constructors -/
def cl_ (x : Int32) : Int32 := if 1 ≤ x then (if x ≤ 8 then x else 8) else 1
theorem cl_n (x : Int32) : ∃ L, 1 ≤ L ∧ L ≤ 8 ∧ cl_ x = nI L := by
  unfold cl_
  by_cases h : 1 ≤ x
  · rw [if_pos h]
    by_cases h8 : x ≤ 8
    · rw [if_pos h8]
      have h0 : ¬ x < 0 := by
        intro z
        exact ar_no (ar_lt z (by decide : (0 : Int32) < 1)) h
      obtain ⟨j, hj, e⟩ := nI_of2 (n := 8) (by decide) h0 h8
      subst e
      exact ⟨j, (nI_leI (a := 1) (by decide) (by omega)).mp h, hj, rfl⟩
    · rw [if_neg h8]
      exact ⟨8, by decide, by decide, rfl⟩
  · rw [if_neg h]
    exact ⟨1, by decide, by decide, rfl⟩
theorem xz_cl {postI : Int32 → Prop} {u : SX} {x : Int32} (h : postI (cl_ x)) : wpX_clamp postI u x := by
  obtain ⟨msp, psp, pc, fl, pr, ss, ph, lf, fb, ln, tl, pm, am, th, bs, dp, nw, cd, rm, rg, fr, py, vc, lv, ac, st⟩ := u
  unfold cl_ at h
  refine br_c (fun a => br_c (fun b => ?_) (fun b => ?_)) (fun a => ?_)
  · rw [if_pos a, if_pos b] at h; exact h
  · rw [if_pos a, if_neg b] at h; exact h
  · rw [if_neg a] at h; exact h
theorem zv_bits : ∀ L, L < 9 → 1 ≤ L → ∀ k, k < 32 → bt (2048 ||| ((((1 : Int32) <<< (nI L &&& 31)) - 1) <<< ((16 : Int32) &&& 31))) k = decide (k = 11 ∨ (16 ≤ k ∧ k < 16 + L)) := by decide +kernel
theorem i_vc0 (k0 : Int32) (k1 : Int32) : wpX_init (fun u => wpY_init (fun v => i_Rel 2 u v) k0 k1) k0 k1 := by
  obtain ⟨L, L1, L8, eL⟩ := cl_n k0
  obtain ⟨T, T1, T8, eT⟩ := cl_n k1
  have z : rl_Z (cl_ k0) (cl_ k1) (fun _ => 0) (fun _ => 0) (upd (fun _ => 0) 0 (2048 ||| ((((1 : Int32) <<< (cl_ k0 &&& 31)) - 1) <<< ((16 : Int32) &&& 31)))) := by
    refine ⟨L, T, eL, eT, ⟨T1, T8⟩, ⟨L1, L8⟩, ?_, fun k _ _ => ⟨0, by decide, rfl⟩, fun j => ⟨0, by decide, rfl⟩⟩
    intro p k hp hk
    by_cases e : p = 0
    · subst e
      rw [pk_us, eL, zv_bits L (by omega) L1 k hk, decide_eq_true_eq]
      constructor
      · intro h
        exact ⟨Or.inr h, by omega, rfl⟩
      · rintro ⟨h, n, _⟩
        exact h.resolve_left n
    · rw [pk_un e]
      constructor
      · intro h
        have h' : bt 0 k = true := h
        rw [b_0] at h'
        exact nomatch h'
      · rintro ⟨_, _, h⟩
        have h' : nI 0 = nI p := h
        exact (e ((nI_eq (by decide) (by omega)).mp h').symm).elim
  obtain ⟨u', v', R, hX, hY⟩ := rs_oc (msp := 0) (psp := 0) (pc := 0) (fl := 0) (pr := 0) (ss := 0) (ph := 0) (lf := 0) (fb := 0) (pm := 0) (am := 0) (th := 0) (bs := 0) (dp := 0) (nw := 0) (rm := fun _ => 0) (rg := fun _ => 0) (fr := fun _ => 0) (vc := fun _ => 0) (ac := fun _ => 0) (st := fun _ => 0) (sp := fun _ => 0) (wt := fun _ => 0) (rc := fun _ => 0) (rY := fun _ => 0) (pc' := 0) (fl' := 0) (pr' := 0) (ss' := 0) (dp' := 0) (ph' := 0) (lf' := 0) z rfl rfl rfl
  have Y3 : ∀ x, x = cl_ k1 → ∀ y, y = cl_ k0 → wY_init_123 (fun v => i_Rel 2 u' v) x 0 0 0 0 0 0 0 y 0 (fun _ => 0) (fun _ => 0) (fun _ => 0) (fun _ => 0) (fun _ => 0) (fun _ => 0) (fun _ => 0) (fun _ => 0) (fun _ => 0) := by
    intro x ex y ey
    subst ex ey
    exact nm_e (hY _ (yt_eta (post := fun v => i_Rel 2 u' v) R))
  have Y2 : ∀ y, y = cl_ k0 → wY_init_98 (fun v => i_Rel 2 u' v) k1 y 0 0 0 0 0 0 0 0 0 (fun _ => 0) (fun _ => 0) (fun _ => 0) (fun _ => 0) (fun _ => 0) (fun _ => 0) (fun _ => 0) (fun _ => 0) (fun _ => 0) := by
    intro y ey
    refine br_c (fun a => br_c (fun b => Y3 _ ?_ y ey) (fun b => Y3 _ ?_ y ey)) (fun a => Y3 _ ?_ y ey)
    · unfold cl_; rw [if_pos a, if_pos b]
    · unfold cl_; rw [if_pos a, if_neg b]
    · unfold cl_; rw [if_neg a]
  have Y1 : wpY_init (fun v => i_Rel 2 u' v) k0 k1 := by
    refine br_c (fun a => br_c (fun b => Y2 _ ?_) (fun b => Y2 _ ?_)) (fun a => Y2 _ ?_)
    · unfold cl_; rw [if_pos a, if_pos b]
    · unfold cl_; rw [if_pos a, if_neg b]
    · unfold cl_; rw [if_neg a]
  unfold wpX_init
  exact xz_cl (xz_cl (nm_e (hX _ (xt_eta (post := fun u => wpY_init (fun v => i_Rel 2 u v) k0 k1) Y1))))
end
section
/-! the other calls that store -/
def vd_ (L : Nat) (x : Int32) : Prop := ∃ k, ar_v L k ∧ x = nI k
theorem vd_0 {x : Int32} (h : ¬ x < 16) : ∃ j, j < 2 ^ 31 ∧ x = nI j ∧ 16 ≤ j := by
  have h0 : ¬ x < 0 := fun z => h (ar_lt z (by decide))
  obtain ⟨j, hj, e⟩ := nI_of h0
  refine ⟨j, hj, e, ?_⟩
  rw [e] at h
  have := mt (fun q => nI_lt (b := 16) q (by decide)) h
  omega
section
variable {L : Nat} {postI : Int32 → Prop} {msp psp pc fl pr ss ph lf fb ln tl pm am th bs dp nw : Int32} {cd rm rg fr py vc lv ac st : Nat → Int32} {x : Int32}
theorem xs_val (hL : L ≤ 8) (h1 : vd_ L x → postI 1) (h0 : ¬ vd_ L x → postI 0) : wpX_valid postI (msp, psp, pc, fl, pr, ss, ph, lf, fb, nI L, tl, pm, am, th, bs, dp, nw, cd, rm, rg, fr, py, vc, lv, ac, st) x := by
  refine br_c (fun e => h1 ⟨3, Or.inl rfl, e⟩) (fun n3 => br_c (fun e => h1 ⟨11, Or.inr (Or.inl rfl), e⟩) (fun n11 => br_c (fun lt => h0 ?_) (fun ge => br_c (fun a => h0 ?_) (fun a => h1 ?_))))
  · rintro ⟨k, hk, e⟩
    rcases hk with rfl | rfl | hk
    · exact n3 e
    · exact n11 e
    · rw [e] at lt
      exact nI_nlt (b := 16) hk.1 (by omega) lt
  · obtain ⟨j, hj, e, j16⟩ := vd_0 ge
    rintro ⟨k, hk, e'⟩
    have ejk : j = k := (nI_eq hj (by rcases hk with h | h | h <;> omega)).mp (e.symm.trans e')
    have a' : nI (16 + L) ≤ nI j := by
      rw [← nI_add, ← e]
      exact a
    have := (nI_leI (by omega) hj).mp a'
    rcases hk with h | h | h <;> omega
  · obtain ⟨j, hj, e, j16⟩ := vd_0 ge
    have a' : ¬ nI (16 + L) ≤ nI j := by
      rw [← nI_add, ← e]
      exact a
    have := mt (nI_leI (by omega) hj).mpr a'
    exact ⟨j, Or.inr (Or.inr ⟨j16, by omega⟩), e⟩
end
section
variable {L : Nat} {postI : Int32 → Prop} {pc fl pr ss dp ph lf ln tl : Int32} {cd rm rg sp wt py vc ac rc : Nat → Int32} {x : Int32}
theorem ys_val (hL : L ≤ 8) (h1 : vd_ L x → postI 1) (h0 : ¬ vd_ L x → postI 0) : wpY_valid postI (pc, fl, pr, ss, dp, ph, lf, nI L, tl, cd, rm, rg, sp, wt, py, vc, ac, rc) x := by
  refine br_c (fun e => h1 ⟨3, Or.inl rfl, e⟩) (fun n3 => br_c (fun e => h1 ⟨11, Or.inr (Or.inl rfl), e⟩) (fun n11 => br_c (fun lt => h0 ?_) (fun ge => br_c (fun a => h0 ?_) (fun a => h1 ?_))))
  · rintro ⟨k, hk, e⟩
    rcases hk with rfl | rfl | hk
    · exact n3 e
    · exact n11 e
    · rw [e] at lt
      exact nI_nlt (b := 16) hk.1 (by omega) lt
  · obtain ⟨j, hj, e, j16⟩ := vd_0 ge
    rintro ⟨k, hk, e'⟩
    have ejk : j = k := (nI_eq hj (by rcases hk with h | h | h <;> omega)).mp (e.symm.trans e')
    have a' : nI (15 + L) < nI j := by
      rw [← nI_add, ← e]
      exact a
    have := (nI_ltI (by omega) hj).mp a'
    rcases hk with h | h | h <;> omega
  · obtain ⟨j, hj, e, j16⟩ := vd_0 ge
    have a' : ¬ nI (15 + L) < nI j := by
      rw [← nI_add, ← e]
      exact a
    have := mt (nI_ltI (by omega) hj).mpr a'
    exact ⟨j, Or.inr (Or.inr ⟨j16, by omega⟩), e⟩
end
theorem in_of {x M : Int32} {n : Nat} (hM : M.toInt = n) (hn : n < 1000) (h : ¬ x < 0) (h5 : x ≤ M) : vp_in x (n + 1) := by
  obtain ⟨j, hj, e⟩ := nI_of2 hM h h5
  rw [e]
  exact vp_in_nI (by omega) (by omega)
theorem up_cm (f : Nat → Int32) {a b : Nat} (h : a ≠ b) (x y : Int32) : upd (upd f a x) b y = upd (upd f b y) a x := by
  funext j
  unfold upd
  by_cases e : j = b
  · rw [if_pos e, if_neg (by omega), if_pos e]
  · rw [if_neg e, if_neg e]
section
variable {msp psp pc fl pr ss ph lf fb ln tl pm am th bs dp nw : Int32} {cd rm rg fr py vc lv ac st sp wt rc : Nat → Int32} {rY : Nat → Int32}
theorem rl_Gc {i : Nat} {x : Int32} (g : rl_G ln tl dp nw pr pm am th bs cd py lv ac st wt rc) : rl_G ln tl dp nw pr pm am th bs (upd cd i (x &&& 65535)) py lv ac st wt rc := by
  obtain ⟨L, T, D, W, e1, e2, e3, e4, g1, g2, A, E, g3, g4⟩ := g
  refine ⟨L, T, D, W, e1, e2, e3, e4, g1, g2, A, E, g3, fun j => ?_⟩
  by_cases e : j = i
  · subst e
    rw [pk_us]
    exact nx_mask x
  · rw [pk_un e]
    exact g4 j
theorem rl_Fb {b : Int32} (f : rl_F ph lf fb bs msp psp rg fr rm rY) (h : ¬ bs = 0 → ¬ b = 0) : rl_F ph lf fb b msp psp rg fr rm rY := by
  rcases f with f | ⟨h1, h2, h3⟩ | ⟨h1, h2, h3⟩ | f | f
  · exact Or.inl f
  · exact Or.inr (Or.inl ⟨h1, h h2, h3⟩)
  · exact Or.inr (Or.inr (Or.inl ⟨h1, h h2, h3⟩))
  · exact Or.inr (Or.inr (Or.inr (Or.inl f)))
  · exact Or.inr (Or.inr (Or.inr (Or.inr f)))
theorem rl_f0 (f : rl_F ph lf fb bs msp psp rg fr rm rY) (h : ph = 0) : lf = 0 ∧ rY = rm := by
  rcases f with ⟨_, h1, h2⟩ | ⟨h1, _⟩ | ⟨h1, _⟩ | ⟨h1, _⟩ | ⟨h1, _⟩
  · exact ⟨h1, h2⟩
  · rw [h1] at h; exact absurd h (by decide)
  · rw [h1] at h; exact absurd h (by decide)
  · rw [h1] at h; exact absurd h (by decide)
  · rw [h1] at h; exact absurd h (by decide)
end
theorem i_vc_code {k : Nat} {u : SX} {v : SY} (I : i_Rel k u v) (hk : k + 4 ≤ 2050) (v1 : Int32) (v2 : Int32) (v3 : Int32) : wpX_code (fun r u' => wpY_code (fun r' v' => r' = r ∧ i_Rel (k + 4) u' v') v v1 v2 v3) u v1 v2 v3 := by
  refine rl_el (P := fun u v => wpX_code (fun r u' => wpY_code (fun r' v' => r' = r ∧ i_Rel (k + 4) u' v') v v1 v2 v3) u v1 v2 v3) ?_ I
  intro msp psp pc fl pr ss ph lf fb ln tl pm am th bs dp nw cd rm rg fr py vc lv ac st sp wt rc rY g hh f
  refine br_c (fun a => br_t a ⟨rfl, rl_in g hh f⟩) (fun a => br_c (fun b => ?_) (fun b => br_f a (br_f b ⟨rfl, rl_in g hh f⟩)))
  have hin : vp_in v1 128 := in_of (n := 127) (by decide) (by decide) a b
  exact And.intro hin (nm_e (And.intro (ia_127 _) (nm_e (br_f a (br_t b (And.intro hin (nm_e (And.intro (ia_127 _) (nm_e ⟨rfl, rl_in (rl_Gc (rl_Gc g)) hh f⟩)))))))))
theorem i_vc_poke {k : Nat} {u : SX} {v : SY} (I : i_Rel k u v) (hk : k + 4 ≤ 2050) (v1 : Int32) (v2 : Int32) : wpX_poke (fun r u' => wpY_poke (fun r' v' => r' = r ∧ i_Rel (k + 4) u' v') v v1 v2) u v1 v2 := by
  refine rl_el (P := fun u v => wpX_poke (fun r u' => wpY_poke (fun r' v' => r' = r ∧ i_Rel (k + 4) u' v') v v1 v2) u v1 v2) ?_ I
  intro msp psp pc fl pr ss ph lf fb ln tl pm am th bs dp nw cd rm rg fr py vc lv ac st sp wt rc rY g hh f
  refine br_c (fun h => ?_) (fun h => br_f h ⟨rfl, rl_in g hh f⟩)
  obtain ⟨e1, e2⟩ := rl_f0 f h
  subst h e1 e2
  refine br_c (fun a => br_t rfl (br_t a ⟨rfl, rl_0 g hh⟩)) (fun a => br_c (fun b => ?_) (fun b => br_t rfl (br_f a (br_f b ⟨rfl, rl_0 g hh⟩))))
  have hin : vp_in v1 64 := in_of (n := 63) (by decide) (by decide) a b
  exact And.intro hin (nm_e (br_t rfl (br_f a (br_t b (And.intro hin (nm_e ⟨rfl, rl_0 g hh⟩))))))
theorem i_vc_pend {k : Nat} {u : SX} {v : SY} (I : i_Rel k u v) (hk : k + 4 ≤ 2050) (v1 : Int32) : wpX_pend (fun r u' => wpY_pend (fun r' v' => r' = r ∧ i_Rel (k + 4) u' v') v v1) u v1 := by
  refine rl_el (P := fun u v => wpX_pend (fun r u' => wpY_pend (fun r' v' => r' = r ∧ i_Rel (k + 4) u' v') v v1) u v1) ?_ I
  intro msp psp pc fl pr ss ph lf fb ln tl pm am th bs dp nw cd rm rg fr py vc lv ac st sp wt rc rY g hh f
  refine br_c (fun a => br_t a ⟨rfl, rl_in g hh f⟩) (fun a => br_c (fun b => ?_) (fun b => br_f a (br_f b ⟨rfl, rl_in g hh f⟩)))
  obtain ⟨L, T, D, W, e1, e2, e3, e4, g1, g2, A, E, g3, g4⟩ := id g
  obtain ⟨A1, A2, A3, A4, A5, A6, A7, A8, A9⟩ := id A
  obtain ⟨j, hj, ej⟩ := nI_of a
  subst e1 ej
  have b' := (nI_ltI hj (by omega)).mp b
  have e16 : (16 : Int32) + nI j = nI (16 + j) := nI_add 16 j
  have hv : ar_v L (16 + j) := Or.inr (Or.inr ⟨by omega, by omega⟩)
  rw [e16]
  have hin : vp_in (nI (16 + j)) 24 := vp_in_nI (by omega) (by decide)
  have hw := ar_w A (k := 16 + j) (by omega)
  cases hb : bt pm (16 + j)
  · have A' := ar_pend A hv
    obtain ⟨t, b2, E'⟩ := ar_ex pr D ac (upd py 3 (-1)) (upd wt (16 + j) 1)
    have et : t = th := ar_Eu E'.1 E.1
    have g' : rl_G (nI L) tl dp nw pr (pm ||| ((1 : Int32) <<< (nI (16 + j) &&& 31))) am t b2 cd py lv ac st (upd wt (16 + j) 1) rc := ⟨L, T, D, W, rfl, e2, e3, e4, g1, g2, A', E', g3, g4⟩
    have w0 : wt (16 + j) = 0 := Classical.not_not.mp (fun z => by rw [hw.mp z] at hb; exact nomatch hb)
    have f' : rl_F ph lf fb b2 msp psp rg fr rm rY := rl_Fb f (fun h0 => by
      subst et
      refine ar_more E E'.2 (fun i hi w => ?_) h0
      by_cases e : i = 16 + j
      · rw [e, pk_us]; decide
      · rw [pk_un e]; exact w)
    refine br_t ((bz_sh pm (by omega)).mpr hb) (xs_raise A' E' ?_)
    refine br_f a (br_t b ?_)
    rw [e16]
    refine And.intro hin ?_
    rw [nI_clamp (by omega)]
    exact br_t w0 (And.intro hin (nm_r (e' := upd wt (16 + j) 1) rfl ⟨rfl, rl_in g' hh f'⟩))
  · refine br_f (fun z => by rw [(bz_sh pm (by omega)).mp z] at hb; exact nomatch hb) (br_f a (br_t b ?_))
    rw [e16]
    refine And.intro hin ?_
    rw [nI_clamp (by omega)]
    exact br_f (hw.mpr hb) ⟨rfl, rl_in g hh f⟩
section
variable {L D : Nat} {p : SX → Prop} {msp psp pc fl pr ss ph lf fb ln tl pm am th bs dp nw : Int32} {cd rm rg fr py vc lv ac st : Nat → Int32} {wt : Nat → Int32} {t b : Int32}
theorem xs_prio {i o q : Nat} (hi : i < 24) (ho : o < 4) (hq : q < 4) (eo : py i = nI o) (A : ar_A L D pm am (upd py i (nI q)) (upd (upd lv o (lv o &&& (((1 : Int32) <<< (nI i &&& 31)) ^^^ (-1)))) q ((upd lv o (lv o &&& (((1 : Int32) <<< (nI i &&& 31)) ^^^ (-1)))) q ||| ((1 : Int32) <<< (nI i &&& 31)))) ac wt) (E : ar_EN pr D ac (upd (upd py i (nI q)) 3 (-1)) wt t b) (hp : p (msp, psp, pc, fl, pr, ss, ph, lf, fb, ln, tl, pm, am, t, b, dp, nw, cd, rm, rg, fr, upd py i (nI q), vc, upd (upd lv o (lv o &&& (((1 : Int32) <<< (nI i &&& 31)) ^^^ (-1)))) q ((upd lv o (lv o &&& (((1 : Int32) <<< (nI i &&& 31)) ^^^ (-1)))) q ||| ((1 : Int32) <<< (nI i &&& 31))), ac, st)) : wpX_setPriority p (msp, psp, pc, fl, pr, ss, ph, lf, fb, ln, tl, pm, am, th, bs, dp, nw, cd, rm, rg, fr, py, vc, lv, ac, st) (nI i) (nI q) := by
  have hin : vp_in (nI i) 24 := vp_in_nI hi (by decide)
  refine nm_e (And.intro hin ?_)
  rw [nI_clamp (by omega), eo, da_3 (by omega), da_3 (by omega), nI_clamp (by omega), nI_clamp (by omega), Nat.mod_eq_of_lt ho, Nat.mod_eq_of_lt hq]
  have h4 : vp_in (nI o) 4 := vp_in_nI ho (by decide)
  have h4q : vp_in (nI q) 4 := vp_in_nI hq (by decide)
  exact And.intro h4 (And.intro h4 (nm_e (And.intro h4q (And.intro h4q (nm_e (And.intro hin (nm_e (xw_arb A E hp))))))))
end
theorem i_vc_configure {k : Nat} {u : SX} {v : SY} (I : i_Rel k u v) (hk : k + 4 ≤ 2050) (v1 : Int32) (v2 : Int32) (v3 : Int32) : wpX_configure (fun r u' => wpY_configure (fun r' v' => r' = r ∧ i_Rel (k + 4) u' v') v v1 v2 v3) u v1 v2 v3 := by
  refine rl_el (P := fun u v => wpX_configure (fun r u' => wpY_configure (fun r' v' => r' = r ∧ i_Rel (k + 4) u' v') v v1 v2 v3) u v1 v2 v3) ?_ I
  intro msp psp pc fl pr ss ph lf fb ln tl pm am th bs dp nw cd rm rg fr py vc lv ac st sp wt rc rY g hh f
  refine br_c (fun h => ?_) (fun h => br_f h ⟨rfl, rl_in g hh f⟩)
  obtain ⟨e1, e2⟩ := rl_f0 f h
  subst h e1 e2
  obtain ⟨L, T, D, W, e1, e2, e3, e4, g1, g2, A, E, g3, g4⟩ := id g
  obtain ⟨A1, A2, A3, A4, A5, A6, A7, A8, A9⟩ := id A
  subst e1
  refine xs_val A1.2 (fun hv => br_f (by decide) ?_) (fun hv => br_t rfl (br_t rfl (ys_val A1.2 (fun z => (hv z).elim) (fun _ => br_t rfl ⟨rfl, rl_0 g hh⟩))))
  have YV : ∀ {q : Int32 → Prop}, q 1 → wpY_valid q (pc, fl, pr, ss, dp, 0, 0, nI L, tl, cd, rY, rg, sp, wt, upd py 3 (-1), vc, ac, rc) v1 := fun hq => ys_val A1.2 (fun _ => hq) (fun z => (z hv).elim)
  refine br_c (fun a => br_t rfl (YV (br_f (by decide) (br_t a ⟨rfl, rl_0 g hh⟩)))) (fun a => br_c (fun b => ?_) (fun b => br_t rfl (YV (br_f (by decide) (br_f a (br_f b ⟨rfl, rl_0 g hh⟩))))))
  obtain ⟨i, iv, ei⟩ := hv
  have i24 := ar_v24 A1.2 iv
  subst ei
  have hin : vp_in (nI i) 24 := vp_in_nI i24.2 (by decide)
  by_cases i3 : i = 3
  · subst i3
    exact br_t rfl (And.intro hin (nm_e (br_t rfl (br_t rfl (YV (br_f (by decide) (br_f a (br_t b (br_t rfl (And.intro hin (nm_e (br_t rfl ⟨rfl, rl_0 g hh⟩))))))))))))
  · have n3 : ¬ nI i = 3 := fun z => i3 ((nI_eq (b := 3) (by omega) (by decide)).mp z)
    refine br_f n3 (br_c (fun c => br_t rfl (YV (br_f (by decide) (br_f a (br_t b (br_f n3 (br_t c ⟨rfl, rl_0 g hh⟩))))))) (fun c => br_c (fun d => ?_) (fun d => br_t rfl (YV (br_f (by decide) (br_f a (br_t b (br_f n3 (br_f c (br_f d ⟨rfl, rl_0 g hh⟩))))))))))
    obtain ⟨q, hq, eq⟩ := nI_of2 (n := 3) (by decide) c d
    subst eq
    obtain ⟨o, ho, eo, A'⟩ := ar_prio A iv i3 (show q < 4 by omega)
    obtain ⟨t, b2, E'⟩ := ar_ex pr D ac (upd (upd py i (nI q)) 3 (-1)) wt
    have g' : rl_G (nI L) tl dp nw pr pm am t b2 cd (upd py i (nI q)) (upd (upd lv o (lv o &&& (((1 : Int32) <<< (nI i &&& 31)) ^^^ (-1)))) q ((upd lv o (lv o &&& (((1 : Int32) <<< (nI i &&& 31)) ^^^ (-1)))) q ||| ((1 : Int32) <<< (nI i &&& 31)))) ac st wt rc := ⟨L, T, D, W, rfl, e2, e3, e4, g1, g2, A', E', g3, g4⟩
    refine And.intro hin (nm_e (br_f n3 (xs_prio i24.2 ho (by omega) eo A' E' ?_)))
    exact br_t rfl (YV (br_f (by decide) (br_f a (br_t b (br_f n3 (br_f c (br_t d (And.intro hin (nm_e (br_f n3 (And.intro hin (nm_r (e' := upd (upd py i (nI q)) 3 (-1)) (by rw [nI_clamp (by omega), up_cm py i3]) ⟨rfl, rl_0 g' hh⟩))))))))))))
end
section
/-! the calls that only read -/
theorem i_vc_phase {k : Nat} {u : SX} {v : SY} (I : i_Rel k u v) (hk : k + 4 ≤ 2050) : wpX_phase (fun r => wpY_phase (fun r' => r' = r ∧ i_Rel (k + 4) u v) v) u := by
  refine rl_el (P := fun u v => wpX_phase (fun r => wpY_phase (fun r' => r' = r ∧ i_Rel (k + 4) u v) v) u) ?_ I
  intro msp psp pc fl pr ss ph lf fb ln tl pm am th bs dp nw cd rm rg fr py vc lv ac st sp wt rc rY g hh f
  exact ⟨rfl, rl_in g hh f⟩
theorem i_vc_left {k : Nat} {u : SX} {v : SY} (I : i_Rel k u v) (hk : k + 4 ≤ 2050) : wpX_left (fun r => wpY_left (fun r' => r' = r ∧ i_Rel (k + 4) u v) v) u := by
  refine rl_el (P := fun u v => wpX_left (fun r => wpY_left (fun r' => r' = r ∧ i_Rel (k + 4) u v) v) u) ?_ I
  intro msp psp pc fl pr ss ph lf fb ln tl pm am th bs dp nw cd rm rg fr py vc lv ac st sp wt rc rY g hh f
  exact ⟨rfl, rl_in g hh f⟩
theorem i_vc_next {k : Nat} {u : SX} {v : SY} (I : i_Rel k u v) (hk : k + 4 ≤ 2050) : wpX_next (fun r => wpY_next (fun r' => r' = r ∧ i_Rel (k + 4) u v) v) u := by
  refine rl_el (P := fun u v => wpX_next (fun r => wpY_next (fun r' => r' = r ∧ i_Rel (k + 4) u v) v) u) ?_ I
  intro msp psp pc fl pr ss ph lf fb ln tl pm am th bs dp nw cd rm rg fr py vc lv ac st sp wt rc rY g hh f
  exact rl_nx (D := 0) g ⟨rfl, rl_in g hh f⟩
theorem i_vc_nest {k : Nat} {u : SX} {v : SY} (I : i_Rel k u v) (hk : k + 4 ≤ 2050) (v1 : Int32) : wpX_nest (fun r => wpY_nest (fun r' => r' = r ∧ i_Rel (k + 4) u v) v v1) u v1 := by
  refine rl_el (P := fun u v => wpX_nest (fun r => wpY_nest (fun r' => r' = r ∧ i_Rel (k + 4) u v) v v1) u v1) ?_ I
  intro msp psp pc fl pr ss ph lf fb ln tl pm am th bs dp nw cd rm rg fr py vc lv ac st sp wt rc rY g hh f
  refine br_c (fun a => br_t a ⟨rfl, rl_in g hh f⟩) (fun a => br_c (fun b => ?_) (fun b => br_f a (br_f b ⟨rfl, rl_in g hh f⟩)))
  obtain ⟨L, T, D, W, e1, e2, e3, e4, g1, g2, A, E, g3, g4⟩ := id g
  have A2 := A.2.1
  obtain ⟨j, hj, ej⟩ := nI_of a
  subst e3 ej
  have b' := (nI_ltI hj (by omega)).mp b
  obtain ⟨d, rfl⟩ : ∃ d, D = d + 1 := ⟨D - 1, by omega⟩
  have e : nI (d + 1) - 1 - nI j = nI (d - j) := by rw [nI_pred, pk_sub (by omega)]
  have e15 : nI (d - j) &&& 15 = nI (d - j) := by rw [da_15 (by omega), Nat.mod_eq_of_lt (by omega)]
  rw [e, e15]
  refine And.intro (in16 (by omega)) (br_f a (br_t b ?_))
  rw [e]
  exact And.intro (in16 (by omega)) ⟨rfl, rl_in g hh f⟩
theorem i_vc_pending {k : Nat} {u : SX} {v : SY} (I : i_Rel k u v) (hk : k + 4 ≤ 2050) (v1 : Int32) : wpX_pending (fun r => wpY_pending (fun r' => r' = r ∧ i_Rel (k + 4) u v) v v1) u v1 := by
  refine rl_el (P := fun u v => wpX_pending (fun r => wpY_pending (fun r' => r' = r ∧ i_Rel (k + 4) u v) v v1) u v1) ?_ I
  intro msp psp pc fl pr ss ph lf fb ln tl pm am th bs dp nw cd rm rg fr py vc lv ac st sp wt rc rY g hh f
  obtain ⟨L, T, D, W, e1, e2, e3, e4, g1, g2, A, E, g3, g4⟩ := id g
  obtain ⟨A1, A2, A3, A4, A5, A6, A7, A8, A9⟩ := id A
  subst e1
  unfold wpX_pending wpY_pending
  refine xs_val A1.2 (fun hv => br_f (by decide) ?_) (fun hv => br_t rfl (ys_val A1.2 (fun z => (hv z).elim) (fun _ => br_t rfl ⟨rfl, rl_in g hh f⟩)))
  obtain ⟨i, iv, ei⟩ := id hv
  have i24 := ar_v24 A1.2 iv
  subst ei
  have hin : vp_in (nI i) 24 := vp_in_nI i24.2 (by decide)
  have hw := ar_w A i24.2
  cases hb : bt pm i
  · refine br_t ((bz_sh pm (by omega)).mpr hb) (ys_val A1.2 (fun _ => br_f (by decide) (And.intro hin ?_)) (fun z => (z hv).elim))
    rw [nI_clamp (by omega)]
    exact br_t (Classical.not_not.mp (fun z => by rw [hw.mp z] at hb; exact nomatch hb)) ⟨rfl, rl_in g hh f⟩
  · refine br_f (fun z => by rw [(bz_sh pm (by omega)).mp z] at hb; exact nomatch hb) (ys_val A1.2 (fun _ => br_f (by decide) (And.intro hin ?_)) (fun z => (z hv).elim))
    rw [nI_clamp (by omega)]
    exact br_f (hw.mpr hb) ⟨rfl, rl_in g hh f⟩
theorem i_vc_setup {k : Nat} {u : SX} {v : SY} (I : i_Rel k u v) (hk : k + 4 ≤ 2050) (v1 : Int32) : wpX_setup (fun r => wpY_setup (fun r' => r' = r ∧ i_Rel (k + 4) u v) v v1) u v1 := by
  refine rl_el (P := fun u v => wpX_setup (fun r => wpY_setup (fun r' => r' = r ∧ i_Rel (k + 4) u v) v v1) u v1) ?_ I
  intro msp psp pc fl pr ss ph lf fb ln tl pm am th bs dp nw cd rm rg fr py vc lv ac st sp wt rc rY g hh f
  obtain ⟨L, T, D, W, e1, e2, e3, e4, g1, g2, A, E, g3, g4⟩ := id g
  obtain ⟨A1, A2, A3, A4, A5, A6, A7, A8, A9⟩ := id A
  subst e1
  unfold wpX_setup wpY_setup
  refine xs_val A1.2 (fun hv => br_f (by decide) ?_) (fun hv => br_t rfl (ys_val A1.2 (fun z => (hv z).elim) (fun _ => br_t rfl ⟨rfl, rl_in g hh f⟩)))
  obtain ⟨i, iv, ei⟩ := id hv
  have i24 := ar_v24 A1.2 iv
  subst ei
  have hin : vp_in (nI i) 24 := vp_in_nI i24.2 (by decide)
  by_cases i3 : i = 3
  · subst i3
    exact br_t rfl (ys_val A1.2 (fun _ => br_f (by decide) (br_t rfl ⟨rfl, rl_in g hh f⟩)) (fun z => (z hv).elim))
  · have n3 : ¬ nI i = 3 := fun z => i3 ((nI_eq (b := 3) (by omega) (by decide)).mp z)
    refine br_f n3 (And.intro hin (And.intro hin (ys_val A1.2 (fun _ => br_f (by decide) (br_f n3 (And.intro hin (And.intro hin ⟨?_, rl_in g hh f⟩)))) (fun z => (z hv).elim))))
    rw [nI_clamp (by omega), pk_un i3]
theorem hx_7 {W i : Nat} (hW : W < 8) (hi : i < 8) : (nI W - nI i) &&& 7 = nI ((W + 8 - i) % 8) := by
  have e : nI W = nI (W + 4294967296) := dx_inj (by omega)
  rw [e, pk_sub (by omega), pk_and _ 3 (by decide), dx_tn]
  exact congrArg nI (by omega)
theorem hx_63 {W i : Nat} (hW : W < 64) (hi : i < 64) : (nI W - nI i) &&& 63 = nI ((W + 64 - i) % 64) := by
  have e : nI W = nI (W + 4294967296) := dx_inj (by omega)
  rw [e, pk_sub (by omega), pk_and _ 6 (by decide), dx_tn]
  exact congrArg nI (by omega)
theorem i_vc_history {k : Nat} {u : SX} {v : SY} (I : i_Rel k u v) (hk : k + 4 ≤ 2050) (v1 : Int32) : wpX_history (fun r => wpY_history (fun r' => r' = r ∧ i_Rel (k + 4) u v) v v1) u v1 := by
  refine rl_el (P := fun u v => wpX_history (fun r => wpY_history (fun r' => r' = r ∧ i_Rel (k + 4) u v) v v1) u v1) ?_ I
  intro msp psp pc fl pr ss ph lf fb ln tl pm am th bs dp nw cd rm rg fr py vc lv ac st sp wt rc rY g hh f
  refine br_c (fun a => br_t a ⟨rfl, rl_in g hh f⟩) (fun a => br_c (fun b => ?_) (fun b => br_f a (br_f b ⟨rfl, rl_in g hh f⟩)))
  obtain ⟨L, T, D, W, e1, e2, e3, e4, g1, g2, A, E, g3, g4⟩ := id g
  obtain ⟨i, hi, ei⟩ := nI_of2 (n := 7) (by decide) a b
  subst e4 ei
  refine And.intro (ia_78 _) (br_f a (br_t b (And.intro (vp_in_nI (by omega) (by decide)) ⟨?_, rl_in g hh f⟩)))
  rw [hx_7 g2 (by omega), nI_clamp (by omega), nI_clamp (by omega), g3 i (by omega)]
theorem i_vc_peek {k : Nat} {u : SX} {v : SY} (I : i_Rel k u v) (hk : k + 4 ≤ 2050) (v1 : Int32) : wpX_peek (fun r => wpY_peek (fun r' => r' = r ∧ i_Rel (k + 4) u v) v v1) u v1 := by
  refine rl_el (P := fun u v => wpX_peek (fun r => wpY_peek (fun r' => r' = r ∧ i_Rel (k + 4) u v) v v1) u v1) ?_ I
  intro msp psp pc fl pr ss ph lf fb ln tl pm am th bs dp nw cd rm rg fr py vc lv ac st sp wt rc rY g hh f
  refine br_c (fun a => br_t a ⟨rfl, rl_in g hh f⟩) (fun a => br_c (fun b => ?_) (fun b => br_f a (br_f b ⟨rfl, rl_in g hh f⟩)))
  obtain ⟨i, hi, ei⟩ := nI_of2 (n := 191) (by decide) a b
  subst ei
  by_cases c : i ≤ 63
  · have c1 : nI i ≤ 63 := nI_le (b := 63) c (by decide)
    have c2 : ¬ (64 : Int32) ≤ nI i := nI_ge (b := 64) (by omega) (by decide)
    have hin : vp_in (nI i) 64 := vp_in_nI (by omega) (by decide)
    have R := rl_in (vc := vc) (pc := pc) (fl := fl) g hh f
    have Y : ∀ r, rY i = r → wpY_peek (fun r' => r' = r ∧ i_Rel (k + 4) (msp, psp, pc, fl, pr, ss, ph, lf, fb, ln, tl, pm, am, th, bs, dp, nw, cd, rm, rg, fr, py, vc, lv, ac, st) (pc, fl, pr, ss, dp, ph, lf, ln, tl, cd, rY, rg, sp, wt, upd py 3 (-1), vc, ac, rc)) (pc, fl, pr, ss, dp, ph, lf, ln, tl, cd, rY, rg, sp, wt, upd py 3 (-1), vc, ac, rc) (nI i) := by
      intro r hr
      refine br_f a (br_t b (br_f c2 (And.intro hin ⟨?_, R⟩)))
      rw [nI_clamp (by omega)]
      exact hr
    refine br_t c1 (nm_e ?_)
    rcases f with ⟨e1, e2, e3⟩ | ⟨e1, hb, l, q, h1, h8, hq, e2, e3, e4⟩ | ⟨e1, hb, _, e3⟩ | ⟨e1, e3, _⟩ | ⟨e1, e2, e3⟩
    · refine br_f (by rw [e1]; decide) (And.intro hin (Y _ ?_))
      rw [nI_clamp (by omega), e3]
    · have eo : (nI i - fb) &&& 63 = nI ((i + 64 - q) % 64) := by rw [e3, hx_63 (by omega) hq]
      have el : 8 - lf = nI (8 - l) := by
        rw [e2]
        exact pk_sub (a := 8) h8
      rw [eo, el]
      have hov : rY i = if i < 64 ∧ (i + 64 - q) % 64 < 8 ∧ 8 - l ≤ (i + 64 - q) % 64 then fr ((i + 64 - q) % 64) else rm i := by rw [e4]; rfl
      refine br_t e1 ?_
      by_cases o8 : 8 ≤ (i + 64 - q) % 64
      · refine br_t (nI_le (a := 8) o8 (by omega)) (And.intro hin (Y _ ?_))
        rw [nI_clamp (by omega), hov, if_neg (by omega)]
      · refine br_f (nI_ge (b := 8) (by omega) (by decide)) ?_
        by_cases ol : (i + 64 - q) % 64 < 8 - l
        · refine br_t (nI_lt ol (by omega)) (And.intro hin (Y _ ?_))
          rw [nI_clamp (by omega), hov, if_neg (by omega)]
        · refine br_f (nI_nlt (by omega) (by omega)) (And.intro (vp_in_nI (by omega) (by decide)) (Y _ ?_))
          rw [nI_clamp (by omega), hov, if_pos (by omega)]
    · refine br_f (by rw [e1]; decide) (And.intro hin (Y _ ?_))
      rw [nI_clamp (by omega), e3]
    · refine br_f (by rw [e1]; decide) (And.intro hin (Y _ ?_))
      rw [nI_clamp (by omega), e3]
    · refine br_f (by rw [e1]; decide) (And.intro hin (Y _ ?_))
      rw [nI_clamp (by omega), e3]
  · have c1 : ¬ nI i ≤ 63 := nI_ge (a := 63) (by omega) (by omega)
    have c2 : (64 : Int32) ≤ nI i := nI_le (a := 64) (by omega) (by omega)
    have hin : vp_in (nI i - 64) 128 := by
      rw [show nI i - 64 = nI (i - 64) from pk_sub (b := 64) (by omega)]
      exact vp_in_nI (by omega) (by decide)
    exact br_f c1 (And.intro hin (br_f a (br_t b (br_t c2 (And.intro hin ⟨rfl, rl_in g hh f⟩)))))
theorem i_vc_reg {k : Nat} {u : SX} {v : SY} (I : i_Rel k u v) (hk : k + 4 ≤ 2050) (v1 : Int32) : wpX_reg (fun r => wpY_reg (fun r' => r' = r ∧ i_Rel (k + 4) u v) v v1) u v1 := by
  refine rl_el (P := fun u v => wpX_reg (fun r => wpY_reg (fun r' => r' = r ∧ i_Rel (k + 4) u v) v v1) u v1) ?_ I
  intro msp psp pc fl pr ss ph lf fb ln tl pm am th bs dp nw cd rm rg fr py vc lv ac st sp wt rc rY g hh f
  have R := rl_in (vc := vc) (pc := pc) (fl := fl) g hh f
  obtain ⟨_, _, hs0, hs1, _⟩ := id hh
  by_cases a : v1 < 0
  · have n : ∀ c : Nat, c < 100 → ¬ v1 = nI c := fun c hc e => by
      rw [e] at a
      exact nI_pos (by omega) a
    have n13 : v1 < 13 := ar_lt a (by decide)
    exact br_t a (br_t n13 (br_f (n 13 (by decide)) (br_f (n 16 (by decide)) (br_f (n 15 (by decide)) (br_f (n 17 (by decide)) (br_f (n 18 (by decide)) (br_f (n 19 (by decide)) (br_t a ⟨rfl, R⟩))))))))
  · obtain ⟨j, hj, ej⟩ := nI_of a
    subst ej
    have n : ∀ c : Nat, c < 100 → j ≠ c → ¬ nI j = nI c := fun c hc h e => h ((nI_eq hj (by omega)).mp e)
    by_cases h12 : j ≤ 12
    · have hin : vp_in (nI j) 16 := in16 (by omega)
      exact br_f a (br_f (nI_nlt (a := 12) (by omega) (by decide)) (And.intro hin (br_f (n 13 (by decide) (by omega)) (br_f (n 16 (by decide) (by omega)) (br_f (n 15 (by decide) (by omega)) (br_f (n 17 (by decide) (by omega)) (br_f (n 18 (by decide) (by omega)) (br_f (n 19 (by decide) (by omega)) (br_f a (br_f (nI_nlt (a := 14) (by omega) (by decide)) (And.intro hin ⟨rfl, R⟩)))))))))))
    · refine br_f a (br_t (nI_lt (a := 12) (by omega) hj) (br_f (nI_nlt (b := 13) (by omega) hj) ?_))
      by_cases h19 : 19 < j
      · exact br_t (nI_lt (a := 19) h19 hj) (br_f (n 13 (by decide) (by omega)) (br_f (n 16 (by decide) (by omega)) (br_f (n 15 (by decide) (by omega)) (br_f (n 17 (by decide) (by omega)) (br_f (n 18 (by decide) (by omega)) (br_f (n 19 (by decide) (by omega)) (br_f a (br_t (nI_lt (a := 14) (by omega) hj) ⟨rfl, R⟩))))))))
      · refine br_f (nI_nlt (a := 19) (by omega) (by decide)) ?_
        rcases (by omega : j = 13 ∨ j = 14 ∨ j = 15 ∨ j = 16 ∨ j = 17 ∨ j = 18 ∨ j = 19) with e | e | e | e | e | e | e <;> subst e
        · exact br_t (by decide) (br_t (by decide) (br_t (by decide) ⟨hs0, R⟩))
        · exact br_f (by decide) (br_t (by decide) (br_f (by decide) (br_f (by decide) (br_f (by decide) (br_f (by decide) (br_f (by decide) (br_f (by decide) (br_f (by decide) (br_f (by decide) (And.intro (vp_in_iff.mpr (by decide)) ⟨rfl, R⟩))))))))))
        · exact br_f (by decide) (br_f (by decide) (br_t (by decide) (br_f (by decide) (br_f (by decide) (br_t (by decide) (br_t (by decide) ⟨rfl, R⟩))))))
        · exact br_f (by decide) (br_f (by decide) (br_f (by decide) (br_t (by decide) (br_f (by decide) (br_t (by decide) (br_f (by decide) ⟨hs1, R⟩))))))
        · exact br_f (by decide) (br_f (by decide) (br_f (by decide) (br_f (by decide) (br_t (by decide) (br_f (by decide) (br_f (by decide) (br_f (by decide) (br_t (by decide) (br_f (by decide) ⟨rfl, R⟩)))))))))
        · exact br_f (by decide) (br_f (by decide) (br_f (by decide) (br_f (by decide) (br_f (by decide) (br_t (by decide) (br_f (by decide) (br_f (by decide) (br_f (by decide) (br_f (by decide) (br_t (by decide) (br_t (by decide) ⟨rfl, R⟩)))))))))))
        · exact br_f (by decide) (br_f (by decide) (br_f (by decide) (br_f (by decide) (br_f (by decide) (br_f (by decide) (br_t (by decide) (br_f (by decide) (br_f (by decide) (br_f (by decide) (br_f (by decide) (br_f (by decide) (br_t (by decide) (br_f (by decide) ⟨rfl, R⟩)))))))))))))
end
